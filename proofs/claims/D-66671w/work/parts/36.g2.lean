theorem nr40 {σ : sg_T} (hw : WF σ) {e : Nat} (he : e < 3) : nr σ e ≤ 40 := by have := hw.2.2.2.2.2.1 e he; unfold nr; omega
section RefEq
variable {G : gt_T} {h : ab_H} {xa : Nat → Nat} {na la : List Nat} {σ : sg_T}
theorem se_ed (C : CR G h xa na la σ) {e f : Nat} (he : e < 3) (hf : f < 3) : (some (xa (5 + e)) = some (xa (5 + f))) ↔ e = f := by
  rw [Option.some_inj]; exact ed_eq C he hf
theorem se_row (C : CR G h xa na la σ) (hw : WF σ) {e i f j : Nat} (he : e < 3) (hi : i < nr σ e) (hf : f < 3) (hj : j < nr σ f) : (some (xa (rt e i 0)) = some (xa (rt f j 0))) ↔ (e = f ∧ i = j) := by
  rw [Option.some_inj]; exact row_eq C hw he hi hf hj
end RefEq
theorem code_eq {σ : sg_T} (hw : WF σ) {e i f j : Nat} (he : e < 3) (hi : i < nr σ e) (hf : f < 3) (hj : j < nr σ f) : ((f : Int) = (e : Int) ∧ gd (σ.2 7) (40 * f + j) = gd (σ.2 7) (40 * e + i)) ↔ (f = e ∧ j = i) := by
  constructor
  · rintro ⟨h1, h2⟩
    have : f = e := by omega
    subst this
    exact ⟨rfl, hw.2.2.2.2.2.2.2.1 f j i hf hj hi h2⟩
  · rintro ⟨rfl, rfl⟩; exact ⟨rfl, rfl⟩
theorem isl_ok {σ : sg_T} (hw : WF σ) {k e i f le li lf : Nat} (he : e < 3) (hi : i < nr σ e) (hle : le < 3) (hli : li < nr σ le) (h17 : gd (σ.2 17) k = (le : Int)) (h18 : gd (σ.2 18) k = gd (σ.2 7) (40 * le + li)) (h19 : gd (σ.2 19) k = (lf : Int)) : isl σ (e : Int) (gd (σ.2 7) (40 * e + i)) (f : Int) k = true ↔ ((le = e ∧ li = i) ∧ lf = f) := by
  unfold isl
  rw [h17, h18, h19]
  simp only [Bool.and_eq_true, beq_iff_eq]
  rw [code_eq hw he hi hle hli]
  constructor
  · rintro ⟨h1, h2⟩; exact ⟨h1, by omega⟩
  · rintro ⟨h1, rfl⟩; exact ⟨h1, rfl⟩
theorem nq_ok {σ : sg_T} (hw : WF σ) {k e i ne ni : Nat} (he : e < 3) (hi : i < nr σ e) (hne : ne < 3) (hni : ni < nr σ ne) (h12 : gd (σ.2 12) k = (ne : Int)) (h13 : gd (σ.2 13) k = gd (σ.2 7) (40 * ne + ni)) : nq σ e (gd (σ.2 7) (40 * e + i)) k = true ↔ (ne = e ∧ ni = i) := by
  unfold nq
  rw [h12, h13]
  simp only [Bool.and_eq_true, beq_iff_eq]
  exact code_eq hw he hi hne hni
theorem b_f {b : Bool} {p : Prop} (h : b = true ↔ p) (hn : ¬ p) : b = false := by cases b with
  | false => rfl
  | true => exact absurd (h.mp rfl) hn
set_option maxHeartbeats 2000000 in
theorem c_g_notesOf (G : gt_T) (h : ab_H) (xa : Nat → Nat) (na la : List Nat) (σ : sg_T) (C : CR G h xa na la σ) (hw : WF σ) (e : Nat) (he : e < 3) : ct G M_g_notesOf 3 64 0 0 [vA (xa 1), vA (xa (5 + e))] h (rI fun z h' => h = h' ∧ z = (nof σ (e : Int) : Int)) nT := by
  show ev _ _ _ _ _ _ 0 [some (vA (xa 1)), some (vA (xa (5 + e))), none, none] [] _ _ _
  have hnn := cr_nn C
  have hw11 := hw.2.2.1
  have hnl : na.length ≤ 20 := by omega
  have loop : ∀ (fu : Nat) (k : Nat) (n : Int), (k ≤ na.length) → (n = (cnt (fun k => gd (σ.2 12) k == (e : Int)) k : Int)) → na.length - k < fu → ev G M_g_notesOf 3 64 0 0 4 [some (vA (xa 1)), some (vA (xa (5 + e))), some (vI n), some (vI (k : Int))] [] h (rI fun z h' => h = h' ∧ z = (nof σ (e : Int) : Int)) nT := by
    intro fu
    induction fu with
    | zero => intros; omega
    | succ fu ih =>
      intro k n h1 h2 hn
      have hc := cnt_le (fun k => gd (σ.2 12) k == (e : Int)) k
      refine ev_il (k_g_notesOf 4 rfl) rfl ?_
      refine ev_al (k_g_notesOf 5 rfl) rfl ?_
      refine ev_get (v := vA (xa 20)) (k_g_notesOf 6 rfl) (cr_x C) rfl ?_
      obtain ⟨fs81, ho81⟩ := AL_recv (cr_nl C)
      refine ev_cV (k_g_notesOf 7 rfl) rfl v_al_size ho81 rfl (c_al_size G _ _ _ _ (cr_nl C)) rfl (le_b rfl) (le_b rfl) (le_b rfl) k_n (k_I fun z81 h81 q81 => ?_)
      obtain ⟨rfl, rfl⟩ := q81
      refine ev_ic_ge (k_g_notesOf 8 rfl) (fun c82 => ?_) (fun c82 => ?_)
      · refine ev_il (k_g_notesOf 25 rfl) rfl ?_
        exact ev_iret (k_g_notesOf 26 rfl) rfl (⟨_, rfl, rfl, by rw [h2]; unfold nof; rw [show (σ.1 11).toNat = k by omega]⟩)
      · refine ev_il (k_g_notesOf 9 rfl) rfl ?_
        refine ev_al (k_g_notesOf 10 rfl) rfl ?_
        refine ev_get (v := vA (xa 20)) (k_g_notesOf 11 rfl) (cr_x C) rfl ?_
        refine ev_il (k_g_notesOf 12 rfl) rfl ?_
        obtain ⟨fs83, ho83⟩ := AL_recv (cr_nl C)
        refine ev_cV (k_g_notesOf 13 rfl) rfl v_al_get ho83 rfl (c_al_get G _ _ _ _ (cr_nl C) k (by omega)) rfl (le_b rfl) (le_b rfl) (le_b rfl) k_n (k_R fun z83 h83 q83 => ?_)
        obtain ⟨rfl, rfl⟩ := q83
        obtain ⟨ne84, ni84, nj84, hne84, hni84, hnj84, n1284, n1384, n1584, hno84⟩ := cr_no C k (by omega)
        have hnb84 := nr40 hw hne84
        refine ev_chk (k_g_notesOf 14 rfl) hno84 ?_
        refine ev_get (v := vA (xa (5 + ne84))) (k_g_notesOf 15 rfl) hno84 rfl ?_
        refine ev_al (k_g_notesOf 16 rfl) rfl ?_
        refine ev_ac_ne (k_g_notesOf 17 rfl) (fun c85 => ?_) (fun c85 => ?_)
        · rw [ne_eq, se_ed C (by omega) (by omega)] at c85
          refine ev_ic (k_g_notesOf 20 rfl) ?_
          refine ev_iadd (k_g_notesOf 21 rfl) (by omega) ?_
          refine ev_is (k_g_notesOf 22 rfl) (le_b rfl) (show ev _ _ _ _ _ _ 41 [some (vA (xa 1)), some (vA (xa (5 + e))), some (vI (n + 0)), some (vI (k : Int))] _ _ _ _ from ?_)
          refine ev_iinc (k_g_notesOf 23 rfl) rfl (by omega) (show ev _ _ _ _ _ _ 44 [some (vA (xa 1)), some (vA (xa (5 + e))), some (vI (n + 0)), some (vI ((k : Int) + 1))] _ _ _ _ from ?_)
          refine ev_goto (k_g_notesOf 24 rfl) ?_
          rw [show (k : Int) + 1 = ((k + 1 : Nat) : Int) by omega]
          exact ih (k + 1) _ (by omega) (by rw [cnt_f (bq_f (by rw [n1284]; omega)), h2]) (by omega)
        · rw [se_ed C (by omega) (by omega)] at c85
          refine ev_ic (k_g_notesOf 18 rfl) ?_
          refine ev_goto (k_g_notesOf 19 rfl) ?_
          refine ev_iadd (k_g_notesOf 21 rfl) (by omega) ?_
          refine ev_is (k_g_notesOf 22 rfl) (le_b rfl) (show ev _ _ _ _ _ _ 41 [some (vA (xa 1)), some (vA (xa (5 + e))), some (vI (n + 1)), some (vI (k : Int))] _ _ _ _ from ?_)
          refine ev_iinc (k_g_notesOf 23 rfl) rfl (by omega) (show ev _ _ _ _ _ _ 44 [some (vA (xa 1)), some (vA (xa (5 + e))), some (vI (n + 1)), some (vI ((k : Int) + 1))] _ _ _ _ from ?_)
          refine ev_goto (k_g_notesOf 24 rfl) ?_
          rw [show (k : Int) + 1 = ((k + 1 : Nat) : Int) by omega]
          exact ih (k + 1) _ (by omega) (by rw [cnt_t (bq_t (by rw [n1284]; omega)), h2]) (by omega)
  refine ev_ic (k_g_notesOf 0 rfl) ?_
  refine ev_is (k_g_notesOf 1 rfl) (le_b rfl) (show ev _ _ _ _ _ _ 2 [some (vA (xa 1)), some (vA (xa (5 + e))), some (vI 0), none] _ _ _ _ from ?_)
  refine ev_ic (k_g_notesOf 2 rfl) ?_
  refine ev_is (k_g_notesOf 3 rfl) (le_b rfl) (show ev _ _ _ _ _ _ 4 [some (vA (xa 1)), some (vA (xa (5 + e))), some (vI 0), some (vI 0)] _ _ _ _ from ?_)
  exact loop (na.length + 1) 0 0 (by omega) rfl (by omega)
set_option maxHeartbeats 2000000 in
theorem c_g_linksOf (G : gt_T) (h : ab_H) (xa : Nat → Nat) (na la : List Nat) (σ : sg_T) (C : CR G h xa na la σ) (hw : WF σ) (e i f : Nat) (he : e < 3) (hi : i < nr σ e) (hf : f < 3)  : ct G M_g_linksOf 3 64 0 0 [vA (xa 1), vA (xa (rt e i 0)), vA (xa (5 + f))] h (rI fun z h' => h = h' ∧ z = (lof σ (e : Int) (gd (σ.2 7) (40 * e + i)) (f : Int) : Int)) nT := by
  show ev _ _ _ _ _ _ 0 [some (vA (xa 1)), some (vA (xa (rt e i 0))), some (vA (xa (5 + f))), none, none] [] _ _ _
  have hln := cr_ln C
  have hw16 := hw.2.2.2.1
  have hll : la.length ≤ 60 := by omega
  have loop : ∀ (fu : Nat) (k : Nat) (n : Int), (k ≤ la.length) → (n = (cnt (isl σ (e : Int) (gd (σ.2 7) (40 * e + i)) (f : Int)) k : Int)) → la.length - k < fu → ev G M_g_linksOf 3 64 0 0 5 [some (vA (xa 1)), some (vA (xa (rt e i 0))), some (vA (xa (5 + f))), some (vI n), some (vI (k : Int))] [] h (rI fun z h' => h = h' ∧ z = (lof σ (e : Int) (gd (σ.2 7) (40 * e + i)) (f : Int) : Int)) nT := by
    intro fu
    induction fu with
    | zero => intros; omega
    | succ fu ih =>
      intro k n h1 h2 hn
      have hc := cnt_le (isl σ (e : Int) (gd (σ.2 7) (40 * e + i)) (f : Int)) k
      refine ev_ilw (k_g_linksOf 4 rfl) rfl ?_
      refine ev_al (k_g_linksOf 5 rfl) rfl ?_
      refine ev_get (v := vA (xa 22)) (k_g_linksOf 6 rfl) (cr_x C) rfl ?_
      obtain ⟨fs86, ho86⟩ := AL_recv (cr_ll C)
      refine ev_cV (k_g_linksOf 7 rfl) rfl v_al_size ho86 rfl (c_al_size G _ _ _ _ (cr_ll C)) rfl (le_b rfl) (le_b rfl) (le_b rfl) k_n (k_I fun z86 h86 q86 => ?_)
      obtain ⟨rfl, rfl⟩ := q86
      refine ev_ic_ge (k_g_linksOf 8 rfl) (fun c87 => ?_) (fun c87 => ?_)
      · refine ev_il (k_g_linksOf 33 rfl) rfl ?_
        exact ev_iret (k_g_linksOf 34 rfl) rfl (⟨_, rfl, rfl, by rw [h2]; unfold lof; rw [show (σ.1 16).toNat = k by omega]⟩)
      · refine ev_il (k_g_linksOf 9 rfl) rfl ?_
        refine ev_al (k_g_linksOf 10 rfl) rfl ?_
        refine ev_get (v := vA (xa 22)) (k_g_linksOf 11 rfl) (cr_x C) rfl ?_
        refine ev_ilw (k_g_linksOf 12 rfl) rfl ?_
        obtain ⟨fs88, ho88⟩ := AL_recv (cr_ll C)
        refine ev_cV (k_g_linksOf 13 rfl) rfl v_al_get ho88 rfl (c_al_get G _ _ _ _ (cr_ll C) k (by omega)) rfl (le_b rfl) (le_b rfl) (le_b rfl) k_n (k_R fun z88 h88 q88 => ?_)
        obtain ⟨rfl, rfl⟩ := q88
        obtain ⟨le89, li89, lf89, lj89, hle89, hlf89, hlne89, hli89, hlj89, l1789, l1889, l1989, l2089, hlo89⟩ := cr_lk C k (by omega)
        have hlb89 := nr40 hw hle89
        have hlc89 := nr40 hw hlf89
        refine ev_chk (k_g_linksOf 14 rfl) hlo89 ?_
        refine ev_get (v := vA (xa (rt le89 li89 0))) (k_g_linksOf 15 rfl) hlo89 rfl ?_
        refine ev_al (k_g_linksOf 16 rfl) rfl ?_
        refine ev_ac_ne (k_g_linksOf 17 rfl) (fun c90 => ?_) (fun c90 => ?_)
        · rw [ne_eq, se_row C hw (by omega) (by omega) (by omega) (by omega)] at c90
          refine ev_ic (k_g_linksOf 28 rfl) ?_
          refine ev_iadd (k_g_linksOf 29 rfl) (by omega) ?_
          refine ev_is (k_g_linksOf 30 rfl) (le_b rfl) (show ev _ _ _ _ _ _ 63 [some (vA (xa 1)), some (vA (xa (rt e i 0))), some (vA (xa (5 + f))), some (vI (n + 0)), some (vI (k : Int))] _ _ _ _ from ?_)
          refine ev_iinc (k_g_linksOf 31 rfl) rfl (by omega) (show ev _ _ _ _ _ _ 66 [some (vA (xa 1)), some (vA (xa (rt e i 0))), some (vA (xa (5 + f))), some (vI (n + 0)), some (vI ((k : Int) + 1))] _ _ _ _ from ?_)
          refine ev_goto (k_g_linksOf 32 rfl) ?_
          rw [show (k : Int) + 1 = ((k + 1 : Nat) : Int) by omega]
          exact ih (k + 1) _ (by omega) (by rw [cnt_f (b_f (isl_ok hw (f := f) he hi hle89 hli89 l1789 l1889 l1989) (by omega)), h2]) (by omega)
        · rw [se_row C hw (by omega) (by omega) (by omega) (by omega)] at c90
          refine ev_al (k_g_linksOf 18 rfl) rfl ?_
          refine ev_get (v := vA (xa 22)) (k_g_linksOf 19 rfl) (cr_x C) rfl ?_
          refine ev_ilw (k_g_linksOf 20 rfl) rfl ?_
          obtain ⟨fs91, ho91⟩ := AL_recv (cr_ll C)
          refine ev_cV (k_g_linksOf 21 rfl) rfl v_al_get ho91 rfl (c_al_get G _ _ _ _ (cr_ll C) k (by omega)) rfl (le_b rfl) (le_b rfl) (le_b rfl) k_n (k_R fun z91 h91 q91 => ?_)
          obtain ⟨rfl, rfl⟩ := q91
          refine ev_chk (k_g_linksOf 22 rfl) hlo89 ?_
          refine ev_get (v := vA (xa (5 + lf89))) (k_g_linksOf 23 rfl) hlo89 rfl ?_
          refine ev_al (k_g_linksOf 24 rfl) rfl ?_
          refine ev_ac_ne (k_g_linksOf 25 rfl) (fun c92 => ?_) (fun c92 => ?_)
          · rw [ne_eq, se_ed C (by omega) (by omega)] at c92
            refine ev_ic (k_g_linksOf 28 rfl) ?_
            refine ev_iadd (k_g_linksOf 29 rfl) (by omega) ?_
            refine ev_is (k_g_linksOf 30 rfl) (le_b rfl) (show ev _ _ _ _ _ _ 63 [some (vA (xa 1)), some (vA (xa (rt e i 0))), some (vA (xa (5 + f))), some (vI (n + 0)), some (vI (k : Int))] _ _ _ _ from ?_)
            refine ev_iinc (k_g_linksOf 31 rfl) rfl (by omega) (show ev _ _ _ _ _ _ 66 [some (vA (xa 1)), some (vA (xa (rt e i 0))), some (vA (xa (5 + f))), some (vI (n + 0)), some (vI ((k : Int) + 1))] _ _ _ _ from ?_)
            refine ev_goto (k_g_linksOf 32 rfl) ?_
            rw [show (k : Int) + 1 = ((k + 1 : Nat) : Int) by omega]
            exact ih (k + 1) _ (by omega) (by rw [cnt_f (b_f (isl_ok hw (f := f) he hi hle89 hli89 l1789 l1889 l1989) (by omega)), h2]) (by omega)
          · rw [se_ed C (by omega) (by omega)] at c92
            refine ev_ic (k_g_linksOf 26 rfl) ?_
            refine ev_goto (k_g_linksOf 27 rfl) ?_
            refine ev_iadd (k_g_linksOf 29 rfl) (by omega) ?_
            refine ev_is (k_g_linksOf 30 rfl) (le_b rfl) (show ev _ _ _ _ _ _ 63 [some (vA (xa 1)), some (vA (xa (rt e i 0))), some (vA (xa (5 + f))), some (vI (n + 1)), some (vI (k : Int))] _ _ _ _ from ?_)
            refine ev_iinc (k_g_linksOf 31 rfl) rfl (by omega) (show ev _ _ _ _ _ _ 66 [some (vA (xa 1)), some (vA (xa (rt e i 0))), some (vA (xa (5 + f))), some (vI (n + 1)), some (vI ((k : Int) + 1))] _ _ _ _ from ?_)
            refine ev_goto (k_g_linksOf 32 rfl) ?_
            rw [show (k : Int) + 1 = ((k + 1 : Nat) : Int) by omega]
            exact ih (k + 1) _ (by omega) (by rw [cnt_t ((isl_ok hw (f := f) he hi hle89 hli89 l1789 l1889 l1989).mpr (by omega)), h2]) (by omega)
  refine ev_ic (k_g_linksOf 0 rfl) ?_
  refine ev_is (k_g_linksOf 1 rfl) (le_b rfl) (show ev _ _ _ _ _ _ 2 [some (vA (xa 1)), some (vA (xa (rt e i 0))), some (vA (xa (5 + f))), some (vI 0), none] _ _ _ _ from ?_)
  refine ev_ic (k_g_linksOf 2 rfl) ?_
  refine ev_isw (k_g_linksOf 3 rfl) (le_b rfl) (show ev _ _ _ _ _ _ 5 [some (vA (xa 1)), some (vA (xa (rt e i 0))), some (vA (xa (5 + f))), some (vI 0), some (vI 0)] _ _ _ _ from ?_)
  exact loop (la.length + 1) 0 0 (by omega) rfl (by omega)
theorem cou_1 {σ : sg_T} {w : Int} (h : 10 ≤ w ∧ w ≤ 12) : cou σ w = gd (σ.2 6) (w - 10).toNat := by unfold cou; rw [if_neg (by omega), if_pos h]
theorem cou_2 {σ : sg_T} {w : Int} (h : 20 ≤ w ∧ w ≤ 22) : cou σ w = (chp σ (w - 20).toNat : Int) := by unfold cou; rw [if_pos h]
theorem nr_int {σ : sg_T} (hw : WF σ) {e : Nat} (he : e < 3) : ((nr σ e : Nat) : Int) = gd (σ.2 6) e := by have := hw.2.2.2.2.2.1 e he; unfold nr; omega
set_option maxHeartbeats 2000000 in
theorem c_g_count (G : gt_T) (h : ab_H) (xa : Nat → Nat) (na la : List Nat) (σ : sg_T) (C : CR G h xa na la σ) (hw : WF σ) (w : Int) : ct G M_g_count 4 86 0 0 [vA (xa 1), vI w] h (rI fun z h' => h = h' ∧ z = cou σ w) nT := by
  show ev _ _ _ _ _ _ 0 [some (vA (xa 1)), some (vI w)] [] _ _ _
  obtain ⟨at_, hrd⟩ := cr_rd C
  refine ev_loc 1 rfl (fun (okw : inI w) => ?_)
  refine ev_il (k_g_count 0 rfl) rfl ?_
  refine ev_bp (k_g_count 1 rfl) ?_
  refine ev_bp (k_g_count 2 rfl) ?_
  refine ev_cS (k_g_count 3 rfl) rfl v_g_in (c_g_in G _ w 10 12) rfl (le_b rfl) (le_b rfl) (le_b rfl) k_n (k_B fun z93 h93 q93 => ?_)
  obtain ⟨rfl, rfl⟩ := q93
  refine ev_b_eq (k_g_count 4 rfl) (fun c94 => ?_) (fun c94 => ?_)
  · have j94 := inb_f c94
    refine ev_il (k_g_count 14 rfl) rfl ?_
    refine ev_bp (k_g_count 15 rfl) ?_
    refine ev_bp (k_g_count 16 rfl) ?_
    refine ev_cS (k_g_count 17 rfl) rfl v_g_in (c_g_in G _ w 20 22) rfl (le_b rfl) (le_b rfl) (le_b rfl) k_n (k_B fun z95 h95 q95 => ?_)
    obtain ⟨rfl, rfl⟩ := q95
    refine ev_b_eq (k_g_count 18 rfl) (fun c96 => ?_) (fun c96 => ?_)
    · have j96 := inb_f c96
      refine ev_il (k_g_count 27 rfl) rfl ?_
      by_cases c97 : w = 0
      · refine ev_tsI (tgt := 88) s_g_count_52 (by omega) (by omega) (by rw [c97]; rfl) (by decide) ?_
        refine ev_al (k_g_count 28 rfl) rfl ?_
        refine ev_get (v := vA (xa 2)) (k_g_count 29 rfl) (cr_x C) rfl ?_
        refine ev_get (v := vI (σ.1 2)) (k_g_count 30 rfl) hrd rfl ?_
        exact ev_iret (k_g_count 31 rfl) rfl (⟨_, rfl, rfl, by unfold cou; simp [c94, c96, c97]⟩)
      · by_cases c98 : w = 1
        · refine ev_tsI (tgt := 96) s_g_count_52 (by omega) (by omega) (by rw [c98]; rfl) (by decide) ?_
          refine ev_al (k_g_count 32 rfl) rfl ?_
          refine ev_get (v := vI (σ.1 3)) (k_g_count 33 rfl) (cr_x C) rfl ?_
          exact ev_iret (k_g_count 34 rfl) rfl (⟨_, rfl, rfl, by unfold cou; simp [c94, c96, c97, c98]⟩)
        · by_cases c99 : w = 2
          · refine ev_tsI (tgt := 101) s_g_count_52 (by omega) (by omega) (by rw [c99]; rfl) (by decide) ?_
            refine ev_al (k_g_count 35 rfl) rfl ?_
            refine ev_get (v := vA (xa 20)) (k_g_count 36 rfl) (cr_x C) rfl ?_
            obtain ⟨fs100, ho100⟩ := AL_recv (cr_nl C)
            refine ev_cV (k_g_count 37 rfl) rfl v_al_size ho100 rfl (c_al_size G _ _ _ _ (cr_nl C)) rfl (le_b rfl) (le_b rfl) (le_b rfl) k_n (k_I fun z100 h100 q100 => ?_)
            obtain ⟨rfl, rfl⟩ := q100
            exact ev_iret (k_g_count 38 rfl) rfl (⟨_, rfl, rfl, by unfold cou; simp [c94, c96, c97, c98, c99]; exact cr_nn C⟩)
          · by_cases c101 : w = 3
            · refine ev_tsI (tgt := 109) s_g_count_52 (by omega) (by omega) (by rw [c101]; rfl) (by decide) ?_
              refine ev_al (k_g_count 39 rfl) rfl ?_
              refine ev_get (v := vA (xa 22)) (k_g_count 40 rfl) (cr_x C) rfl ?_
              obtain ⟨fs102, ho102⟩ := AL_recv (cr_ll C)
              refine ev_cV (k_g_count 41 rfl) rfl v_al_size ho102 rfl (c_al_size G _ _ _ _ (cr_ll C)) rfl (le_b rfl) (le_b rfl) (le_b rfl) k_n (k_I fun z102 h102 q102 => ?_)
              obtain ⟨rfl, rfl⟩ := q102
              exact ev_iret (k_g_count 42 rfl) rfl (⟨_, rfl, rfl, by unfold cou; simp [c94, c96, c97, c98, c99, c101]; exact cr_ln C⟩)
            · by_cases c103 : w = 4
              · refine ev_tsI (tgt := 117) s_g_count_52 (by omega) (by omega) (by rw [c103]; rfl) (by decide) ?_
                refine ev_al (k_g_count 43 rfl) rfl ?_
                refine ev_get (v := vI (σ.1 21)) (k_g_count 44 rfl) (cr_x C) rfl ?_
                exact ev_iret (k_g_count 45 rfl) rfl (⟨_, rfl, rfl, by unfold cou; simp [c94, c96, c97, c98, c99, c101, c103]⟩)
              · refine ev_tsO (tgt := 122) s_g_count_52 (by omega) (by decide) ?_
                refine ev_ic (k_g_count 46 rfl) ?_
                exact ev_iret (k_g_count 47 rfl) rfl (⟨_, rfl, rfl, by unfold cou; rw [if_neg (by omega), if_neg (by omega), if_neg (by omega), if_neg (by omega), if_neg (by omega), if_neg (by omega), if_neg (by omega)]⟩)
    · have j96 := inb_t c96
      refine ev_al (k_g_count 19 rfl) rfl ?_
      refine ev_get (v := vA (xa 4)) (k_g_count 20 rfl) (cr_x C) rfl ?_
      refine ev_il (k_g_count 21 rfl) rfl ?_
      refine ev_bp (k_g_count 22 rfl) ?_
      refine ev_isub (k_g_count 23 rfl) (by omega) ?_
      refine ev_aald (k_g_count 24 rfl) (le_b rfl) (cr_es C) (by omega) (by simp; omega) ?_
      obtain ⟨ed, hed⟩ : ∃ ed : Nat, w - 20 = (ed : Int) := ⟨(w - 20).toNat, by omega⟩
      rw [hed, show ([some (xa 5), some (xa 6), some (xa 7)] : List (Option Nat)).getD ((ed : Int)).toNat none = some (xa (5 + ed)) from es_get (by omega)]
      refine ev_cV (k_g_count 25 rfl) rfl v_e_chapters (cr_ed C ed (by omega)) rfl (c_e_chapters G _ xa na la σ C hw ed (by omega)) rfl (le_b rfl) (le_b rfl) (le_b rfl) k_n (k_I fun z104 h104 q104 => ?_)
      obtain ⟨rfl, rfl⟩ := q104
      exact ev_iret (k_g_count 26 rfl) rfl (⟨_, rfl, rfl, by rw [cou_2 (by omega), show (w - 20).toNat = ed by omega]⟩)
  · have j94 := inb_t c94
    refine ev_al (k_g_count 5 rfl) rfl ?_
    refine ev_get (v := vA (xa 4)) (k_g_count 6 rfl) (cr_x C) rfl ?_
    refine ev_il (k_g_count 7 rfl) rfl ?_
    refine ev_bp (k_g_count 8 rfl) ?_
    refine ev_isub (k_g_count 9 rfl) (by omega) ?_
    refine ev_aald (k_g_count 10 rfl) (le_b rfl) (cr_es C) (by omega) (by simp; omega) ?_
    obtain ⟨ed, hed⟩ : ∃ ed : Nat, w - 10 = (ed : Int) := ⟨(w - 10).toNat, by omega⟩
    rw [hed, show ([some (xa 5), some (xa 6), some (xa 7)] : List (Option Nat)).getD ((ed : Int)).toNat none = some (xa (5 + ed)) from es_get (by omega)]
    refine ev_get (v := vA (xa (10 + 2 * ed))) (k_g_count 11 rfl) (cr_ed C ed (by omega)) rfl ?_
    obtain ⟨fs105, ho105⟩ := AL_recv (cr_rl C ed (by omega))
    refine ev_cV (k_g_count 12 rfl) rfl v_al_size ho105 rfl (c_al_size G _ _ _ _ (cr_rl C ed (by omega))) rfl (le_b rfl) (le_b rfl) (le_b rfl) k_n (k_I fun z105 h105 q105 => ?_)
    obtain ⟨rfl, rfl⟩ := q105
    rw [rwl_len]
    exact ev_iret (k_g_count 13 rfl) rfl (⟨_, rfl, rfl, by rw [nr_int hw (by omega), cou_1 (by omega), show (w - 10).toNat = ed by omega]⟩)
