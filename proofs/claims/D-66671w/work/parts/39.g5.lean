theorem fnd_not {σ : sg_T} {i w : Int} (h : ¬ ((0 ≤ i ∧ i ≤ σ.1 21 - 1) ∧ inb w 0 1 = true)) : ¬ ((0 ≤ i ∧ i < σ.1 21) ∧ inb w 0 1 = true) := fun z => h ⟨⟨z.1.1, by omega⟩, z.2⟩
set_option maxHeartbeats 2000000 in
theorem c_g_found (G : gt_T) (h : ab_H) (xa : Nat → Nat) (na la : List Nat) (σ : sg_T) (C : CR G h xa na la σ) (hw : WF σ) (i w : Int) : ct G M_g_found 6 90 1 6 [vA (xa 1), vI i, vI w] h (rL fun z h' => h = h' ∧ ((0 ≤ i ∧ i < σ.1 21) ∧ inb w 0 1 = true) ∧ z = fnv σ i w) (xT 11 h (¬ ((0 ≤ i ∧ i < σ.1 21) ∧ inb w 0 1 = true))) := by
  show ev _ _ _ _ _ _ 0 [some (vA (xa 1)), some (vI i), some (vI w)] [] _ _ _
  obtain ⟨fc, fp, hfc, hfp, lfc, lfp, hfo⟩ := cr_fd C
  have hw21 := hw.2.2.2.2.1
  refine ev_il (k_g_found 0 rfl) rfl ?_
  refine ev_ic (k_g_found 1 rfl) ?_
  refine ev_al (k_g_found 2 rfl) rfl ?_
  refine ev_get (v := vI (σ.1 21)) (k_g_found 3 rfl) (cr_x C) rfl ?_
  refine ev_ic (k_g_found 4 rfl) ?_
  refine ev_isub (k_g_found 5 rfl) (by omega) ?_
  refine ev_cS (k_g_found 6 rfl) rfl v_g_in (c_g_in G _ i 0 ((σ.1 21) - 1)) rfl (le_b rfl) (le_b rfl) (le_b rfl) k_n (k_B fun z131 h131 q131 => ?_)
  obtain ⟨rfl, rfl⟩ := q131
  refine ev_b_eq (k_g_found 7 rfl) (fun c132 => ?_) (fun c132 => ?_)
  · have j132 := inb_f c132
    refine ev_newF (C2 := 0) (S2 := 0) (n := 6) (k_g_found 13 rfl) rfl xb_11 (le_b rfl) (le_b rfl) (fun q133 hq133 _ => ?_)
    refine evF_dup (k_g_found 14 rfl) rfl ?_
    refine evF_ctor 40 (k_g_found 15 rfl) rfl v_ioe_init (names := ["java/lang/RuntimeException", "java/lang/Exception"]) (n := 6) (vs := []) rfl (by decide) (by decide) xa_11 rfl xb_11 (by decide) (by decide) (fun v hv => by cases hv) (le_b rfl) (le_b rfl) ?_
    exact ev_athrow (k_g_found 16 rfl) (et_out rfl (xT_of (fun z => by have := inb_f c132; omega) hq133 rfl))
  · have j132 := inb_t c132
    refine ev_il (k_g_found 8 rfl) rfl ?_
    refine ev_ic (k_g_found 9 rfl) ?_
    refine ev_ic (k_g_found 10 rfl) ?_
    refine ev_cS (k_g_found 11 rfl) rfl v_g_in (c_g_in G _ w 0 1) rfl (le_b rfl) (le_b rfl) (le_b rfl) k_n (k_B fun z134 h134 q134 => ?_)
    obtain ⟨rfl, rfl⟩ := q134
    refine ev_b_ne (k_g_found 12 rfl) (fun c135 => ?_) (fun c135 => ?_)
    · have j135 := inb_t c135
      refine ev_il (k_g_found 17 rfl) rfl ?_
      refine ev_if_ne (k_g_found 18 rfl) (fun c136 => ?_) (fun c136 => ?_)
      · refine ev_al (k_g_found 24 rfl) rfl ?_
        refine ev_get (v := vA (xa 25)) (k_g_found 25 rfl) (cr_x C) rfl ?_
        refine ev_il (k_g_found 26 rfl) rfl ?_
        refine ev_iald (xs := fp) (k_g_found 27 rfl) hfp (by omega) (by omega) (show ev _ _ _ _ _ _ _ _ (vI (gd fp i.toNat) :: _) _ _ _ from ?_)
        refine ev_i2l (k_g_found 28 rfl) ?_
        exact ev_lret (k_g_found 29 rfl) rfl (⟨_, rfl, rfl, ⟨⟨by omega, by omega⟩, c135⟩, by unfold fnv; simp [c136]; exact (hfo i.toNat (by omega)).2⟩)
      · refine ev_al (k_g_found 19 rfl) rfl ?_
        refine ev_get (v := vA (xa 24)) (k_g_found 20 rfl) (cr_x C) rfl ?_
        refine ev_il (k_g_found 21 rfl) rfl ?_
        refine ev_lald (xs := fc) (k_g_found 22 rfl) hfc (by omega) (by omega) (show ev _ _ _ _ _ _ _ _ (vL (gd fc i.toNat) :: _) _ _ _ from ?_)
        refine ev_goto (k_g_found 23 rfl) ?_
        exact ev_lret (k_g_found 29 rfl) rfl (⟨_, rfl, rfl, ⟨⟨by omega, by omega⟩, c135⟩, by unfold fnv; simp [c136]; exact (hfo i.toNat (by omega)).1⟩)
    · have j135 := inb_f c135
      refine ev_newF (C2 := 0) (S2 := 0) (n := 6) (k_g_found 13 rfl) rfl xb_11 (le_b rfl) (le_b rfl) (fun q137 hq137 _ => ?_)
      refine evF_dup (k_g_found 14 rfl) rfl ?_
      refine evF_ctor 40 (k_g_found 15 rfl) rfl v_ioe_init (names := ["java/lang/RuntimeException", "java/lang/Exception"]) (n := 6) (vs := []) rfl (by decide) (by decide) xa_11 rfl xb_11 (by decide) (by decide) (fun v hv => by cases hv) (le_b rfl) (le_b rfl) ?_
      exact ev_athrow (k_g_found 16 rfl) (et_out rfl (xT_of (fun z => absurd (z.2.symm.trans c135) (by decide)) hq137 rfl))
theorem abo_c {xa : Nat → Nat} {σ : sg_T} {e i j : Nat} : True := trivial
theorem rwv_3 {σ : sg_T} {e i : Nat} {w : Int} (h : w = 3) : rwv σ e i w = (if abv (σ.2 8) (40 * e) (40 * e + i) < 0 then 0 else gd (σ.2 7) (abv (σ.2 8) (40 * e) (40 * e + i)).toNat) := by subst h; rfl
set_option maxHeartbeats 4000000 in
theorem c_g_row_ok (G : gt_T) (h : ab_H) (xa : Nat → Nat) (na la : List Nat) (σ : sg_T) (C : CR G h xa na la σ) (hw : WF σ) (pn : Nat) (hp : σ.1 3 = (pn : Int)) (hp2 : pn < 3) (i : Nat) (w : Int) (hok : ((0 ≤ (i : Int) ∧ (i : Int) < gd (σ.2 6) pn) ∧ inb w 0 4 = true)) : ct G M_g_row 6 90 1 6 [vA (xa 1), vI (i : Int), vI w] h (rL fun z h' => h = h' ∧ ((0 ≤ (i : Int) ∧ (i : Int) < gd (σ.2 6) pn) ∧ inb w 0 4 = true) ∧ z = rwv σ pn i w) nT := by
  show ev _ _ _ _ _ _ 0 [some (vA (xa 1)), some (vI (i : Int)), some (vI w), none] [] _ _ _
  have hni := nr_int hw hp2
  have hre := hw.2.2.2.2.2.1 pn hp2
  have hro := cr_row C pn i hp2 (by omega)
  unfold rf at hro
  refine ev_il (k_g_row 0 rfl) rfl ?_
  refine ev_ic (k_g_row 1 rfl) ?_
  refine ev_al (k_g_row 2 rfl) rfl ?_
  refine ev_cV (k_g_row 3 rfl) rfl v_g_now (cr_x C) rfl (c_g_now G _ xa na la σ C hw pn hp hp2) rfl (le_b rfl) (le_b rfl) (le_b rfl) k_n (k_R fun z138 h138 q138 => ?_)
  obtain ⟨rfl, rfl⟩ := q138
  refine ev_get (v := vA (xa (10 + 2 * pn))) (k_g_row 4 rfl) (cr_ed C pn (by omega)) rfl ?_
  obtain ⟨fs139, ho139⟩ := AL_recv (cr_rl C pn (by omega))
  refine ev_cV (k_g_row 5 rfl) rfl v_al_size ho139 rfl (c_al_size G _ _ _ _ (cr_rl C pn (by omega))) rfl (le_b rfl) (le_b rfl) (le_b rfl) k_n (k_I fun z139 h139 q139 => ?_)
  obtain ⟨rfl, rfl⟩ := q139
  rw [rwl_len]
  refine ev_ic (k_g_row 6 rfl) ?_
  refine ev_isub (k_g_row 7 rfl) (by omega) ?_
  refine ev_cS (k_g_row 8 rfl) rfl v_g_in (c_g_in G _ (i : Int) 0 (((nr σ pn : Nat) : Int) - 1)) rfl (le_b rfl) (le_b rfl) (le_b rfl) k_n (k_B fun z140 h140 q140 => ?_)
  obtain ⟨rfl, rfl⟩ := q140
  refine ev_b_eq (k_g_row 9 rfl) (fun c141 => ?_) (fun c141 => ?_)
  · have j141 := inb_f c141
    exfalso; omega
  · have j141 := inb_t c141
    refine ev_il (k_g_row 10 rfl) rfl ?_
    refine ev_ic (k_g_row 11 rfl) ?_
    refine ev_ic (k_g_row 12 rfl) ?_
    refine ev_cS (k_g_row 13 rfl) rfl v_g_in (c_g_in G _ w 0 4) rfl (le_b rfl) (le_b rfl) (le_b rfl) k_n (k_B fun z142 h142 q142 => ?_)
    obtain ⟨rfl, rfl⟩ := q142
    refine ev_b_ne (k_g_row 14 rfl) (fun _ => ?_) (fun c => absurd (hok.2.symm.trans c) (by decide))
    refine ev_al (k_g_row 19 rfl) rfl ?_
    refine ev_cV (k_g_row 20 rfl) rfl v_g_now (cr_x C) rfl (c_g_now G _ xa na la σ C hw pn hp hp2) rfl (le_b rfl) (le_b rfl) (le_b rfl) k_n (k_R fun z144 h144 q144 => ?_)
    obtain ⟨rfl, rfl⟩ := q144
    refine ev_get (v := vA (xa (10 + 2 * pn))) (k_g_row 21 rfl) (cr_ed C pn (by omega)) rfl ?_
    refine ev_il (k_g_row 22 rfl) rfl ?_
    obtain ⟨fs145, ho145⟩ := AL_recv (cr_rl C pn (by omega))
    refine ev_cV (k_g_row 23 rfl) rfl v_al_get ho145 rfl (c_al_get G _ _ _ _ (cr_rl C pn (by omega)) i (by rw [rwl_len]; omega)) rfl (le_b rfl) (le_b rfl) (le_b rfl) k_n (k_R fun z145 h145 q145 => ?_)
    obtain ⟨rfl, rfl⟩ := q145
    rw [rwl_get (by omega)]
    refine ev_chk (k_g_row 24 rfl) (cr_row C pn i (by omega) (by omega)) ?_
    refine ev_as (k_g_row 25 rfl) (le_b rfl) (show ev _ _ _ _ _ _ 52 [some (vA (xa 1)), some (vI (i : Int)), some (vI w), some (vA (xa (rt pn i 0)))] _ _ _ _ from ?_)
    refine ev_il (k_g_row 26 rfl) rfl ?_
    by_cases c147 : w = 0
    · refine ev_tsI (tgt := 84) s_g_row_53 (by omega) (by omega) (by rw [c147]; rfl) (by decide) ?_
      refine ev_al (k_g_row 27 rfl) rfl ?_
      refine ev_get (v := vL (gd (σ.2 7) (40 * pn + i))) (k_g_row 28 rfl) (cr_row C pn i (by omega) (by omega)) rfl ?_
      exact ev_lret (k_g_row 29 rfl) rfl (⟨_, rfl, rfl, hok, by simp [rwv, c141, c147]⟩)
    · by_cases c148 : w = 1
      · refine ev_tsI (tgt := 89) s_g_row_53 (by omega) (by omega) (by rw [c148]; rfl) (by decide) ?_
        refine ev_al (k_g_row 30 rfl) rfl ?_
        refine ev_get (v := vI (gd (σ.2 8) (40 * pn + i))) (k_g_row 31 rfl) (cr_row C pn i (by omega) (by omega)) rfl ?_
        refine ev_i2l (k_g_row 32 rfl) ?_
        exact ev_lret (k_g_row 33 rfl) rfl (⟨_, rfl, rfl, hok, by simp [rwv, c141, c147, c148]⟩)
      · by_cases c149 : w = 2
        · refine ev_tsI (tgt := 95) s_g_row_53 (by omega) (by omega) (by rw [c149]; rfl) (by decide) ?_
          refine ev_al (k_g_row 34 rfl) rfl ?_
          refine ev_get (v := vI (gd (σ.2 9) (40 * pn + i))) (k_g_row 35 rfl) (cr_row C pn i (by omega) (by omega)) rfl ?_
          refine ev_i2l (k_g_row 36 rfl) ?_
          exact ev_lret (k_g_row 37 rfl) rfl (⟨_, rfl, rfl, hok, by simp [rwv, c141, c147, c148, c149]⟩)
        · by_cases c150 : w = 3
          · refine ev_tsI (tgt := 101) s_g_row_53 (by omega) (by omega) (by rw [c150]; rfl) (by decide) ?_
            refine ev_al (k_g_row 38 rfl) rfl ?_
            have hab := abv_lt (σ.2 8) (f := 40 * pn) (t := 40 * pn + i)
            by_cases hu0 : abv (σ.2 8) (40 * pn) (40 * pn + i) < 0
            · rw [abo_n hu0] at hro
              refine ev_get (v := vN) (k_g_row 39 rfl) hro rfl ?_
              refine ev_ifnn (k_g_row 40 rfl) (fun c => absurd rfl c) (fun _ => ?_)
              refine ev_lc (k_g_row 41 rfl) ?_
              refine ev_goto (k_g_row 42 rfl) ?_
              exact ev_lret (k_g_row 46 rfl) rfl (⟨_, rfl, rfl, hok, by rw [rwv_3 (by omega), if_pos hu0]⟩)
            · rw [abo_s hu0] at hro
              refine ev_get (v := vA (xa (rt pn ((abv (σ.2 8) (40 * pn) (40 * pn + i)).toNat - 40 * pn) 0))) (k_g_row 39 rfl) hro rfl ?_
              refine ev_ifnn (k_g_row 40 rfl) (fun _ => ?_) (fun c => by cases c)
              refine ev_al (k_g_row 43 rfl) rfl ?_
              refine ev_get (v := vA (xa (rt pn ((abv (σ.2 8) (40 * pn) (40 * pn + i)).toNat - 40 * pn) 0))) (k_g_row 44 rfl) hro rfl ?_
              refine ev_get (v := vL (gd (σ.2 7) (40 * pn + ((abv (σ.2 8) (40 * pn) (40 * pn + i)).toNat - 40 * pn)))) (k_g_row 45 rfl) (cr_row C pn ((abv (σ.2 8) (40 * pn) (40 * pn + i)).toNat - 40 * pn) (by omega) (by omega)) rfl ?_
              exact ev_lret (k_g_row 46 rfl) rfl (⟨_, rfl, rfl, hok, by rw [rwv_3 (by omega), if_neg hu0, show 40 * pn + ((abv (σ.2 8) (40 * pn) (40 * pn + i)).toNat - 40 * pn) = (abv (σ.2 8) (40 * pn) (40 * pn + i)).toNat by omega]⟩)
          · refine ev_tsO (tgt := 120) s_g_row_53 (by omega) (by decide) ?_
            refine ev_al (k_g_row 47 rfl) rfl ?_
            refine ev_get (v := vA (xa (rt pn i 2))) (k_g_row 48 rfl) (cr_row C pn i (by omega) (by omega)) rfl ?_
            obtain ⟨bl153, hb153, hbl153⟩ := cr_bl C pn i (by omega) (by omega)
            obtain ⟨fs153, ho153⟩ := AL_recv hb153
            refine ev_cV (k_g_row 49 rfl) rfl v_al_size ho153 rfl (c_al_size G _ _ _ _ hb153) rfl (le_b rfl) (le_b rfl) (le_b rfl) k_n (k_I fun z153 h153 q153 => ?_)
            obtain ⟨rfl, rfl⟩ := q153
            rw [hbl153]
            refine ev_i2l (k_g_row 50 rfl) ?_
            exact ev_lret (k_g_row 51 rfl) rfl (⟨_, rfl, rfl, hok, by simp [rwv, c141, c147, c148, c149, c150]⟩)
set_option maxHeartbeats 4000000 in
theorem c_g_row_bad (G : gt_T) (h : ab_H) (xa : Nat → Nat) (na la : List Nat) (σ : sg_T) (C : CR G h xa na la σ) (hw : WF σ) (pn : Nat) (hp : σ.1 3 = (pn : Int)) (hp2 : pn < 3) (i w : Int) (hb : ¬ ((0 ≤ i ∧ i < gd (σ.2 6) pn) ∧ inb w 0 4 = true)) : ct G M_g_row 6 90 1 6 [vA (xa 1), vI i, vI w] h (rL fun z h' => False) (xT 11 h True) := by
  show ev _ _ _ _ _ _ 0 [some (vA (xa 1)), some (vI i), some (vI w), none] [] _ _ _
  have hni := nr_int hw hp2
  have hre := hw.2.2.2.2.2.1 pn hp2
  refine ev_il (k_g_row 0 rfl) rfl ?_
  refine ev_ic (k_g_row 1 rfl) ?_
  refine ev_al (k_g_row 2 rfl) rfl ?_
  refine ev_cV (k_g_row 3 rfl) rfl v_g_now (cr_x C) rfl (c_g_now G _ xa na la σ C hw pn hp hp2) rfl (le_b rfl) (le_b rfl) (le_b rfl) k_n (k_R fun z154 h154 q154 => ?_)
  obtain ⟨rfl, rfl⟩ := q154
  refine ev_get (v := vA (xa (10 + 2 * pn))) (k_g_row 4 rfl) (cr_ed C pn (by omega)) rfl ?_
  obtain ⟨fs155, ho155⟩ := AL_recv (cr_rl C pn (by omega))
  refine ev_cV (k_g_row 5 rfl) rfl v_al_size ho155 rfl (c_al_size G _ _ _ _ (cr_rl C pn (by omega))) rfl (le_b rfl) (le_b rfl) (le_b rfl) k_n (k_I fun z155 h155 q155 => ?_)
  obtain ⟨rfl, rfl⟩ := q155
  rw [rwl_len]
  refine ev_ic (k_g_row 6 rfl) ?_
  refine ev_isub (k_g_row 7 rfl) (by omega) ?_
  refine ev_cS (k_g_row 8 rfl) rfl v_g_in (c_g_in G _ i 0 (((nr σ pn : Nat) : Int) - 1)) rfl (le_b rfl) (le_b rfl) (le_b rfl) k_n (k_B fun z156 h156 q156 => ?_)
  obtain ⟨rfl, rfl⟩ := q156
  refine ev_b_eq (k_g_row 9 rfl) (fun c157 => ?_) (fun c157 => ?_)
  · have j157 := inb_f c157
    refine ev_newF (C2 := 0) (S2 := 0) (n := 6) (k_g_row 15 rfl) rfl xb_11 (le_b rfl) (le_b rfl) (fun q158 hq158 _ => ?_)
    refine evF_dup (k_g_row 16 rfl) rfl ?_
    refine evF_ctor 40 (k_g_row 17 rfl) rfl v_ioe_init (names := ["java/lang/RuntimeException", "java/lang/Exception"]) (n := 6) (vs := []) rfl (by decide) (by decide) xa_11 rfl xb_11 (by decide) (by decide) (fun v hv => by cases hv) (le_b rfl) (le_b rfl) ?_
    exact ev_athrow (k_g_row 18 rfl) (et_out rfl (xT_of (trivial) hq158 rfl))
  · have j157 := inb_t c157
    refine ev_il (k_g_row 10 rfl) rfl ?_
    refine ev_ic (k_g_row 11 rfl) ?_
    refine ev_ic (k_g_row 12 rfl) ?_
    refine ev_cS (k_g_row 13 rfl) rfl v_g_in (c_g_in G _ w 0 4) rfl (le_b rfl) (le_b rfl) (le_b rfl) k_n (k_B fun z159 h159 q159 => ?_)
    obtain ⟨rfl, rfl⟩ := q159
    refine ev_b_ne (k_g_row 14 rfl) (fun c160 => ?_) (fun c160 => ?_)
    · have j160 := inb_t c160
      exact absurd ⟨⟨by omega, by omega⟩, c160⟩ hb
    · have j160 := inb_f c160
      refine ev_newF (C2 := 0) (S2 := 0) (n := 6) (k_g_row 15 rfl) rfl xb_11 (le_b rfl) (le_b rfl) (fun q161 hq161 _ => ?_)
      refine evF_dup (k_g_row 16 rfl) rfl ?_
      refine evF_ctor 40 (k_g_row 17 rfl) rfl v_ioe_init (names := ["java/lang/RuntimeException", "java/lang/Exception"]) (n := 6) (vs := []) rfl (by decide) (by decide) xa_11 rfl xb_11 (by decide) (by decide) (fun v hv => by cases hv) (le_b rfl) (le_b rfl) ?_
      exact ev_athrow (k_g_row 18 rfl) (et_out rfl (xT_of (trivial) hq161 rfl))
