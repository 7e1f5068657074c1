theorem iso_nat {σ : sg_T} {a b i : Nat} {c : Int} (ha : a < 3) (hb : b < 3) (hab : a ≠ b) (h : rof σ a c = some i) : iso σ (a : Int) c (b : Int) = true := by
  unfold iso
  rw [show inb (a : Int) 0 2 = true from decide_eq_true (by omega), show inb (b : Int) 0 2 = true from decide_eq_true (by omega), show ((a : Int)).toNat = a from rfl, h]
  simp
  omega
theorem iso_of {σ : sg_T} {a c b : Int} (h : iso σ a c b = true) : ∃ a' b' i : Nat, a = (a' : Int) ∧ b = (b' : Int) ∧ a' < 3 ∧ b' < 3 ∧ a' ≠ b' ∧ rof σ a' c = some i := by
  unfold iso at h
  simp only [Bool.and_eq_true, decide_eq_true_eq] at h
  obtain ⟨⟨⟨h1, h2⟩, h3⟩, h4⟩ := h
  have i1 := inb_t h1
  have i2 := inb_t h2
  obtain ⟨i, hi⟩ := Option.isSome_iff_exists.mp h4
  exact ⟨a.toNat, b.toNat, i, by omega, by omega, by omega, by omega, by omega, hi⟩
theorem nix_neg {q : Nat → Bool} {n : Nat} {i : Int} (h : i < 0) : nix q n i = none := by
  unfold nix
  refine lix_none (fun k _ => ?_)
  rw [show ((cnt q k : Int) == i) = false from bq_f (by omega)]
  simp
set_option maxHeartbeats 4000000 in
theorem c_g_rowOf_ok (G : gt_T) (h : ab_H) (xa : Nat → Nat) (na la : List Nat) (σ : sg_T) (C : CR G h xa na la σ) (hw : WF σ) (a b i : Nat) (c : Int) (ha : a < 3) (hb : b < 3) (hab : a ≠ b) (hr : rof σ a c = some i) : ct G M_g_rowOf 7 121 2 12 [vA (xa 1), vI (a : Int), vL c, vI (b : Int)] h (rR fun z h' => h = h' ∧ z = some (xa (rt a i 0))) nT := by
  show ev _ _ _ _ _ _ 0 [some (vA (xa 1)), some (vI (a : Int)), some (vL c), none, some (vI (b : Int)), none] [] _ _ _
  refine ev_il (k_g_rowOf 0 rfl) rfl ?_
  refine ev_cS (k_g_rowOf 1 rfl) rfl v_g_isEdition (c_g_isEdition G _ (a : Int)) rfl (le_b rfl) (le_b rfl) (le_b rfl) k_n (k_B fun z162 h162 q162 => ?_)
  obtain ⟨rfl, rfl⟩ := q162
  refine ev_b_eq (k_g_rowOf 2 rfl) (fun c163 => ?_) (fun c163 => ?_)
  · have j163 := inb_f c163
    exfalso; omega
  · have j163 := inb_t c163
    refine ev_ilw (k_g_rowOf 3 rfl) rfl ?_
    refine ev_cS (k_g_rowOf 4 rfl) rfl v_g_isEdition (c_g_isEdition G _ (b : Int)) rfl (le_b rfl) (le_b rfl) (le_b rfl) k_n (k_B fun z164 h164 q164 => ?_)
    obtain ⟨rfl, rfl⟩ := q164
    refine ev_b_eq (k_g_rowOf 5 rfl) (fun c165 => ?_) (fun c165 => ?_)
    · have j165 := inb_f c165
      exfalso; omega
    · have j165 := inb_t c165
      refine ev_il (k_g_rowOf 6 rfl) rfl ?_
      refine ev_ilw (k_g_rowOf 7 rfl) rfl ?_
      refine ev_ic_eq (k_g_rowOf 8 rfl) (fun c166 => ?_) (fun c166 => ?_)
      · exfalso; omega
      · refine ev_ic (k_g_rowOf 9 rfl) ?_
        refine ev_goto (k_g_rowOf 10 rfl) ?_
        refine ev_cSA (C2 := 1) (S2 := 6) (k_g_rowOf 12 rfl) rfl v_g_allow (c_g_allow G _ true) rfl (le_b rfl) (le_b rfl) (le_b rfl) (le_b rfl) (le_b rfl) (k_t rfl (fun a h' q => absurd q.1 (by decide))) (k_V fun h167 q167 => ?_)
        obtain ⟨rfl, -⟩ := q167
        refine ev_al (k_g_rowOf 13 rfl) rfl ?_
        refine ev_get (v := vA (xa 4)) (k_g_rowOf 14 rfl) (cr_x C) rfl ?_
        refine ev_il (k_g_rowOf 15 rfl) rfl ?_
        refine ev_aald (k_g_rowOf 16 rfl) (le_b rfl) (cr_es C) (by omega) (by simp; omega) ?_
        rw [show ([some (xa 5), some (xa 6), some (xa 7)] : List (Option Nat)).getD (((a : Int) : Int)).toNat none = some (xa (5 + a)) from es_get (by omega)]
        refine ev_ll (k_g_rowOf 17 rfl) rfl ?_
        refine ev_cV (k_g_rowOf 18 rfl) rfl v_e_find (cr_ed C a (by omega)) rfl (c_e_find G _ xa na la σ C hw a (by omega) c) rfl (le_b rfl) (le_b rfl) (le_b rfl) k_n (k_R fun z168 h168 q168 => ?_)
        obtain ⟨rfl, rfl⟩ := q168
        refine ev_asw (k_g_rowOf 19 rfl) (le_b rfl) (show ev _ _ _ _ _ _ 41 [some (vA (xa 1)), some (vI (a : Int)), some (vL c), none, some (vI (b : Int)), some (vR (rwa xa a (rof σ a c)))] _ _ _ _ from ?_)
        refine ev_alw (k_g_rowOf 20 rfl) rfl ?_
        refine ev_rn (k_g_rowOf 21 rfl) (fun c169 => ?_) (fun i169 c169 => ?_)
        · (try rw [c169])
          show ev _ _ _ _ _ _ 50 [some (vA (xa 1)), some (vI (a : Int)), some (vL c), none, some (vI (b : Int)), some (vN)] [] _ _ _
          rw [c169] at hr; cases hr
        · (try rw [c169])
          show ev _ _ _ _ _ _ 46 [some (vA (xa 1)), some (vI (a : Int)), some (vL c), none, some (vI (b : Int)), some (vA (xa (rt a i169 0)))] [] _ _ _
          have bi169 : i169 < nr σ a := (rof_lt c169).1
          refine ev_ic (k_g_rowOf 22 rfl) ?_
          refine ev_goto (k_g_rowOf 23 rfl) ?_
          refine ev_cSA (C2 := 0) (S2 := 0) (k_g_rowOf 25 rfl) rfl v_g_allow (c_g_allow G _ true) rfl (le_b rfl) (le_b rfl) (le_b rfl) (le_b rfl) (le_b rfl) (k_t rfl (fun a h' q => absurd q.1 (by decide))) (k_V fun h170 q170 => ?_)
          obtain ⟨rfl, -⟩ := q170
          refine ev_alw (k_g_rowOf 26 rfl) rfl ?_
          exact ev_aret (k_g_rowOf 27 rfl) rfl (⟨_, rfl, rfl, by rw [c169] at hr; cases hr; rfl⟩)
set_option maxHeartbeats 4000000 in
theorem c_g_rowOf_bad (G : gt_T) (h : ab_H) (xa : Nat → Nat) (na la : List Nat) (σ : sg_T) (C : CR G h xa na la σ) (hw : WF σ) (a b c : Int) (hx : iso σ a c b = false) : ct G M_g_rowOf 7 121 2 12 [vA (xa 1), vI a, vL c, vI b] h (rR fun z h' => False) (xT 9 h True) := by
  show ev _ _ _ _ _ _ 0 [some (vA (xa 1)), some (vI a), some (vL c), none, some (vI b), none] [] _ _ _
  refine ev_il (k_g_rowOf 0 rfl) rfl ?_
  refine ev_cS (k_g_rowOf 1 rfl) rfl v_g_isEdition (c_g_isEdition G _ a) rfl (le_b rfl) (le_b rfl) (le_b rfl) k_n (k_B fun z171 h171 q171 => ?_)
  obtain ⟨rfl, rfl⟩ := q171
  refine ev_b_eq (k_g_rowOf 2 rfl) (fun c172 => ?_) (fun c172 => ?_)
  · have j172 := inb_f c172
    refine ev_ic (k_g_rowOf 11 rfl) ?_
    refine ev_cSA (C2 := 1) (S2 := 6) (k_g_rowOf 12 rfl) rfl v_g_allow (c_g_allow G _ false) rfl (le_b rfl) (le_b rfl) (le_b rfl) (le_b rfl) (le_b rfl) (k_t rfl (fun a h' q => xT_of trivial q.2.1 q.2.2)) (k_V fun h173 q173 => ?_)
    exact absurd q173.2 (by decide)
  · have j172 := inb_t c172
    refine ev_ilw (k_g_rowOf 3 rfl) rfl ?_
    refine ev_cS (k_g_rowOf 4 rfl) rfl v_g_isEdition (c_g_isEdition G _ b) rfl (le_b rfl) (le_b rfl) (le_b rfl) k_n (k_B fun z174 h174 q174 => ?_)
    obtain ⟨rfl, rfl⟩ := q174
    refine ev_b_eq (k_g_rowOf 5 rfl) (fun c175 => ?_) (fun c175 => ?_)
    · have j175 := inb_f c175
      refine ev_ic (k_g_rowOf 11 rfl) ?_
      refine ev_cSA (C2 := 1) (S2 := 6) (k_g_rowOf 12 rfl) rfl v_g_allow (c_g_allow G _ false) rfl (le_b rfl) (le_b rfl) (le_b rfl) (le_b rfl) (le_b rfl) (k_t rfl (fun a h' q => xT_of trivial q.2.1 q.2.2)) (k_V fun h176 q176 => ?_)
      exact absurd q176.2 (by decide)
    · have j175 := inb_t c175
      refine ev_il (k_g_rowOf 6 rfl) rfl ?_
      refine ev_ilw (k_g_rowOf 7 rfl) rfl ?_
      refine ev_ic_eq (k_g_rowOf 8 rfl) (fun c177 => ?_) (fun c177 => ?_)
      · refine ev_ic (k_g_rowOf 11 rfl) ?_
        refine ev_cSA (C2 := 1) (S2 := 6) (k_g_rowOf 12 rfl) rfl v_g_allow (c_g_allow G _ false) rfl (le_b rfl) (le_b rfl) (le_b rfl) (le_b rfl) (le_b rfl) (k_t rfl (fun a h' q => xT_of trivial q.2.1 q.2.2)) (k_V fun h178 q178 => ?_)
        exact absurd q178.2 (by decide)
      · refine ev_ic (k_g_rowOf 9 rfl) ?_
        refine ev_goto (k_g_rowOf 10 rfl) ?_
        refine ev_cSA (C2 := 1) (S2 := 6) (k_g_rowOf 12 rfl) rfl v_g_allow (c_g_allow G _ true) rfl (le_b rfl) (le_b rfl) (le_b rfl) (le_b rfl) (le_b rfl) (k_t rfl (fun a h' q => absurd q.1 (by decide))) (k_V fun h179 q179 => ?_)
        obtain ⟨rfl, -⟩ := q179
        refine ev_al (k_g_rowOf 13 rfl) rfl ?_
        refine ev_get (v := vA (xa 4)) (k_g_rowOf 14 rfl) (cr_x C) rfl ?_
        refine ev_il (k_g_rowOf 15 rfl) rfl ?_
        refine ev_aald (k_g_rowOf 16 rfl) (le_b rfl) (cr_es C) (by omega) (by simp; omega) ?_
        obtain ⟨an, rfl⟩ : ∃ n : Nat, a = (n : Int) := ⟨a.toNat, by omega⟩
        rw [show ([some (xa 5), some (xa 6), some (xa 7)] : List (Option Nat)).getD ((an : Int)).toNat none = some (xa (5 + an)) from es_get (by omega)]
        refine ev_ll (k_g_rowOf 17 rfl) rfl ?_
        refine ev_cV (k_g_rowOf 18 rfl) rfl v_e_find (cr_ed C an (by omega)) rfl (c_e_find G _ xa na la σ C hw an (by omega) c) rfl (le_b rfl) (le_b rfl) (le_b rfl) k_n (k_R fun z180 h180 q180 => ?_)
        obtain ⟨rfl, rfl⟩ := q180
        refine ev_asw (k_g_rowOf 19 rfl) (le_b rfl) (show ev _ _ _ _ _ _ 41 [some (vA (xa 1)), some (vI (an : Int)), some (vL c), none, some (vI b), some (vR (rwa xa an (rof σ an c)))] _ _ _ _ from ?_)
        refine ev_alw (k_g_rowOf 20 rfl) rfl ?_
        refine ev_rn (k_g_rowOf 21 rfl) (fun c181 => ?_) (fun i181 c181 => ?_)
        · (try rw [c181])
          show ev _ _ _ _ _ _ 50 [some (vA (xa 1)), some (vI (an : Int)), some (vL c), none, some (vI b), some (vN)] [] _ _ _
          refine ev_ic (k_g_rowOf 24 rfl) ?_
          refine ev_cSA (C2 := 0) (S2 := 0) (k_g_rowOf 25 rfl) rfl v_g_allow (c_g_allow G _ false) rfl (le_b rfl) (le_b rfl) (le_b rfl) (le_b rfl) (le_b rfl) (k_t rfl (fun a h' q => xT_of trivial q.2.1 q.2.2)) (k_V fun h182 q182 => ?_)
          exact absurd q182.2 (by decide)
        · (try rw [c181])
          show ev _ _ _ _ _ _ 46 [some (vA (xa 1)), some (vI (an : Int)), some (vL c), none, some (vI b), some (vA (xa (rt an i181 0)))] [] _ _ _
          have bi181 : i181 < nr σ an := (rof_lt c181).1
          exfalso
          obtain ⟨bn, rfl⟩ : ∃ n : Nat, b = (n : Int) := ⟨b.toNat, by omega⟩
          rw [iso_nat (by omega) (by omega) (by omega) c181] at hx; cases hx
set_option maxHeartbeats 2000000 in
theorem c_g_noted_ok (G : gt_T) (h : ab_H) (xa : Nat → Nat) (na la : List Nat) (σ : sg_T) (C : CR G h xa na la σ) (hw : WF σ) (pn : Nat) (hp : σ.1 3 = (pn : Int)) (hp2 : pn < 3) (c i : Int) (i0 : Nat) (hr : rof σ pn c = some i0) : ct G M_g_noted 7 121 1 6 [vA (xa 1), vL c, vI i] h (rI fun z h' => h = h' ∧ z = ntv σ pn c i) nT := by
  show ev _ _ _ _ _ _ 0 [some (vA (xa 1)), some (vL c), none, some (vI i), none, none, none] [] _ _ _
  have hnn := cr_nn C
  have hw11 := hw.2.2.1
  have hnl : na.length ≤ 20 := by omega
  have hi0 : i0 < nr σ pn := (rof_lt hr).1
  have hc0 : gd (σ.2 7) (40 * pn + i0) = c := (rof_lt hr).2
  refine ev_loc 3 rfl (fun (oki : inI i) => ?_)
  have hre := hw.2.2.2.2.2.1 pn hp2
  have hkd := hw.2.2.2.2.2.2.2.2.2.1
  have loop : ∀ (fu : Nat) (k : Nat) (left : Int), (k ≤ na.length) → (left = i - cnt (nq σ pn c) k) → (nix (nq σ pn c) k i = none) → (0 ≤ i → 0 ≤ left) → na.length - k < fu → ev G M_g_noted 7 121 0 0 29 [some (vA (xa 1)), some (vL c), none, some (vI i), some (vA (xa (rt pn i0 0))), some (vI left), some (vI (k : Int))] [] h (rI fun z h' => h = h' ∧ z = ntv σ pn c i) nT := by
    intro fu
    induction fu with
    | zero => intros; omega
    | succ fu ih =>
      intro k left h1 h2 h3 h4 hn
      have hc := cnt_le (nq σ pn c) k
      have hkk := hkd k
      have hnr : nr σ pn ≤ 40 := by unfold nr; omega
      refine ev_ilw (k_g_noted 15 rfl) rfl ?_
      refine ev_al (k_g_noted 16 rfl) rfl ?_
      refine ev_get (v := vA (xa 20)) (k_g_noted 17 rfl) (cr_x C) rfl ?_
      obtain ⟨fs183, ho183⟩ := AL_recv (cr_nl C)
      refine ev_cV (k_g_noted 18 rfl) rfl v_al_size ho183 rfl (c_al_size G _ _ _ _ (cr_nl C)) rfl (le_b rfl) (le_b rfl) (le_b rfl) k_n (k_I fun z183 h183 q183 => ?_)
      obtain ⟨rfl, rfl⟩ := q183
      refine ev_ic_ge (k_g_noted 19 rfl) (fun c184 => ?_) (fun c184 => ?_)
      · refine ev_ic (k_g_noted 53 rfl) ?_
        exact ev_iret (k_g_noted 54 rfl) rfl (⟨_, rfl, rfl, by unfold ntv; rw [show nix (nq σ pn c) (σ.1 11).toNat i = none from (by first | (rw [show (σ.1 11).toNat = k by omega]; exact h3) | exact nix_neg (by omega))]⟩)
      · refine ev_ilw (k_g_noted 20 rfl) rfl ?_
        refine ev_if_lt (k_g_noted 21 rfl) (fun c185 => ?_) (fun c185 => ?_)
        · refine ev_ic (k_g_noted 53 rfl) ?_
          exact ev_iret (k_g_noted 54 rfl) rfl (⟨_, rfl, rfl, by unfold ntv; rw [show nix (nq σ pn c) (σ.1 11).toNat i = none from (by first | (rw [show (σ.1 11).toNat = k by omega]; exact h3) | exact nix_neg (by omega))]⟩)
        · refine ev_al (k_g_noted 22 rfl) rfl ?_
          refine ev_get (v := vA (xa 20)) (k_g_noted 23 rfl) (cr_x C) rfl ?_
          refine ev_ilw (k_g_noted 24 rfl) rfl ?_
          obtain ⟨fs186, ho186⟩ := AL_recv (cr_nl C)
          refine ev_cV (k_g_noted 25 rfl) rfl v_al_get ho186 rfl (c_al_get G _ _ _ _ (cr_nl C) k (by omega)) rfl (le_b rfl) (le_b rfl) (le_b rfl) k_n (k_R fun z186 h186 q186 => ?_)
          obtain ⟨rfl, rfl⟩ := q186
          obtain ⟨ne187, ni187, nj187, hne187, hni187, hnj187, n12187, n13187, n15187, hno187⟩ := cr_no C k (by omega)
          have hnb187 := nr40 hw hne187
          refine ev_chk (k_g_noted 26 rfl) hno187 ?_
          refine ev_get (v := vA (xa (rt ne187 ni187 0))) (k_g_noted 27 rfl) hno187 rfl ?_
          refine ev_alw (k_g_noted 28 rfl) rfl ?_
          refine ev_ac_eq (k_g_noted 29 rfl) (fun c188 => ?_) (fun c188 => ?_)
          · rw [se_row C hw (by omega) (by omega) (by omega) (by omega)] at c188
            refine ev_ilw (k_g_noted 31 rfl) rfl ?_
            refine ev_if_ne (k_g_noted 32 rfl) (fun c189 => ?_) (fun c189 => ?_)
            · refine ev_iinc (k_g_noted 50 rfl) rfl (by omega) (show ev _ _ _ _ _ _ 114 [some (vA (xa 1)), some (vL c), none, some (vI i), some (vA (xa (rt pn i0 0))), some (vI (left + (-1))), some (vI (k : Int))] _ _ _ _ from ?_)
              refine ev_iinc (k_g_noted 51 rfl) rfl (by omega) (show ev _ _ _ _ _ _ 117 [some (vA (xa 1)), some (vL c), none, some (vI i), some (vA (xa (rt pn i0 0))), some (vI (left + (-1))), some (vI ((k : Int) + 1))] _ _ _ _ from ?_)
              refine ev_goto (k_g_noted 52 rfl) ?_
              have hiff := nq_ok hw (i := i0) hp2 hi0 hne187 hni187 n12187 n13187
              rw [hc0] at hiff
              rw [show (k : Int) + 1 = ((k + 1 : Nat) : Int) by omega]
              have hq : nq σ pn c k = true := hiff.mpr (by omega)
              exact ih (k + 1) _ (by omega) (by rw [cnt_t hq]; omega) (nix_no h3 (fun x => by omega)) (by omega) (by omega)
            · refine ev_ic (k_g_noted 33 rfl) ?_
              refine ev_al (k_g_noted 34 rfl) rfl ?_
              refine ev_get (v := vA (xa 20)) (k_g_noted 35 rfl) (cr_x C) rfl ?_
              refine ev_ilw (k_g_noted 36 rfl) rfl ?_
              obtain ⟨fs190, ho190⟩ := AL_recv (cr_nl C)
              refine ev_cV (k_g_noted 37 rfl) rfl v_al_get ho190 rfl (c_al_get G _ _ _ _ (cr_nl C) k (by omega)) rfl (le_b rfl) (le_b rfl) (le_b rfl) k_n (k_R fun z190 h190 q190 => ?_)
              obtain ⟨rfl, rfl⟩ := q190
              refine ev_chk (k_g_noted 38 rfl) hno187 ?_
              refine ev_get (v := vA (xa (rt ne187 nj187 0))) (k_g_noted 39 rfl) hno187 rfl ?_
              refine ev_get (v := vI (nj187 : Int)) (k_g_noted 40 rfl) (cr_row C ne187 nj187 (by omega) (by omega)) rfl ?_
              refine ev_imul (k_g_noted 41 rfl) (by omega) ?_
              refine ev_al (k_g_noted 42 rfl) rfl ?_
              refine ev_get (v := vA (xa 20)) (k_g_noted 43 rfl) (cr_x C) rfl ?_
              refine ev_ilw (k_g_noted 44 rfl) rfl ?_
              obtain ⟨fs191, ho191⟩ := AL_recv (cr_nl C)
              refine ev_cV (k_g_noted 45 rfl) rfl v_al_get ho191 rfl (c_al_get G _ _ _ _ (cr_nl C) k (by omega)) rfl (le_b rfl) (le_b rfl) (le_b rfl) k_n (k_R fun z191 h191 q191 => ?_)
              obtain ⟨rfl, rfl⟩ := q191
              refine ev_chk (k_g_noted 46 rfl) hno187 ?_
              refine ev_get (v := vI (gd (σ.2 14) k)) (k_g_noted 47 rfl) hno187 rfl ?_
              refine ev_iadd (k_g_noted 48 rfl) (by omega) ?_
              have hiff := nq_ok hw (i := i0) hp2 hi0 hne187 hni187 n12187 n13187
              rw [hc0] at hiff
              have hnp : ne187 = pn := by omega
              exact ev_iret (k_g_noted 49 rfl) rfl (⟨_, rfl, rfl, by unfold ntv; rw [nix_hit (k := k) (by omega) (hiff.mpr (by omega)) (by omega)]; simp only []; rw [n15187, hnp, rof_some hw hp2 (i := nj187) (by rw [← hnp]; exact hnj187) rfl]; rfl⟩)
          · rw [ne_eq, se_row C hw (by omega) (by omega) (by omega) (by omega)] at c188
            refine ev_goto (k_g_noted 30 rfl) ?_
            refine ev_iinc (k_g_noted 51 rfl) rfl (by omega) (show ev _ _ _ _ _ _ 117 [some (vA (xa 1)), some (vL c), none, some (vI i), some (vA (xa (rt pn i0 0))), some (vI left), some (vI ((k : Int) + 1))] _ _ _ _ from ?_)
            refine ev_goto (k_g_noted 52 rfl) ?_
            have hiff := nq_ok hw (i := i0) hp2 hi0 hne187 hni187 n12187 n13187
            rw [hc0] at hiff
            rw [show (k : Int) + 1 = ((k + 1 : Nat) : Int) by omega]
            have hq : nq σ pn c k = false := b_f hiff (by omega)
            exact ih (k + 1) _ (by omega) (by rw [cnt_f hq]; omega) (nix_no h3 (fun x => by rw [hq] at x; exact absurd x.1 (by decide))) (by omega) (by omega)
  refine ev_al (k_g_noted 0 rfl) rfl ?_
  refine ev_cV (k_g_noted 1 rfl) rfl v_g_now (cr_x C) rfl (c_g_now G _ xa na la σ C hw pn hp hp2) rfl (le_b rfl) (le_b rfl) (le_b rfl) k_n (k_R fun z192 h192 q192 => ?_)
  obtain ⟨rfl, rfl⟩ := q192
  refine ev_ll (k_g_noted 2 rfl) rfl ?_
  refine ev_cV (k_g_noted 3 rfl) rfl v_e_find (cr_ed C pn (by omega)) rfl (c_e_find G _ xa na la σ C hw pn (by omega) c) rfl (le_b rfl) (le_b rfl) (le_b rfl) k_n (k_R fun z193 h193 q193 => ?_)
  obtain ⟨rfl, rfl⟩ := q193
  refine ev_asw (k_g_noted 4 rfl) (le_b rfl) (show ev _ _ _ _ _ _ 10 [some (vA (xa 1)), some (vL c), none, some (vI i), some (vR (rwa xa pn (rof σ pn c))), none, none] _ _ _ _ from ?_)
  refine ev_alw (k_g_noted 5 rfl) rfl ?_
  refine ev_rn (k_g_noted 6 rfl) (fun c194 => ?_) (fun i194 c194 => ?_)
  · (try rw [c194])
    show ev _ _ _ _ _ _ 19 [some (vA (xa 1)), some (vL c), none, some (vI i), some (vN), none, none] [] _ _ _
    rw [c194] at hr; cases hr
  · (try rw [c194])
    show ev _ _ _ _ _ _ 15 [some (vA (xa 1)), some (vL c), none, some (vI i), some (vA (xa (rt pn i194 0))), none, none] [] _ _ _
    have bi194 : i194 < nr σ pn := (rof_lt c194).1
    refine ev_ic (k_g_noted 7 rfl) ?_
    refine ev_goto (k_g_noted 8 rfl) ?_
    refine ev_cSA (C2 := 0) (S2 := 0) (k_g_noted 10 rfl) rfl v_g_allow (c_g_allow G _ true) rfl (le_b rfl) (le_b rfl) (le_b rfl) (le_b rfl) (le_b rfl) (k_t rfl (fun a h' q => absurd q.1 (by decide))) (k_V fun h195 q195 => ?_)
    obtain ⟨rfl, -⟩ := q195
    refine ev_il (k_g_noted 11 rfl) rfl ?_
    refine ev_isw (k_g_noted 12 rfl) (le_b rfl) (show ev _ _ _ _ _ _ 26 [some (vA (xa 1)), some (vL c), none, some (vI i), some (vA (xa (rt pn i194 0))), some (vI i), none] _ _ _ _ from ?_)
    refine ev_ic (k_g_noted 13 rfl) ?_
    refine ev_isw (k_g_noted 14 rfl) (le_b rfl) (show ev _ _ _ _ _ _ 29 [some (vA (xa 1)), some (vL c), none, some (vI i), some (vA (xa (rt pn i194 0))), some (vI i), some (vI 0)] _ _ _ _ from ?_)
    have hii : i194 = i0 := by rw [c194] at hr; cases hr; rfl
    subst hii
    exact loop (na.length + 1) 0 i (by omega) (by simp [cnt]) rfl (fun z => z) (by omega)
set_option maxHeartbeats 4000000 in
theorem c_g_noted_bad (G : gt_T) (h : ab_H) (xa : Nat → Nat) (na la : List Nat) (σ : sg_T) (C : CR G h xa na la σ) (hw : WF σ) (pn : Nat) (hp : σ.1 3 = (pn : Int)) (hp2 : pn < 3) (c i : Int) (hr : rof σ pn c = none) : ct G M_g_noted 7 121 1 6 [vA (xa 1), vL c, vI i] h (rI fun z h' => False) (xT 9 h True) := by
  show ev _ _ _ _ _ _ 0 [some (vA (xa 1)), some (vL c), none, some (vI i), none, none, none] [] _ _ _
  refine ev_al (k_g_noted 0 rfl) rfl ?_
  refine ev_cV (k_g_noted 1 rfl) rfl v_g_now (cr_x C) rfl (c_g_now G _ xa na la σ C hw pn hp hp2) rfl (le_b rfl) (le_b rfl) (le_b rfl) k_n (k_R fun z196 h196 q196 => ?_)
  obtain ⟨rfl, rfl⟩ := q196
  refine ev_ll (k_g_noted 2 rfl) rfl ?_
  refine ev_cV (k_g_noted 3 rfl) rfl v_e_find (cr_ed C pn (by omega)) rfl (c_e_find G _ xa na la σ C hw pn (by omega) c) rfl (le_b rfl) (le_b rfl) (le_b rfl) k_n (k_R fun z197 h197 q197 => ?_)
  obtain ⟨rfl, rfl⟩ := q197
  refine ev_asw (k_g_noted 4 rfl) (le_b rfl) (show ev _ _ _ _ _ _ 10 [some (vA (xa 1)), some (vL c), none, some (vI i), some (vR (rwa xa pn (rof σ pn c))), none, none] _ _ _ _ from ?_)
  refine ev_alw (k_g_noted 5 rfl) rfl ?_
  refine ev_rn (k_g_noted 6 rfl) (fun c198 => ?_) (fun i198 c198 => ?_)
  · (try rw [c198])
    show ev _ _ _ _ _ _ 19 [some (vA (xa 1)), some (vL c), none, some (vI i), some (vN), none, none] [] _ _ _
    refine ev_ic (k_g_noted 9 rfl) ?_
    refine ev_cSA (C2 := 0) (S2 := 0) (k_g_noted 10 rfl) rfl v_g_allow (c_g_allow G _ false) rfl (le_b rfl) (le_b rfl) (le_b rfl) (le_b rfl) (le_b rfl) (k_t rfl (fun a h' q => xT_of trivial q.2.1 q.2.2)) (k_V fun h199 q199 => ?_)
    exact absurd q199.2 (by decide)
  · (try rw [c198])
    show ev _ _ _ _ _ _ 15 [some (vA (xa 1)), some (vL c), none, some (vI i), some (vA (xa (rt pn i198 0))), none, none] [] _ _ _
    have bi198 : i198 < nr σ pn := (rof_lt c198).1
    rw [c198] at hr; cases hr
