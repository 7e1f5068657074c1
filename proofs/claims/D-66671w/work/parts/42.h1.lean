def CR4 (G : gt_T) (h : ab_H) (xa : Nat → Nat) (na la : List Nat) (σ : sg_T) : Prop :=
  h (xa 4) = some (oR 4 1 [some (xa 5), some (xa 6), some (xa 7)]) ∧ (∀ e, e < 3 → h (xa (5 + e)) = some (oJ (5 + e) 2 [vI (e : Int), vA (xa (10 + 2 * e))])) ∧ (∀ e, e < 3 → EDR G h xa σ e)
  ∧ (AL G h (xa 20) 20 na ∧ (na.length : Int) = σ.1 11 ∧ ∀ k, k < na.length → NOT_ h xa σ (na.getD k 0) k) ∧ (AL G h (xa 22) 22 la ∧ (la.length : Int) = σ.1 16 ∧ ∀ k, k < la.length → LNK_ h xa σ (la.getD k 0) k)
  ∧ ∃ fc fp, h (xa 24) = some (oN 24 1 fc) ∧ h (xa 25) = some (oN 25 0 fp) ∧ fc.length = 40 ∧ fp.length = 40 ∧ ∀ i : Nat, (i : Int) < σ.1 21 → gd fc i = gd (σ.2 22) i ∧ gd fp i = gd (σ.2 23) i
theorem ROW_kp {G : gt_T} {P : Nat → Prop} {h h' : ab_H} (k : FRp P h h') {xa : Nat → Nat} {σ : sg_T} {e i : Nat} (hP : ∀ j, j < 4 → ¬ P (rt e i j)) (a : ROW G h xa σ e i) : ROW G h' xa σ e i := by
  obtain ⟨a1, ⟨ws, b1, b2⟩, bl, c1, c2⟩ := a
  refine ⟨kp k a1 (hP 0 (by omega)), ⟨ws, kp k b1 (hP 1 (by omega)), b2⟩, bl, AL_kp k c1 (hP 2 (by omega)) ?_, c2⟩
  have := hP 3 (by omega)
  unfold rt at *
  exact this
theorem EDR_kp {G : gt_T} {P : Nat → Prop} {h h' : ab_H} (k : FRp P h h') {xa : Nat → Nat} {σ : sg_T} {e : Nat} (hn : nr σ e ≤ 40) (hP : ∀ i j, i < 40 → j < 4 → ¬ P (rt e i j)) (h1 : ¬ P (10 + 2 * e)) (h2 : ¬ P (10 + 2 * e + 1)) (a : EDR G h xa σ e) : EDR G h' xa σ e :=
  ⟨AL_kp k a.1 h1 h2, fun i hi => ROW_kp k (fun j hj => hP i j (by omega) hj) (a.2 i hi)⟩
theorem NOT_kp {P : Nat → Prop} {h h' : ab_H} (k : FRp P h h') {xa : Nat → Nat} {σ : sg_T} {a m : Nat} (hP : ¬ P 30) (q : NOT_ h xa σ a m) : NOT_ h' xa σ a m := by
  obtain ⟨e, i, j, a1, a2, a3, a4, a5, a6, a7⟩ := q
  exact ⟨e, i, j, a1, a2, a3, a4, a5, a6, kp k a7 hP⟩
theorem LNK_kp {P : Nat → Prop} {h h' : ab_H} (k : FRp P h h') {xa : Nat → Nat} {σ : sg_T} {a m : Nat} (hP : ¬ P 31) (q : LNK_ h xa σ a m) : LNK_ h' xa σ a m := by
  obtain ⟨e, i, f, j, a1, a2, a3, a4, a5, a6, a7, a8, a9, a10⟩ := q
  exact ⟨e, i, f, j, a1, a2, a3, a4, a5, a6, a7, a8, a9, kp k a10 hP⟩
/-- a change of other tags -/
theorem CR4_kp {G : gt_T} {P : Nat → Prop} {h h' : ab_H} {xa : Nat → Nat} {na la : List Nat} {σ : sg_T} (hw : WF σ) (k : FRp P h h') (hP : ∀ t, P t → ¬ (4 ≤ t ∧ t < 40) ∧ ¬ (100 ≤ t ∧ t < 1000)) (C : CR4 G h xa na la σ) : CR4 G h' xa na la σ := by
  obtain ⟨c1, c2, c3, ⟨c4, c5, c6⟩, ⟨c7, c8, c9⟩, fc, fp, d1, d2, d3⟩ := C
  have hN : ∀ t, (4 ≤ t ∧ t < 40) ∨ (100 ≤ t ∧ t < 1000) → ¬ P t := fun t ht z => by have := hP t z; omega
  refine ⟨kp k c1 (hN _ (by omega)), fun e he => kp k (c2 e he) (hN _ (by omega)), fun e he => EDR_kp k (nr40 hw he) (fun i j hi hj => hN _ (by unfold rt; omega)) (hN _ (by omega)) (hN _ (by omega)) (c3 e he), ⟨AL_kp k c4 (hN _ (by omega)) (hN _ (by omega)), c5, fun m hm => NOT_kp k (hN _ (by omega)) (c6 m hm)⟩, ⟨AL_kp k c7 (hN _ (by omega)) (hN _ (by omega)), c8, fun m hm => LNK_kp k (hN _ (by omega)) (c9 m hm)⟩, fc, fp, kp k d1 (hN _ (by omega)), kp k d2 (hN _ (by omega)), d3⟩
theorem CR_kp {G : gt_T} {P : Nat → Prop} {h h' : ab_H} {xa : Nat → Nat} {na la : List Nat} {σ : sg_T} (hw : WF σ) (k : FRp P h h') (hP : ∀ t, P t → 40 ≤ t ∧ ¬ (100 ≤ t ∧ t < 1000)) (C : CR G h xa na la σ) : CR G h' xa na la σ := by
  obtain ⟨c1, ⟨at_, c2⟩, ⟨cs, c3, c4⟩, c5⟩ := C
  have hN : ∀ t, t < 40 → ¬ P t := fun t ht z => by have := hP t z; omega
  exact ⟨kp k c1 (hN _ (by omega)), ⟨at_, kp k c2 (hN _ (by omega))⟩, ⟨cs, kp k c3 (hN _ (by omega)), c4⟩, CR4_kp hw k (fun t z => by have := hP t z; omega) c5⟩
theorem CR_fM {G : gt_T} {h h' : ab_H} {xa : Nat → Nat} {na la : List Nat} {σ : sg_T} (hw : WF σ) (k : fM h h') (C : CR G h xa na la σ) : CR G h' xa na la σ :=
  CR_kp (P := fun t => 1000 ≤ t) hw (fun q o a b => k q o a (by omega)) (fun t z => by have z' : 1000 ≤ t := z; omega) C
theorem CR_edition {G : gt_T} {h h' : ab_H} {xa : Nat → Nat} {na la : List Nat} {σ : sg_T} (C : CR G h xa na la σ) (hw : WF σ) {e : Int} (f : FRp (t1 1) h h') (e1 : h' (xa 1) = some (oJ 1 0 (xf xa (sS σ 3 e)))) : CR G h' xa na la (sS σ 3 e) := by
  have c4 : CR4 G h' xa na la σ := CR4_kp hw f (fun t z => by unfold t1 at z; omega) C.2.2.2
  obtain ⟨-, ⟨at_, c2⟩, ⟨cs, c3, c5⟩, -⟩ := C
  exact ⟨e1, ⟨at_, kp f c2 (by unfold t1; omega)⟩, ⟨cs, kp f c3 (by unfold t1; omega), c5⟩, c4⟩
theorem CR_sign {G : gt_T} {h h' : ab_H} {xa : Nat → Nat} {na la : List Nat} {σ : sg_T} (C : CR G h xa na la σ) (hw : WF σ) {nn : Nat} {s at_ : Int} {cs : List Int} (hnn : σ.1 2 = (nn : Int)) (hn4 : nn < 400) (lt1 : (σ.2 1).length = 400) (f : FRp (t2 2) h h') (hr : h' (xa 2) = some (oJ 2 1 [vA (xa 3), vI ((nn : Int) + 1), vI at_])) (ht : h' (xa 3) = some (oN 3 2 (cs.set nn s))) (lcs : cs.length = 400) (hcs : ∀ i : Nat, (i : Int) < σ.1 2 → gd cs i = gd (σ.2 1) i) : CR G h' xa na la (sgd σ nn s) := by
  have c4 : CR4 G h' xa na la σ := CR4_kp hw f (fun t z => by unfold t2 at z; omega) C.2.2.2
  refine ⟨kp f C.1 (by unfold t2; omega), ⟨at_, hr⟩, ⟨_, ht, by rw [List.length_set]; exact lcs, fun i hi => ?_⟩, c4⟩
  have hi' : (i : Int) < (nn : Int) + 1 := hi
  show gd (cs.set nn s) i = gd ((σ.2 1).set nn s) i
  rw [gd_set _ (by omega), gd_set _ (by omega)]
  split
  · rfl
  · exact hcs i (by omega)
set_option maxHeartbeats 4000000 in
theorem c_g_edition (G : gt_T) (h : ab_H) (xa : Nat → Nat) (na la : List Nat) (σ : sg_T) (C : CR G h xa na la σ) (hw : WF σ) (pn : Nat) (hp : σ.1 3 = (pn : Int)) (hp2 : pn < 3) (e : Int) : ct G M_g_edition 2 42 0 0 [vA (xa 1), vI e] h (rB fun z h' => z = (inb e 0 2 && decide ((pn : Int) ≠ e)) ∧ CR G h' xa na la (if z then sS σ 3 e else σ) ∧ FRp (t1 1) h h') nT := by
  show ev _ _ _ _ _ _ 0 [some (vA (xa 1)), some (vI e)] [] _ _ _
  refine ev_il (k_g_edition 0 rfl) rfl ?_
  refine ev_cS (k_g_edition 1 rfl) rfl v_g_isEdition (c_g_isEdition G _ e) rfl (le_b rfl) (le_b rfl) (le_b rfl) k_n (k_B fun z259 h259 q259 => ?_)
  obtain ⟨rfl, rfl⟩ := q259
  refine ev_b_eq (k_g_edition 2 rfl) (fun c260 => ?_) (fun c260 => ?_)
  · have j260 := inb_f c260
    refine ev_ic (k_g_edition 7 rfl) ?_
    exact ev_zret (x := false) (k_g_edition 8 rfl) rfl (⟨false, rfl, by simp [c260], C, fr_rf _ _⟩)
  · have j260 := inb_t c260
    refine ev_al (k_g_edition 3 rfl) rfl ?_
    refine ev_get (v := vI (pn : Int)) (k_g_edition 4 rfl) (cr_x C) (congrArg (fun z => some (vI z)) hp) ?_
    refine ev_il (k_g_edition 5 rfl) rfl ?_
    refine ev_ic_ne (k_g_edition 6 rfl) (fun c261 => ?_) (fun c261 => ?_)
    · refine ev_al (k_g_edition 9 rfl) rfl ?_
      refine ev_il (k_g_edition 10 rfl) rfl ?_
      refine ev_putT (k_g_edition 11 rfl) (cr_x C) (le_b rfl) rfl rfl (fun h262 e262 f262 => ?_)
      refine ev_ic (k_g_edition 12 rfl) ?_
      exact ev_zret (x := true) (k_g_edition 13 rfl) rfl (⟨true, rfl, by simp [c260, c261], CR_edition C hw f262 e262, f262⟩)
    · refine ev_ic (k_g_edition 7 rfl) ?_
      exact ev_zret (x := false) (k_g_edition 8 rfl) rfl (⟨false, rfl, by simp [c260, c261], C, fr_rf _ _⟩)
set_option maxHeartbeats 4000000 in
theorem c_g_sign (G : gt_T) (h : ab_H) (xa : Nat → Nat) (na la : List Nat) (σ : sg_T) (C : CR G h xa na la σ) (hw : WF σ) (lt1 : (σ.2 1).length = 400) (nn : Nat) (hnn : σ.1 2 = (nn : Int)) (c : Int) : ct G M_g_sign 1 22 0 0 [vA (xa 1), vI c] h (rB fun z h' => z = (gS (sgc c) && decide (nn ≠ 400)) ∧ CR G h' xa na la (if z then sgd σ nn (sgc c) else σ) ∧ FRp (t2 2) h h') nT := by
  show ev _ _ _ _ _ _ 0 [some (vA (xa 1)), some (vI c), none, none] [] _ _ _
  obtain ⟨at_, hrd⟩ := cr_rd C
  obtain ⟨cs, htx, lcs, hcs⟩ := cr_tx C
  have hw2 := hw.1
  refine ev_il (k_g_sign_0 0 rfl) rfl ?_
  refine ev_bp (k_g_sign_0 1 rfl) ?_
  refine ev_bp (k_g_sign_0 2 rfl) ?_
  refine ev_cS (k_g_sign_0 3 rfl) rfl v_g_in (c_g_in G _ c 65 90) rfl (le_b rfl) (le_b rfl) (le_b rfl) k_n (k_B fun z263 h263 q263 => ?_)
  obtain ⟨rfl, rfl⟩ := q263
  refine ev_b_eq (k_g_sign_0 4 rfl) (fun c264 => ?_) (fun c264 => ?_)
  · have j264 := inb_f c264
    refine ev_il (k_g_sign_0 9 rfl) rfl ?_
    refine ev_is (k_g_sign_0 10 rfl) (le_b rfl) (show ev _ _ _ _ _ _ 20 [some (vA (xa 1)), some (vI c), some (vI c), none] _ _ _ _ from ?_)
    refine ev_il (k_g_sign_0 11 rfl) rfl ?_
    refine ev_bp (k_g_sign_0 12 rfl) ?_
    refine ev_bp (k_g_sign_0 13 rfl) ?_
    refine ev_cS (k_g_sign_0 14 rfl) rfl v_g_in (c_g_in G _ c 97 122) rfl (le_b rfl) (le_b rfl) (le_b rfl) k_n (k_B fun z265 h265 q265 => ?_)
    obtain ⟨rfl, rfl⟩ := q265
    refine ev_b_ne (k_g_sign_0 15 rfl) (fun c266 => ?_) (fun c266 => ?_)
    · have j266 := inb_t c266
      refine ev_ic (k_g_sign_0 30 rfl) ?_
      refine ev_goto (k_g_sign_0 31 rfl) ?_
      refine ev_is (k_g_sign_0 33 rfl) (le_b rfl) (show ev _ _ _ _ _ _ 66 [some (vA (xa 1)), some (vI c), some (vI c), some (vI 1)] _ _ _ _ from ?_)
      refine ev_il (k_g_sign_0 34 rfl) rfl ?_
      refine ev_if_eq (k_g_sign_0 35 rfl) (fun c => absurd c (by decide)) (fun _ => ?_)
      refine ev_al (k_g_sign_0 36 rfl) rfl ?_
      refine ev_get (v := vA (xa 2)) (k_g_sign_0 37 rfl) (cr_x C) rfl ?_
      refine ev_get (v := vI (nn : Int)) (k_g_sign_0 38 rfl) hrd (congrArg (fun z => some (vI z)) hnn) ?_
      refine ev_sp (k_g_sign_0 39 rfl) ?_
      refine ev_ic_ne (k_g_sign_0 40 rfl) (fun c268 => ?_) (fun c268 => ?_)
      · refine ev_al (k_g_sign_0 43 rfl) rfl ?_
        refine ev_get (v := vA (xa 2)) (k_g_sign_0 44 rfl) (cr_x C) rfl ?_
        refine ev_get (v := vA (xa 3)) (k_g_sign_0 45 rfl) hrd rfl ?_
        refine ev_al (k_g_sign_0 46 rfl) rfl ?_
        refine ev_get (v := vA (xa 2)) (k_g_sign_0 47 rfl) (cr_x C) rfl ?_
        refine ev_get (v := vI (nn : Int)) (k_g_sign_0 48 rfl) hrd (congrArg (fun z => some (vI z)) hnn) ?_
        refine ev_il (k_g_sign_0 49 rfl) rfl ?_
        refine ev_i2c (k_g_sign_0 50 rfl) (by omega) (by omega) ?_
        refine ev_castT (iN := nn) (k_g_sign_0 51 rfl) rfl htx (by omega) (by omega) (by omega) (fun h269 e269 f269 => ?_)
        have o270 := kp f269 (cr_x C) (by unfold t1; omega)
        have o271 := kp f269 hrd (by unfold t1; omega)
        refine ev_al (k_g_sign_0 52 rfl) rfl ?_
        refine ev_get (v := vA (xa 2)) (k_g_sign_0 53 rfl) o270 rfl ?_
        refine ev_dup (k_g_sign_0 54 rfl) rfl ?_
        refine ev_get (v := vI (nn : Int)) (k_g_sign_0 55 rfl) o271 (congrArg (fun z => some (vI z)) hnn) ?_
        refine ev_ic (k_g_sign_0 56 rfl) ?_
        refine ev_iadd (k_g_sign_0 57 rfl) (by omega) ?_
        refine ev_putT (k_g_sign_0 58 rfl) o271 (le_b rfl) rfl rfl (fun h272 e272 f272 => ?_)
        have o273 := kp f272 o270 (by unfold t1; omega)
        have o274 := kp f272 e269 (by unfold t1; omega)
        refine ev_ic (k_g_sign_0 59 rfl) ?_
        have ff : FRp (t2 2) h _ := fr_tr (fr_wk f269 (fun t z => Or.inr z)) f272 (fun t z => Or.inl z)
        exact ev_zret (x := true) (k_g_sign_1 0 rfl) rfl (⟨true, rfl, by rw [show sgc c = c by simp [sgc, c264]]; simp [gS, c266, c268]; try omega, by rw [show sgc c = c by simp [sgc, c264]]; exact CR_sign C hw hnn (by omega) lt1 ff e272 o274 lcs hcs, ff⟩)
      · refine ev_ic (k_g_sign_0 41 rfl) ?_
        exact ev_zret (x := false) (k_g_sign_0 42 rfl) rfl (⟨false, rfl, by rw [show sgc c = c by simp [sgc, c264]]; simp [gS, c266, c268]; try omega, C, fr_rf _ _⟩)
    · have j266 := inb_f c266
      refine ev_il (k_g_sign_0 16 rfl) rfl ?_
      refine ev_bp (k_g_sign_0 17 rfl) ?_
      refine ev_bp (k_g_sign_0 18 rfl) ?_
      refine ev_cS (k_g_sign_0 19 rfl) rfl v_g_in (c_g_in G _ c 48 57) rfl (le_b rfl) (le_b rfl) (le_b rfl) k_n (k_B fun z275 h275 q275 => ?_)
      obtain ⟨rfl, rfl⟩ := q275
      refine ev_b_ne (k_g_sign_0 20 rfl) (fun c276 => ?_) (fun c276 => ?_)
      · have j276 := inb_t c276
        refine ev_ic (k_g_sign_0 30 rfl) ?_
        refine ev_goto (k_g_sign_0 31 rfl) ?_
        refine ev_is (k_g_sign_0 33 rfl) (le_b rfl) (show ev _ _ _ _ _ _ 66 [some (vA (xa 1)), some (vI c), some (vI c), some (vI 1)] _ _ _ _ from ?_)
        refine ev_il (k_g_sign_0 34 rfl) rfl ?_
        refine ev_if_eq (k_g_sign_0 35 rfl) (fun c => absurd c (by decide)) (fun _ => ?_)
        refine ev_al (k_g_sign_0 36 rfl) rfl ?_
        refine ev_get (v := vA (xa 2)) (k_g_sign_0 37 rfl) (cr_x C) rfl ?_
        refine ev_get (v := vI (nn : Int)) (k_g_sign_0 38 rfl) hrd (congrArg (fun z => some (vI z)) hnn) ?_
        refine ev_sp (k_g_sign_0 39 rfl) ?_
        refine ev_ic_ne (k_g_sign_0 40 rfl) (fun c278 => ?_) (fun c278 => ?_)
        · refine ev_al (k_g_sign_0 43 rfl) rfl ?_
          refine ev_get (v := vA (xa 2)) (k_g_sign_0 44 rfl) (cr_x C) rfl ?_
          refine ev_get (v := vA (xa 3)) (k_g_sign_0 45 rfl) hrd rfl ?_
          refine ev_al (k_g_sign_0 46 rfl) rfl ?_
          refine ev_get (v := vA (xa 2)) (k_g_sign_0 47 rfl) (cr_x C) rfl ?_
          refine ev_get (v := vI (nn : Int)) (k_g_sign_0 48 rfl) hrd (congrArg (fun z => some (vI z)) hnn) ?_
          refine ev_il (k_g_sign_0 49 rfl) rfl ?_
          refine ev_i2c (k_g_sign_0 50 rfl) (by omega) (by omega) ?_
          refine ev_castT (iN := nn) (k_g_sign_0 51 rfl) rfl htx (by omega) (by omega) (by omega) (fun h279 e279 f279 => ?_)
          have o280 := kp f279 (cr_x C) (by unfold t1; omega)
          have o281 := kp f279 hrd (by unfold t1; omega)
          refine ev_al (k_g_sign_0 52 rfl) rfl ?_
          refine ev_get (v := vA (xa 2)) (k_g_sign_0 53 rfl) o280 rfl ?_
          refine ev_dup (k_g_sign_0 54 rfl) rfl ?_
          refine ev_get (v := vI (nn : Int)) (k_g_sign_0 55 rfl) o281 (congrArg (fun z => some (vI z)) hnn) ?_
          refine ev_ic (k_g_sign_0 56 rfl) ?_
          refine ev_iadd (k_g_sign_0 57 rfl) (by omega) ?_
          refine ev_putT (k_g_sign_0 58 rfl) o281 (le_b rfl) rfl rfl (fun h282 e282 f282 => ?_)
          have o283 := kp f282 o280 (by unfold t1; omega)
          have o284 := kp f282 e279 (by unfold t1; omega)
          refine ev_ic (k_g_sign_0 59 rfl) ?_
          have ff : FRp (t2 2) h _ := fr_tr (fr_wk f279 (fun t z => Or.inr z)) f282 (fun t z => Or.inl z)
          exact ev_zret (x := true) (k_g_sign_1 0 rfl) rfl (⟨true, rfl, by rw [show sgc c = c by simp [sgc, c264]]; simp [gS, c266, c276, c278]; try omega, by rw [show sgc c = c by simp [sgc, c264]]; exact CR_sign C hw hnn (by omega) lt1 ff e282 o284 lcs hcs, ff⟩)
        · refine ev_ic (k_g_sign_0 41 rfl) ?_
          exact ev_zret (x := false) (k_g_sign_0 42 rfl) rfl (⟨false, rfl, by rw [show sgc c = c by simp [sgc, c264]]; simp [gS, c266, c276, c278]; try omega, C, fr_rf _ _⟩)
      · have j276 := inb_f c276
        refine ev_il (k_g_sign_0 21 rfl) rfl ?_
        refine ev_bp (k_g_sign_0 22 rfl) ?_
        refine ev_ic_eq (k_g_sign_0 23 rfl) (fun c285 => ?_) (fun c285 => ?_)
        · refine ev_ic (k_g_sign_0 30 rfl) ?_
          refine ev_goto (k_g_sign_0 31 rfl) ?_
          refine ev_is (k_g_sign_0 33 rfl) (le_b rfl) (show ev _ _ _ _ _ _ 66 [some (vA (xa 1)), some (vI c), some (vI c), some (vI 1)] _ _ _ _ from ?_)
          refine ev_il (k_g_sign_0 34 rfl) rfl ?_
          refine ev_if_eq (k_g_sign_0 35 rfl) (fun c => absurd c (by decide)) (fun _ => ?_)
          refine ev_al (k_g_sign_0 36 rfl) rfl ?_
          refine ev_get (v := vA (xa 2)) (k_g_sign_0 37 rfl) (cr_x C) rfl ?_
          refine ev_get (v := vI (nn : Int)) (k_g_sign_0 38 rfl) hrd (congrArg (fun z => some (vI z)) hnn) ?_
          refine ev_sp (k_g_sign_0 39 rfl) ?_
          refine ev_ic_ne (k_g_sign_0 40 rfl) (fun c287 => ?_) (fun c287 => ?_)
          · refine ev_al (k_g_sign_0 43 rfl) rfl ?_
            refine ev_get (v := vA (xa 2)) (k_g_sign_0 44 rfl) (cr_x C) rfl ?_
            refine ev_get (v := vA (xa 3)) (k_g_sign_0 45 rfl) hrd rfl ?_
            refine ev_al (k_g_sign_0 46 rfl) rfl ?_
            refine ev_get (v := vA (xa 2)) (k_g_sign_0 47 rfl) (cr_x C) rfl ?_
            refine ev_get (v := vI (nn : Int)) (k_g_sign_0 48 rfl) hrd (congrArg (fun z => some (vI z)) hnn) ?_
            refine ev_il (k_g_sign_0 49 rfl) rfl ?_
            refine ev_i2c (k_g_sign_0 50 rfl) (by omega) (by omega) ?_
            refine ev_castT (iN := nn) (k_g_sign_0 51 rfl) rfl htx (by omega) (by omega) (by omega) (fun h288 e288 f288 => ?_)
            have o289 := kp f288 (cr_x C) (by unfold t1; omega)
            have o290 := kp f288 hrd (by unfold t1; omega)
            refine ev_al (k_g_sign_0 52 rfl) rfl ?_
            refine ev_get (v := vA (xa 2)) (k_g_sign_0 53 rfl) o289 rfl ?_
            refine ev_dup (k_g_sign_0 54 rfl) rfl ?_
            refine ev_get (v := vI (nn : Int)) (k_g_sign_0 55 rfl) o290 (congrArg (fun z => some (vI z)) hnn) ?_
            refine ev_ic (k_g_sign_0 56 rfl) ?_
            refine ev_iadd (k_g_sign_0 57 rfl) (by omega) ?_
            refine ev_putT (k_g_sign_0 58 rfl) o290 (le_b rfl) rfl rfl (fun h291 e291 f291 => ?_)
            have o292 := kp f291 o289 (by unfold t1; omega)
            have o293 := kp f291 e288 (by unfold t1; omega)
            refine ev_ic (k_g_sign_0 59 rfl) ?_
            have ff : FRp (t2 2) h _ := fr_tr (fr_wk f288 (fun t z => Or.inr z)) f291 (fun t z => Or.inl z)
            exact ev_zret (x := true) (k_g_sign_1 0 rfl) rfl (⟨true, rfl, by rw [show sgc c = c by simp [sgc, c264]]; simp [gS, c266, c276, c285, c287]; try omega, by rw [show sgc c = c by simp [sgc, c264]]; exact CR_sign C hw hnn (by omega) lt1 ff e291 o293 lcs hcs, ff⟩)
          · refine ev_ic (k_g_sign_0 41 rfl) ?_
            exact ev_zret (x := false) (k_g_sign_0 42 rfl) rfl (⟨false, rfl, by rw [show sgc c = c by simp [sgc, c264]]; simp [gS, c266, c276, c285, c287]; try omega, C, fr_rf _ _⟩)
        · refine ev_il (k_g_sign_0 24 rfl) rfl ?_
          refine ev_bp (k_g_sign_0 25 rfl) ?_
          refine ev_ic_eq (k_g_sign_0 26 rfl) (fun c294 => ?_) (fun c294 => ?_)
          · refine ev_ic (k_g_sign_0 30 rfl) ?_
            refine ev_goto (k_g_sign_0 31 rfl) ?_
            refine ev_is (k_g_sign_0 33 rfl) (le_b rfl) (show ev _ _ _ _ _ _ 66 [some (vA (xa 1)), some (vI c), some (vI c), some (vI 1)] _ _ _ _ from ?_)
            refine ev_il (k_g_sign_0 34 rfl) rfl ?_
            refine ev_if_eq (k_g_sign_0 35 rfl) (fun c => absurd c (by decide)) (fun _ => ?_)
            refine ev_al (k_g_sign_0 36 rfl) rfl ?_
            refine ev_get (v := vA (xa 2)) (k_g_sign_0 37 rfl) (cr_x C) rfl ?_
            refine ev_get (v := vI (nn : Int)) (k_g_sign_0 38 rfl) hrd (congrArg (fun z => some (vI z)) hnn) ?_
            refine ev_sp (k_g_sign_0 39 rfl) ?_
            refine ev_ic_ne (k_g_sign_0 40 rfl) (fun c296 => ?_) (fun c296 => ?_)
            · refine ev_al (k_g_sign_0 43 rfl) rfl ?_
              refine ev_get (v := vA (xa 2)) (k_g_sign_0 44 rfl) (cr_x C) rfl ?_
              refine ev_get (v := vA (xa 3)) (k_g_sign_0 45 rfl) hrd rfl ?_
              refine ev_al (k_g_sign_0 46 rfl) rfl ?_
              refine ev_get (v := vA (xa 2)) (k_g_sign_0 47 rfl) (cr_x C) rfl ?_
              refine ev_get (v := vI (nn : Int)) (k_g_sign_0 48 rfl) hrd (congrArg (fun z => some (vI z)) hnn) ?_
              refine ev_il (k_g_sign_0 49 rfl) rfl ?_
              refine ev_i2c (k_g_sign_0 50 rfl) (by omega) (by omega) ?_
              refine ev_castT (iN := nn) (k_g_sign_0 51 rfl) rfl htx (by omega) (by omega) (by omega) (fun h297 e297 f297 => ?_)
              have o298 := kp f297 (cr_x C) (by unfold t1; omega)
              have o299 := kp f297 hrd (by unfold t1; omega)
              refine ev_al (k_g_sign_0 52 rfl) rfl ?_
              refine ev_get (v := vA (xa 2)) (k_g_sign_0 53 rfl) o298 rfl ?_
              refine ev_dup (k_g_sign_0 54 rfl) rfl ?_
              refine ev_get (v := vI (nn : Int)) (k_g_sign_0 55 rfl) o299 (congrArg (fun z => some (vI z)) hnn) ?_
              refine ev_ic (k_g_sign_0 56 rfl) ?_
              refine ev_iadd (k_g_sign_0 57 rfl) (by omega) ?_
              refine ev_putT (k_g_sign_0 58 rfl) o299 (le_b rfl) rfl rfl (fun h300 e300 f300 => ?_)
              have o301 := kp f300 o298 (by unfold t1; omega)
              have o302 := kp f300 e297 (by unfold t1; omega)
              refine ev_ic (k_g_sign_0 59 rfl) ?_
              have ff : FRp (t2 2) h _ := fr_tr (fr_wk f297 (fun t z => Or.inr z)) f300 (fun t z => Or.inl z)
              exact ev_zret (x := true) (k_g_sign_1 0 rfl) rfl (⟨true, rfl, by rw [show sgc c = c by simp [sgc, c264]]; simp [gS, c266, c276, c285, c294, c296]; try omega, by rw [show sgc c = c by simp [sgc, c264]]; exact CR_sign C hw hnn (by omega) lt1 ff e300 o302 lcs hcs, ff⟩)
            · refine ev_ic (k_g_sign_0 41 rfl) ?_
              exact ev_zret (x := false) (k_g_sign_0 42 rfl) rfl (⟨false, rfl, by rw [show sgc c = c by simp [sgc, c264]]; simp [gS, c266, c276, c285, c294, c296]; try omega, C, fr_rf _ _⟩)
          · refine ev_il (k_g_sign_0 27 rfl) rfl ?_
            refine ev_bp (k_g_sign_0 28 rfl) ?_
            refine ev_ic_ne (k_g_sign_0 29 rfl) (fun c303 => ?_) (fun c303 => ?_)
            · refine ev_ic (k_g_sign_0 32 rfl) ?_
              refine ev_is (k_g_sign_0 33 rfl) (le_b rfl) (show ev _ _ _ _ _ _ 66 [some (vA (xa 1)), some (vI c), some (vI c), some (vI 0)] _ _ _ _ from ?_)
              refine ev_il (k_g_sign_0 34 rfl) rfl ?_
              refine ev_if_eq (k_g_sign_0 35 rfl) (fun _ => ?_) (fun c => absurd c (by decide))
              refine ev_ic (k_g_sign_0 41 rfl) ?_
              exact ev_zret (x := false) (k_g_sign_0 42 rfl) rfl (⟨false, rfl, by rw [show sgc c = c by simp [sgc, c264]]; simp [gS, c266, c276, c285, c294, c303]; try omega, C, fr_rf _ _⟩)
            · refine ev_ic (k_g_sign_0 30 rfl) ?_
              refine ev_goto (k_g_sign_0 31 rfl) ?_
              refine ev_is (k_g_sign_0 33 rfl) (le_b rfl) (show ev _ _ _ _ _ _ 66 [some (vA (xa 1)), some (vI c), some (vI c), some (vI 1)] _ _ _ _ from ?_)
              refine ev_il (k_g_sign_0 34 rfl) rfl ?_
              refine ev_if_eq (k_g_sign_0 35 rfl) (fun c => absurd c (by decide)) (fun _ => ?_)
              refine ev_al (k_g_sign_0 36 rfl) rfl ?_
              refine ev_get (v := vA (xa 2)) (k_g_sign_0 37 rfl) (cr_x C) rfl ?_
              refine ev_get (v := vI (nn : Int)) (k_g_sign_0 38 rfl) hrd (congrArg (fun z => some (vI z)) hnn) ?_
              refine ev_sp (k_g_sign_0 39 rfl) ?_
              refine ev_ic_ne (k_g_sign_0 40 rfl) (fun c306 => ?_) (fun c306 => ?_)
              · refine ev_al (k_g_sign_0 43 rfl) rfl ?_
                refine ev_get (v := vA (xa 2)) (k_g_sign_0 44 rfl) (cr_x C) rfl ?_
                refine ev_get (v := vA (xa 3)) (k_g_sign_0 45 rfl) hrd rfl ?_
                refine ev_al (k_g_sign_0 46 rfl) rfl ?_
                refine ev_get (v := vA (xa 2)) (k_g_sign_0 47 rfl) (cr_x C) rfl ?_
                refine ev_get (v := vI (nn : Int)) (k_g_sign_0 48 rfl) hrd (congrArg (fun z => some (vI z)) hnn) ?_
                refine ev_il (k_g_sign_0 49 rfl) rfl ?_
                refine ev_i2c (k_g_sign_0 50 rfl) (by omega) (by omega) ?_
                refine ev_castT (iN := nn) (k_g_sign_0 51 rfl) rfl htx (by omega) (by omega) (by omega) (fun h307 e307 f307 => ?_)
                have o308 := kp f307 (cr_x C) (by unfold t1; omega)
                have o309 := kp f307 hrd (by unfold t1; omega)
                refine ev_al (k_g_sign_0 52 rfl) rfl ?_
                refine ev_get (v := vA (xa 2)) (k_g_sign_0 53 rfl) o308 rfl ?_
                refine ev_dup (k_g_sign_0 54 rfl) rfl ?_
                refine ev_get (v := vI (nn : Int)) (k_g_sign_0 55 rfl) o309 (congrArg (fun z => some (vI z)) hnn) ?_
                refine ev_ic (k_g_sign_0 56 rfl) ?_
                refine ev_iadd (k_g_sign_0 57 rfl) (by omega) ?_
                refine ev_putT (k_g_sign_0 58 rfl) o309 (le_b rfl) rfl rfl (fun h310 e310 f310 => ?_)
                have o311 := kp f310 o308 (by unfold t1; omega)
                have o312 := kp f310 e307 (by unfold t1; omega)
                refine ev_ic (k_g_sign_0 59 rfl) ?_
                have ff : FRp (t2 2) h _ := fr_tr (fr_wk f307 (fun t z => Or.inr z)) f310 (fun t z => Or.inl z)
                exact ev_zret (x := true) (k_g_sign_1 0 rfl) rfl (⟨true, rfl, by rw [show sgc c = c by simp [sgc, c264]]; simp [gS, c266, c276, c285, c294, c303, c306]; try omega, by rw [show sgc c = c by simp [sgc, c264]]; exact CR_sign C hw hnn (by omega) lt1 ff e310 o312 lcs hcs, ff⟩)
              · refine ev_ic (k_g_sign_0 41 rfl) ?_
                exact ev_zret (x := false) (k_g_sign_0 42 rfl) rfl (⟨false, rfl, by rw [show sgc c = c by simp [sgc, c264]]; simp [gS, c266, c276, c285, c294, c303, c306]; try omega, C, fr_rf _ _⟩)
  · have j264 := inb_t c264
    refine ev_il (k_g_sign_0 5 rfl) rfl ?_
    refine ev_bp (k_g_sign_0 6 rfl) ?_
    refine ev_iadd (k_g_sign_0 7 rfl) (by omega) ?_
    refine ev_goto (k_g_sign_0 8 rfl) ?_
    refine ev_is (k_g_sign_0 10 rfl) (le_b rfl) (show ev _ _ _ _ _ _ 20 [some (vA (xa 1)), some (vI c), some (vI (c + 32)), none] _ _ _ _ from ?_)
    refine ev_il (k_g_sign_0 11 rfl) rfl ?_
    refine ev_bp (k_g_sign_0 12 rfl) ?_
    refine ev_bp (k_g_sign_0 13 rfl) ?_
    refine ev_cS (k_g_sign_0 14 rfl) rfl v_g_in (c_g_in G _ (c + 32) 97 122) rfl (le_b rfl) (le_b rfl) (le_b rfl) k_n (k_B fun z313 h313 q313 => ?_)
    obtain ⟨rfl, rfl⟩ := q313
    refine ev_b_ne (k_g_sign_0 15 rfl) (fun c314 => ?_) (fun c314 => ?_)
    · have j314 := inb_t c314
      refine ev_ic (k_g_sign_0 30 rfl) ?_
      refine ev_goto (k_g_sign_0 31 rfl) ?_
      refine ev_is (k_g_sign_0 33 rfl) (le_b rfl) (show ev _ _ _ _ _ _ 66 [some (vA (xa 1)), some (vI c), some (vI (c + 32)), some (vI 1)] _ _ _ _ from ?_)
      refine ev_il (k_g_sign_0 34 rfl) rfl ?_
      refine ev_if_eq (k_g_sign_0 35 rfl) (fun c => absurd c (by decide)) (fun _ => ?_)
      refine ev_al (k_g_sign_0 36 rfl) rfl ?_
      refine ev_get (v := vA (xa 2)) (k_g_sign_0 37 rfl) (cr_x C) rfl ?_
      refine ev_get (v := vI (nn : Int)) (k_g_sign_0 38 rfl) hrd (congrArg (fun z => some (vI z)) hnn) ?_
      refine ev_sp (k_g_sign_0 39 rfl) ?_
      refine ev_ic_ne (k_g_sign_0 40 rfl) (fun c316 => ?_) (fun c316 => ?_)
      · refine ev_al (k_g_sign_0 43 rfl) rfl ?_
        refine ev_get (v := vA (xa 2)) (k_g_sign_0 44 rfl) (cr_x C) rfl ?_
        refine ev_get (v := vA (xa 3)) (k_g_sign_0 45 rfl) hrd rfl ?_
        refine ev_al (k_g_sign_0 46 rfl) rfl ?_
        refine ev_get (v := vA (xa 2)) (k_g_sign_0 47 rfl) (cr_x C) rfl ?_
        refine ev_get (v := vI (nn : Int)) (k_g_sign_0 48 rfl) hrd (congrArg (fun z => some (vI z)) hnn) ?_
        refine ev_il (k_g_sign_0 49 rfl) rfl ?_
        refine ev_i2c (k_g_sign_0 50 rfl) (by omega) (by omega) ?_
        refine ev_castT (iN := nn) (k_g_sign_0 51 rfl) rfl htx (by omega) (by omega) (by omega) (fun h317 e317 f317 => ?_)
        have o318 := kp f317 (cr_x C) (by unfold t1; omega)
        have o319 := kp f317 hrd (by unfold t1; omega)
        refine ev_al (k_g_sign_0 52 rfl) rfl ?_
        refine ev_get (v := vA (xa 2)) (k_g_sign_0 53 rfl) o318 rfl ?_
        refine ev_dup (k_g_sign_0 54 rfl) rfl ?_
        refine ev_get (v := vI (nn : Int)) (k_g_sign_0 55 rfl) o319 (congrArg (fun z => some (vI z)) hnn) ?_
        refine ev_ic (k_g_sign_0 56 rfl) ?_
        refine ev_iadd (k_g_sign_0 57 rfl) (by omega) ?_
        refine ev_putT (k_g_sign_0 58 rfl) o319 (le_b rfl) rfl rfl (fun h320 e320 f320 => ?_)
        have o321 := kp f320 o318 (by unfold t1; omega)
        have o322 := kp f320 e317 (by unfold t1; omega)
        refine ev_ic (k_g_sign_0 59 rfl) ?_
        have ff : FRp (t2 2) h _ := fr_tr (fr_wk f317 (fun t z => Or.inr z)) f320 (fun t z => Or.inl z)
        exact ev_zret (x := true) (k_g_sign_1 0 rfl) rfl (⟨true, rfl, by rw [show sgc c = c + 32 by simp [sgc, c264]]; simp [gS, c314, c316]; try omega, by rw [show sgc c = c + 32 by simp [sgc, c264]]; exact CR_sign C hw hnn (by omega) lt1 ff e320 o322 lcs hcs, ff⟩)
      · refine ev_ic (k_g_sign_0 41 rfl) ?_
        exact ev_zret (x := false) (k_g_sign_0 42 rfl) rfl (⟨false, rfl, by rw [show sgc c = c + 32 by simp [sgc, c264]]; simp [gS, c314, c316]; try omega, C, fr_rf _ _⟩)
    · have j314 := inb_f c314
      refine ev_il (k_g_sign_0 16 rfl) rfl ?_
      refine ev_bp (k_g_sign_0 17 rfl) ?_
      refine ev_bp (k_g_sign_0 18 rfl) ?_
      refine ev_cS (k_g_sign_0 19 rfl) rfl v_g_in (c_g_in G _ (c + 32) 48 57) rfl (le_b rfl) (le_b rfl) (le_b rfl) k_n (k_B fun z323 h323 q323 => ?_)
      obtain ⟨rfl, rfl⟩ := q323
      refine ev_b_ne (k_g_sign_0 20 rfl) (fun c324 => ?_) (fun c324 => ?_)
      · have j324 := inb_t c324
        refine ev_ic (k_g_sign_0 30 rfl) ?_
        refine ev_goto (k_g_sign_0 31 rfl) ?_
        refine ev_is (k_g_sign_0 33 rfl) (le_b rfl) (show ev _ _ _ _ _ _ 66 [some (vA (xa 1)), some (vI c), some (vI (c + 32)), some (vI 1)] _ _ _ _ from ?_)
        refine ev_il (k_g_sign_0 34 rfl) rfl ?_
        refine ev_if_eq (k_g_sign_0 35 rfl) (fun c => absurd c (by decide)) (fun _ => ?_)
        refine ev_al (k_g_sign_0 36 rfl) rfl ?_
        refine ev_get (v := vA (xa 2)) (k_g_sign_0 37 rfl) (cr_x C) rfl ?_
        refine ev_get (v := vI (nn : Int)) (k_g_sign_0 38 rfl) hrd (congrArg (fun z => some (vI z)) hnn) ?_
        refine ev_sp (k_g_sign_0 39 rfl) ?_
        refine ev_ic_ne (k_g_sign_0 40 rfl) (fun c326 => ?_) (fun c326 => ?_)
        · refine ev_al (k_g_sign_0 43 rfl) rfl ?_
          refine ev_get (v := vA (xa 2)) (k_g_sign_0 44 rfl) (cr_x C) rfl ?_
          refine ev_get (v := vA (xa 3)) (k_g_sign_0 45 rfl) hrd rfl ?_
          refine ev_al (k_g_sign_0 46 rfl) rfl ?_
          refine ev_get (v := vA (xa 2)) (k_g_sign_0 47 rfl) (cr_x C) rfl ?_
          refine ev_get (v := vI (nn : Int)) (k_g_sign_0 48 rfl) hrd (congrArg (fun z => some (vI z)) hnn) ?_
          refine ev_il (k_g_sign_0 49 rfl) rfl ?_
          refine ev_i2c (k_g_sign_0 50 rfl) (by omega) (by omega) ?_
          refine ev_castT (iN := nn) (k_g_sign_0 51 rfl) rfl htx (by omega) (by omega) (by omega) (fun h327 e327 f327 => ?_)
          have o328 := kp f327 (cr_x C) (by unfold t1; omega)
          have o329 := kp f327 hrd (by unfold t1; omega)
          refine ev_al (k_g_sign_0 52 rfl) rfl ?_
          refine ev_get (v := vA (xa 2)) (k_g_sign_0 53 rfl) o328 rfl ?_
          refine ev_dup (k_g_sign_0 54 rfl) rfl ?_
          refine ev_get (v := vI (nn : Int)) (k_g_sign_0 55 rfl) o329 (congrArg (fun z => some (vI z)) hnn) ?_
          refine ev_ic (k_g_sign_0 56 rfl) ?_
          refine ev_iadd (k_g_sign_0 57 rfl) (by omega) ?_
          refine ev_putT (k_g_sign_0 58 rfl) o329 (le_b rfl) rfl rfl (fun h330 e330 f330 => ?_)
          have o331 := kp f330 o328 (by unfold t1; omega)
          have o332 := kp f330 e327 (by unfold t1; omega)
          refine ev_ic (k_g_sign_0 59 rfl) ?_
          have ff : FRp (t2 2) h _ := fr_tr (fr_wk f327 (fun t z => Or.inr z)) f330 (fun t z => Or.inl z)
          exact ev_zret (x := true) (k_g_sign_1 0 rfl) rfl (⟨true, rfl, by rw [show sgc c = c + 32 by simp [sgc, c264]]; simp [gS, c314, c324, c326]; try omega, by rw [show sgc c = c + 32 by simp [sgc, c264]]; exact CR_sign C hw hnn (by omega) lt1 ff e330 o332 lcs hcs, ff⟩)
        · refine ev_ic (k_g_sign_0 41 rfl) ?_
          exact ev_zret (x := false) (k_g_sign_0 42 rfl) rfl (⟨false, rfl, by rw [show sgc c = c + 32 by simp [sgc, c264]]; simp [gS, c314, c324, c326]; try omega, C, fr_rf _ _⟩)
      · have j324 := inb_f c324
        refine ev_il (k_g_sign_0 21 rfl) rfl ?_
        refine ev_bp (k_g_sign_0 22 rfl) ?_
        refine ev_ic_eq (k_g_sign_0 23 rfl) (fun c333 => ?_) (fun c333 => ?_)
        · refine ev_ic (k_g_sign_0 30 rfl) ?_
          refine ev_goto (k_g_sign_0 31 rfl) ?_
          refine ev_is (k_g_sign_0 33 rfl) (le_b rfl) (show ev _ _ _ _ _ _ 66 [some (vA (xa 1)), some (vI c), some (vI (c + 32)), some (vI 1)] _ _ _ _ from ?_)
          refine ev_il (k_g_sign_0 34 rfl) rfl ?_
          refine ev_if_eq (k_g_sign_0 35 rfl) (fun c => absurd c (by decide)) (fun _ => ?_)
          refine ev_al (k_g_sign_0 36 rfl) rfl ?_
          refine ev_get (v := vA (xa 2)) (k_g_sign_0 37 rfl) (cr_x C) rfl ?_
          refine ev_get (v := vI (nn : Int)) (k_g_sign_0 38 rfl) hrd (congrArg (fun z => some (vI z)) hnn) ?_
          refine ev_sp (k_g_sign_0 39 rfl) ?_
          refine ev_ic_ne (k_g_sign_0 40 rfl) (fun c335 => ?_) (fun c335 => ?_)
          · refine ev_al (k_g_sign_0 43 rfl) rfl ?_
            refine ev_get (v := vA (xa 2)) (k_g_sign_0 44 rfl) (cr_x C) rfl ?_
            refine ev_get (v := vA (xa 3)) (k_g_sign_0 45 rfl) hrd rfl ?_
            refine ev_al (k_g_sign_0 46 rfl) rfl ?_
            refine ev_get (v := vA (xa 2)) (k_g_sign_0 47 rfl) (cr_x C) rfl ?_
            refine ev_get (v := vI (nn : Int)) (k_g_sign_0 48 rfl) hrd (congrArg (fun z => some (vI z)) hnn) ?_
            refine ev_il (k_g_sign_0 49 rfl) rfl ?_
            refine ev_i2c (k_g_sign_0 50 rfl) (by omega) (by omega) ?_
            refine ev_castT (iN := nn) (k_g_sign_0 51 rfl) rfl htx (by omega) (by omega) (by omega) (fun h336 e336 f336 => ?_)
            have o337 := kp f336 (cr_x C) (by unfold t1; omega)
            have o338 := kp f336 hrd (by unfold t1; omega)
            refine ev_al (k_g_sign_0 52 rfl) rfl ?_
            refine ev_get (v := vA (xa 2)) (k_g_sign_0 53 rfl) o337 rfl ?_
            refine ev_dup (k_g_sign_0 54 rfl) rfl ?_
            refine ev_get (v := vI (nn : Int)) (k_g_sign_0 55 rfl) o338 (congrArg (fun z => some (vI z)) hnn) ?_
            refine ev_ic (k_g_sign_0 56 rfl) ?_
            refine ev_iadd (k_g_sign_0 57 rfl) (by omega) ?_
            refine ev_putT (k_g_sign_0 58 rfl) o338 (le_b rfl) rfl rfl (fun h339 e339 f339 => ?_)
            have o340 := kp f339 o337 (by unfold t1; omega)
            have o341 := kp f339 e336 (by unfold t1; omega)
            refine ev_ic (k_g_sign_0 59 rfl) ?_
            have ff : FRp (t2 2) h _ := fr_tr (fr_wk f336 (fun t z => Or.inr z)) f339 (fun t z => Or.inl z)
            exact ev_zret (x := true) (k_g_sign_1 0 rfl) rfl (⟨true, rfl, by rw [show sgc c = c + 32 by simp [sgc, c264]]; simp [gS, c314, c324, c333, c335]; try omega, by rw [show sgc c = c + 32 by simp [sgc, c264]]; exact CR_sign C hw hnn (by omega) lt1 ff e339 o341 lcs hcs, ff⟩)
          · refine ev_ic (k_g_sign_0 41 rfl) ?_
            exact ev_zret (x := false) (k_g_sign_0 42 rfl) rfl (⟨false, rfl, by rw [show sgc c = c + 32 by simp [sgc, c264]]; simp [gS, c314, c324, c333, c335]; try omega, C, fr_rf _ _⟩)
        · refine ev_il (k_g_sign_0 24 rfl) rfl ?_
          refine ev_bp (k_g_sign_0 25 rfl) ?_
          refine ev_ic_eq (k_g_sign_0 26 rfl) (fun c342 => ?_) (fun c342 => ?_)
          · refine ev_ic (k_g_sign_0 30 rfl) ?_
            refine ev_goto (k_g_sign_0 31 rfl) ?_
            refine ev_is (k_g_sign_0 33 rfl) (le_b rfl) (show ev _ _ _ _ _ _ 66 [some (vA (xa 1)), some (vI c), some (vI (c + 32)), some (vI 1)] _ _ _ _ from ?_)
            refine ev_il (k_g_sign_0 34 rfl) rfl ?_
            refine ev_if_eq (k_g_sign_0 35 rfl) (fun c => absurd c (by decide)) (fun _ => ?_)
            refine ev_al (k_g_sign_0 36 rfl) rfl ?_
            refine ev_get (v := vA (xa 2)) (k_g_sign_0 37 rfl) (cr_x C) rfl ?_
            refine ev_get (v := vI (nn : Int)) (k_g_sign_0 38 rfl) hrd (congrArg (fun z => some (vI z)) hnn) ?_
            refine ev_sp (k_g_sign_0 39 rfl) ?_
            refine ev_ic_ne (k_g_sign_0 40 rfl) (fun c344 => ?_) (fun c344 => ?_)
            · refine ev_al (k_g_sign_0 43 rfl) rfl ?_
              refine ev_get (v := vA (xa 2)) (k_g_sign_0 44 rfl) (cr_x C) rfl ?_
              refine ev_get (v := vA (xa 3)) (k_g_sign_0 45 rfl) hrd rfl ?_
              refine ev_al (k_g_sign_0 46 rfl) rfl ?_
              refine ev_get (v := vA (xa 2)) (k_g_sign_0 47 rfl) (cr_x C) rfl ?_
              refine ev_get (v := vI (nn : Int)) (k_g_sign_0 48 rfl) hrd (congrArg (fun z => some (vI z)) hnn) ?_
              refine ev_il (k_g_sign_0 49 rfl) rfl ?_
              refine ev_i2c (k_g_sign_0 50 rfl) (by omega) (by omega) ?_
              refine ev_castT (iN := nn) (k_g_sign_0 51 rfl) rfl htx (by omega) (by omega) (by omega) (fun h345 e345 f345 => ?_)
              have o346 := kp f345 (cr_x C) (by unfold t1; omega)
              have o347 := kp f345 hrd (by unfold t1; omega)
              refine ev_al (k_g_sign_0 52 rfl) rfl ?_
              refine ev_get (v := vA (xa 2)) (k_g_sign_0 53 rfl) o346 rfl ?_
              refine ev_dup (k_g_sign_0 54 rfl) rfl ?_
              refine ev_get (v := vI (nn : Int)) (k_g_sign_0 55 rfl) o347 (congrArg (fun z => some (vI z)) hnn) ?_
              refine ev_ic (k_g_sign_0 56 rfl) ?_
              refine ev_iadd (k_g_sign_0 57 rfl) (by omega) ?_
              refine ev_putT (k_g_sign_0 58 rfl) o347 (le_b rfl) rfl rfl (fun h348 e348 f348 => ?_)
              have o349 := kp f348 o346 (by unfold t1; omega)
              have o350 := kp f348 e345 (by unfold t1; omega)
              refine ev_ic (k_g_sign_0 59 rfl) ?_
              have ff : FRp (t2 2) h _ := fr_tr (fr_wk f345 (fun t z => Or.inr z)) f348 (fun t z => Or.inl z)
              exact ev_zret (x := true) (k_g_sign_1 0 rfl) rfl (⟨true, rfl, by rw [show sgc c = c + 32 by simp [sgc, c264]]; simp [gS, c314, c324, c333, c342, c344]; try omega, by rw [show sgc c = c + 32 by simp [sgc, c264]]; exact CR_sign C hw hnn (by omega) lt1 ff e348 o350 lcs hcs, ff⟩)
            · refine ev_ic (k_g_sign_0 41 rfl) ?_
              exact ev_zret (x := false) (k_g_sign_0 42 rfl) rfl (⟨false, rfl, by rw [show sgc c = c + 32 by simp [sgc, c264]]; simp [gS, c314, c324, c333, c342, c344]; try omega, C, fr_rf _ _⟩)
          · refine ev_il (k_g_sign_0 27 rfl) rfl ?_
            refine ev_bp (k_g_sign_0 28 rfl) ?_
            refine ev_ic_ne (k_g_sign_0 29 rfl) (fun c351 => ?_) (fun c351 => ?_)
            · refine ev_ic (k_g_sign_0 32 rfl) ?_
              refine ev_is (k_g_sign_0 33 rfl) (le_b rfl) (show ev _ _ _ _ _ _ 66 [some (vA (xa 1)), some (vI c), some (vI (c + 32)), some (vI 0)] _ _ _ _ from ?_)
              refine ev_il (k_g_sign_0 34 rfl) rfl ?_
              refine ev_if_eq (k_g_sign_0 35 rfl) (fun _ => ?_) (fun c => absurd c (by decide))
              refine ev_ic (k_g_sign_0 41 rfl) ?_
              exact ev_zret (x := false) (k_g_sign_0 42 rfl) rfl (⟨false, rfl, by rw [show sgc c = c + 32 by simp [sgc, c264]]; simp [gS, c314, c324, c333, c342, c351]; try omega, C, fr_rf _ _⟩)
            · refine ev_ic (k_g_sign_0 30 rfl) ?_
              refine ev_goto (k_g_sign_0 31 rfl) ?_
              refine ev_is (k_g_sign_0 33 rfl) (le_b rfl) (show ev _ _ _ _ _ _ 66 [some (vA (xa 1)), some (vI c), some (vI (c + 32)), some (vI 1)] _ _ _ _ from ?_)
              refine ev_il (k_g_sign_0 34 rfl) rfl ?_
              refine ev_if_eq (k_g_sign_0 35 rfl) (fun c => absurd c (by decide)) (fun _ => ?_)
              refine ev_al (k_g_sign_0 36 rfl) rfl ?_
              refine ev_get (v := vA (xa 2)) (k_g_sign_0 37 rfl) (cr_x C) rfl ?_
              refine ev_get (v := vI (nn : Int)) (k_g_sign_0 38 rfl) hrd (congrArg (fun z => some (vI z)) hnn) ?_
              refine ev_sp (k_g_sign_0 39 rfl) ?_
              refine ev_ic_ne (k_g_sign_0 40 rfl) (fun c354 => ?_) (fun c354 => ?_)
              · refine ev_al (k_g_sign_0 43 rfl) rfl ?_
                refine ev_get (v := vA (xa 2)) (k_g_sign_0 44 rfl) (cr_x C) rfl ?_
                refine ev_get (v := vA (xa 3)) (k_g_sign_0 45 rfl) hrd rfl ?_
                refine ev_al (k_g_sign_0 46 rfl) rfl ?_
                refine ev_get (v := vA (xa 2)) (k_g_sign_0 47 rfl) (cr_x C) rfl ?_
                refine ev_get (v := vI (nn : Int)) (k_g_sign_0 48 rfl) hrd (congrArg (fun z => some (vI z)) hnn) ?_
                refine ev_il (k_g_sign_0 49 rfl) rfl ?_
                refine ev_i2c (k_g_sign_0 50 rfl) (by omega) (by omega) ?_
                refine ev_castT (iN := nn) (k_g_sign_0 51 rfl) rfl htx (by omega) (by omega) (by omega) (fun h355 e355 f355 => ?_)
                have o356 := kp f355 (cr_x C) (by unfold t1; omega)
                have o357 := kp f355 hrd (by unfold t1; omega)
                refine ev_al (k_g_sign_0 52 rfl) rfl ?_
                refine ev_get (v := vA (xa 2)) (k_g_sign_0 53 rfl) o356 rfl ?_
                refine ev_dup (k_g_sign_0 54 rfl) rfl ?_
                refine ev_get (v := vI (nn : Int)) (k_g_sign_0 55 rfl) o357 (congrArg (fun z => some (vI z)) hnn) ?_
                refine ev_ic (k_g_sign_0 56 rfl) ?_
                refine ev_iadd (k_g_sign_0 57 rfl) (by omega) ?_
                refine ev_putT (k_g_sign_0 58 rfl) o357 (le_b rfl) rfl rfl (fun h358 e358 f358 => ?_)
                have o359 := kp f358 o356 (by unfold t1; omega)
                have o360 := kp f358 e355 (by unfold t1; omega)
                refine ev_ic (k_g_sign_0 59 rfl) ?_
                have ff : FRp (t2 2) h _ := fr_tr (fr_wk f355 (fun t z => Or.inr z)) f358 (fun t z => Or.inl z)
                exact ev_zret (x := true) (k_g_sign_1 0 rfl) rfl (⟨true, rfl, by rw [show sgc c = c + 32 by simp [sgc, c264]]; simp [gS, c314, c324, c333, c342, c351, c354]; try omega, by rw [show sgc c = c + 32 by simp [sgc, c264]]; exact CR_sign C hw hnn (by omega) lt1 ff e358 o360 lcs hcs, ff⟩)
              · refine ev_ic (k_g_sign_0 41 rfl) ?_
                exact ev_zret (x := false) (k_g_sign_0 42 rfl) rfl (⟨false, rfl, by rw [show sgc c = c + 32 by simp [sgc, c264]]; simp [gS, c314, c324, c333, c342, c351, c354]; try omega, C, fr_rf _ _⟩)
