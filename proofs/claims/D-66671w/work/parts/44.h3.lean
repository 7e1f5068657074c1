theorem CR_link {G : gt_T} {h h2 : ab_H} {xa : Nat → Nat} {na la : List Nat} {σ : sg_T} (C : CR G h xa na la σ) (hw : WF σ) (hL : WFL σ) {q a b i j nn : Nat} {c o : Int} (ha : a < 3) (hb : b < 3) (hab : a ≠ b) (hi : i < nr σ a) (hj : j < nr σ b) (hc : gd (σ.2 7) (40 * a + i) = c) (ho : gd (σ.2 7) (40 * b + j) = o) (hnn : σ.1 16 = (nn : Int)) (hn60 : nn < 60) (hq : h q = none) (A : AL G h2 (xa 22) 22 (la ++ [q])) (f2 : FRp (t2 22) (hu h q (oJ 31 5 [vA (xa (5 + a)), vA (xa (rt a i 0)), vA (xa (5 + b)), vA (xa (rt b j 0))])) h2) : CR G h2 xa na (la ++ [q]) (lkd σ nn (a : Int) c (b : Int) o) := by
  have hln := cr_ln C
  have f : FRp (t2 22) h h2 := fr_tr (fr_wk (fr_new hq) (fun t z => z.elim)) f2 (fun t z => z)
  have hq2 := kp f2 (hu_self _ _ _) (by unfold t2; omega)
  obtain ⟨c1, ⟨at_, c2⟩, ⟨cs, c3, c3'⟩, c4, c5, c6, ⟨d1, d2, d3⟩, ⟨g1, g2, g3⟩, fc, fp, k1, k2, k3⟩ := C
  have hN : ∀ t, ¬ (t = 22 ∨ t = 23) → ¬ t2 22 t := fun t z => z
  refine ⟨kp f c1 (hN _ (by omega)), ⟨at_, kp f c2 (hN _ (by omega))⟩, ⟨cs, kp f c3 (hN _ (by omega)), c3'⟩, kp f c4 (hN _ (by omega)), fun e he => kp f (c5 e he) (hN _ (by omega)), fun e he => EDR_kp f (nr40 hw he) (fun i j hi hj => hN _ (by unfold rt; omega)) (hN _ (by omega)) (hN _ (by omega)) (c6 e he), ⟨AL_kp f d1 (hN _ (by omega)) (hN _ (by omega)), d2, fun m hm => NOT_kp f (hN _ (by omega)) (d3 m hm)⟩, ⟨A, ?_, fun k hk => ?_⟩, fc, fp, kp f k1 (hN _ (by omega)), kp f k2 (hN _ (by omega)), k3⟩
  · show (((la ++ [q]).length : Nat) : Int) = (nn : Int) + 1
    simp; omega
  · have hk' : k < la.length + 1 := by simpa using hk
    by_cases e : k < la.length
    · rw [gL_app _ _ _ e]
      obtain ⟨e1, i1, f1, j1, b1, b2, b3, b4, b5, b6, b7, b8, b9, b10⟩ := g3 k e
      refine ⟨e1, i1, f1, j1, b1, b2, b3, b4, b5, ?_, ?_, ?_, ?_, kp f b10 (hN _ (by omega))⟩
      · show gd ((σ.2 17).set nn _) k = _
        rw [gd_set_ne _ (by omega)]; exact b6
      · show gd ((σ.2 18).set nn _) k = _
        rw [gd_set_ne _ (by omega)]; exact b7
      · show gd ((σ.2 19).set nn _) k = _
        rw [gd_set_ne _ (by omega)]; exact b8
      · show gd ((σ.2 20).set nn _) k = _
        rw [gd_set_ne _ (by omega)]; exact b9
    · have hkn : k = la.length := by omega
      subst hkn
      rw [gL_end]
      have l17 := hL 17 0 60 rfl
      have l18 := hL 18 1 60 rfl
      have l19 := hL 19 0 60 rfl
      have l20 := hL 20 1 60 rfl
      have hkn : la.length = nn := by omega
      refine ⟨a, i, b, j, ha, hb, hab, hi, hj, ?_, ?_, ?_, ?_, hq2⟩
      · show gd ((σ.2 17).set nn _) _ = _
        rw [hkn, gd_set_eq _ (by omega)]
      · show gd ((σ.2 18).set nn _) _ = gd (σ.2 7) _
        rw [hkn, gd_set_eq _ (by omega), hc]
      · show gd ((σ.2 19).set nn _) _ = _
        rw [hkn, gd_set_eq _ (by omega)]
      · show gd ((σ.2 20).set nn _) _ = gd (σ.2 7) _
        rw [hkn, gd_set_eq _ (by omega), ho]
theorem WF_link {σ : sg_T} (hw : WF σ) (hL : WFL σ) {nn : Nat} {a c b o : Int} (hnn : σ.1 16 = (nn : Int)) (hn60 : nn < 60) (hno : anb (fun k => isl σ a c b k && gd (σ.2 20) k == o) nn = false) : WF (lkd σ nn a c b o) := by
  obtain ⟨a1, a2, a3, a4, a5, a6, a7, a8, a9, a10, a11, a12⟩ := hw
  refine ⟨a1, a2, a3, ⟨by show (0 : Int) ≤ (nn : Int) + 1; omega, by show (nn : Int) + 1 ≤ 60; omega⟩, a5, a6, a7, a8, a9, a10, fun i j hi hj => ?_, a12⟩
  have hi3 : (i : Int) < (nn : Int) + 1 := hi
  have hj3 : (j : Int) < (nn : Int) + 1 := hj
  have l17 := hL 17 0 60 rfl
  have l18 := hL 18 1 60 rfl
  have l19 := hL 19 0 60 rfl
  have l20 := hL 20 1 60 rfl
  show gd ((σ.2 17).set nn a) i = gd ((σ.2 17).set nn a) j → gd ((σ.2 18).set nn c) i = gd ((σ.2 18).set nn c) j → gd ((σ.2 19).set nn b) i = gd ((σ.2 19).set nn b) j → gd ((σ.2 20).set nn o) i = gd ((σ.2 20).set nn o) j → i = j
  have key : ∀ m, m < nn → gd (σ.2 17) m = a → gd (σ.2 18) m = c → gd (σ.2 19) m = b → gd (σ.2 20) m = o → False := by
    intro m hm e1 e2 e3 e4
    rw [anb_of (k := m) hm (by simp [isl, e1, e2, e3, e4])] at hno
    cases hno
  rw [gd_set _ (by omega), gd_set _ (by omega), gd_set _ (by omega), gd_set _ (by omega), gd_set _ (by omega), gd_set _ (by omega), gd_set _ (by omega), gd_set _ (by omega)]
  by_cases ei : i = nn
  · by_cases ej : j = nn
    · intros; omega
    · rw [if_pos ei, if_neg ej, if_pos ei, if_neg ej, if_pos ei, if_neg ej, if_pos ei, if_neg ej]
      intro e1 e2 e3 e4
      exact (key j (by omega) e1.symm e2.symm e3.symm e4.symm).elim
  · by_cases ej : j = nn
    · rw [if_neg ei, if_pos ej, if_neg ei, if_pos ej, if_neg ei, if_pos ej, if_neg ei, if_pos ej]
      intro e1 e2 e3 e4
      exact (key i (by omega) e1 e2 e3 e4).elim
    · rw [if_neg ei, if_neg ej, if_neg ei, if_neg ej, if_neg ei, if_neg ej, if_neg ei, if_neg ej]
      exact a11 i j (by omega) (by omega)
def lkq (σ : sg_T) (a c b o : Int) (k : Nat) : Bool := isl σ a c b k && gd (σ.2 20) k == o
theorem lkq_ok {σ : sg_T} (hw : WF σ) {k a i b j le li lf lj : Nat} {c o : Int} (ha : a < 3) (hb : b < 3) (hi : i < nr σ a) (hj : j < nr σ b) (hc : gd (σ.2 7) (40 * a + i) = c) (ho : gd (σ.2 7) (40 * b + j) = o) (hle : le < 3) (hlf : lf < 3) (hli : li < nr σ le) (hlj : lj < nr σ lf) (h17 : gd (σ.2 17) k = (le : Int)) (h18 : gd (σ.2 18) k = gd (σ.2 7) (40 * le + li)) (h19 : gd (σ.2 19) k = (lf : Int)) (h20 : gd (σ.2 20) k = gd (σ.2 7) (40 * lf + lj)) : lkq σ (a : Int) c (b : Int) o k = true ↔ ((le = a ∧ li = i) ∧ (lf = b ∧ lj = j)) := by
  unfold lkq
  rw [Bool.and_eq_true, beq_iff_eq, ← hc, isl_ok hw ha hi hle hli h17 h18 h19, h20, ← ho]
  constructor
  · rintro ⟨⟨h1, h2⟩, h3⟩
    exact ⟨h1, (code_eq hw hb hj hlf hlj).mp ⟨by rw [h2], h3⟩⟩
  · rintro ⟨h1, rfl, rfl⟩
    exact ⟨⟨h1, rfl⟩, rfl⟩
set_option maxHeartbeats 4000000 in
theorem lp_link {G : gt_T} {Cc Ss : Nat} {Φ : Option ab_V → ab_H → Prop} {Θ : Nat → ab_H → Prop} {h : ab_H} {xa : Nat → Nat} {na la : List Nat} {σ : sg_T} (C : CR G h xa na la σ) (hw : WF σ) {a b : Nat} {c o : Int} (ha : a < 3) (hb : b < 3) {i j : Nat} (hi : i < nr σ a) (hj : j < nr σ b) (hc : gd (σ.2 7) (40 * a + i) = c) (ho : gd (σ.2 7) (40 * b + j) = o) (k0 : ∀ (v : Bool), v = !anb (lkq σ (a : Int) c (b : Int) o) la.length → ev G M_g_link 7 171 Cc Ss 149 [some (vA (xa 1)), some (vI (a : Int)), some (vL c), none, some (vI (b : Int)), some (vL o), none, some (vA (xa (rt a i 0))), some (vA (xa (rt b j 0))), some (vI (bi v)), none] [] h Φ Θ) : ∀ (fu : Nat) (k : Nat) (v : Bool), (k ≤ la.length) → (v = !anb (lkq σ (a : Int) c (b : Int) o) k) → la.length - k < fu → ev G M_g_link 7 171 Cc Ss 81 [some (vA (xa 1)), some (vI (a : Int)), some (vL c), none, some (vI (b : Int)), some (vL o), none, some (vA (xa (rt a i 0))), some (vA (xa (rt b j 0))), some (vI (bi v)), some (vI (k : Int))] [] h Φ Θ := by
  intro fu
  induction fu with
  | zero => intros; omega
  | succ fu ih =>
      intro k v h1 h2 hn
      have hln := cr_ln C
      have hw16 := hw.2.2.2.1
      have hll : la.length ≤ 60 := by omega
      refine ev_ilw (k_g_link_0 40 rfl) rfl ?_
      refine ev_al (k_g_link_0 41 rfl) rfl ?_
      refine ev_get (v := vA (xa 22)) (k_g_link_0 42 rfl) (cr_x C) rfl ?_
      obtain ⟨fs421, ho421⟩ := AL_recv (cr_ll C)
      refine ev_cV (k_g_link_0 43 rfl) rfl v_al_size ho421 rfl (c_al_size G _ _ _ _ (cr_ll C)) rfl (le_b rfl) (le_b rfl) (le_b rfl) k_n (k_I fun z421 h421 q421 => ?_)
      obtain ⟨rfl, rfl⟩ := q421
      refine ev_ic_ge (k_g_link_0 44 rfl) (fun c422 => ?_) (fun c422 => ?_)
      · refine ev_dead 10 (show ev _ _ _ _ _ _ 149 [some (vA (xa 1)), some (vI (a : Int)), some (vL c), none, some (vI (b : Int)), some (vL o), none, some (vA (xa (rt a i 0))), some (vA (xa (rt b j 0))), some (vI (bi v)), none] _ _ _ _ from ?_)
        have hkn : k = la.length := by omega
        subst hkn
        exact k0 _ h2
      · refine ev_ilw (k_g_link_0 45 rfl) rfl ?_
        refine ev_al (k_g_link_0 46 rfl) rfl ?_
        refine ev_get (v := vA (xa 22)) (k_g_link_0 47 rfl) (cr_x C) rfl ?_
        refine ev_ilw (k_g_link_0 48 rfl) rfl ?_
        obtain ⟨fs423, ho423⟩ := AL_recv (cr_ll C)
        refine ev_cV (k_g_link_0 49 rfl) rfl v_al_get ho423 rfl (c_al_get G _ _ _ _ (cr_ll C) k (by omega)) rfl (le_b rfl) (le_b rfl) (le_b rfl) k_n (k_R fun z423 h423 q423 => ?_)
        obtain ⟨rfl, rfl⟩ := q423
        obtain ⟨le424, li424, lf424, lj424, hle424, hlf424, hlne424, hli424, hlj424, l17424, l18424, l19424, l20424, hlo424⟩ := cr_lk C k (by omega)
        have hlb424 := nr40 hw hle424
        have hlc424 := nr40 hw hlf424
        refine ev_chk (k_g_link_0 50 rfl) hlo424 ?_
        refine ev_get (v := vA (xa (rt le424 li424 0))) (k_g_link_0 51 rfl) hlo424 rfl ?_
        refine ev_alw (k_g_link_0 52 rfl) rfl ?_
        refine ev_ac_ne (k_g_link_0 53 rfl) (fun c425 => ?_) (fun c425 => ?_)
        · rw [ne_eq, se_row C hw (by omega) (by omega) (by omega) (by omega)] at c425
          refine ev_ic (k_g_link_1 2 rfl) ?_
          refine ev_goto (k_g_link_1 3 rfl) ?_
          refine ev_iandB (y := true) (k_g_link_1 5 rfl) ?_
          refine ev_isw (k_g_link_1 6 rfl) (le_b rfl) (show ev _ _ _ _ _ _ 143 [some (vA (xa 1)), some (vI (a : Int)), some (vL c), none, some (vI (b : Int)), some (vL o), none, some (vA (xa (rt a i 0))), some (vA (xa (rt b j 0))), some (vI (bi (v && true))), some (vI (k : Int))] _ _ _ _ from ?_)
          refine ev_iinc (k_g_link_1 7 rfl) rfl (by omega) (show ev _ _ _ _ _ _ 146 [some (vA (xa 1)), some (vI (a : Int)), some (vL c), none, some (vI (b : Int)), some (vL o), none, some (vA (xa (rt a i 0))), some (vA (xa (rt b j 0))), some (vI (bi (v && true))), some (vI ((k : Int) + 1))] _ _ _ _ from ?_)
          refine ev_goto (k_g_link_1 8 rfl) ?_
          have hiff := lkq_ok hw ha hb hi hj hc ho hle424 hlf424 hli424 hlj424 l17424 l18424 l19424 l20424
          rw [show (k : Int) + 1 = ((k + 1 : Nat) : Int) by omega]
          exact ih (k + 1) _ (by omega) (by rw [anb_s, show lkq σ (a : Int) c (b : Int) o k = false from b_f hiff (by omega), h2]; cases anb (lkq σ (a : Int) c (b : Int) o) k <;> rfl) (by omega)
        · rw [se_row C hw (by omega) (by omega) (by omega) (by omega)] at c425
          refine ev_al (k_g_link_0 54 rfl) rfl ?_
          refine ev_get (v := vA (xa 22)) (k_g_link_0 55 rfl) (cr_x C) rfl ?_
          refine ev_ilw (k_g_link_0 56 rfl) rfl ?_
          obtain ⟨fs426, ho426⟩ := AL_recv (cr_ll C)
          refine ev_cV (k_g_link_0 57 rfl) rfl v_al_get ho426 rfl (c_al_get G _ _ _ _ (cr_ll C) k (by omega)) rfl (le_b rfl) (le_b rfl) (le_b rfl) k_n (k_R fun z426 h426 q426 => ?_)
          obtain ⟨rfl, rfl⟩ := q426
          refine ev_chk (k_g_link_0 58 rfl) hlo424 ?_
          refine ev_get (v := vA (xa (rt lf424 lj424 0))) (k_g_link_0 59 rfl) hlo424 rfl ?_
          refine ev_alw (k_g_link_1 0 rfl) rfl ?_
          refine ev_ac_eq (k_g_link_1 1 rfl) (fun c427 => ?_) (fun c427 => ?_)
          · rw [se_row C hw (by omega) (by omega) (by omega) (by omega)] at c427
            refine ev_ic (k_g_link_1 4 rfl) ?_
            refine ev_iandB (y := false) (k_g_link_1 5 rfl) ?_
            refine ev_isw (k_g_link_1 6 rfl) (le_b rfl) (show ev _ _ _ _ _ _ 143 [some (vA (xa 1)), some (vI (a : Int)), some (vL c), none, some (vI (b : Int)), some (vL o), none, some (vA (xa (rt a i 0))), some (vA (xa (rt b j 0))), some (vI (bi (v && false))), some (vI (k : Int))] _ _ _ _ from ?_)
            refine ev_iinc (k_g_link_1 7 rfl) rfl (by omega) (show ev _ _ _ _ _ _ 146 [some (vA (xa 1)), some (vI (a : Int)), some (vL c), none, some (vI (b : Int)), some (vL o), none, some (vA (xa (rt a i 0))), some (vA (xa (rt b j 0))), some (vI (bi (v && false))), some (vI ((k : Int) + 1))] _ _ _ _ from ?_)
            refine ev_goto (k_g_link_1 8 rfl) ?_
            have hiff := lkq_ok hw ha hb hi hj hc ho hle424 hlf424 hli424 hlj424 l17424 l18424 l19424 l20424
            rw [show (k : Int) + 1 = ((k + 1 : Nat) : Int) by omega]
            exact ih (k + 1) _ (by omega) (by rw [anb_s, show lkq σ (a : Int) c (b : Int) o k = true from hiff.mpr (by omega), h2]; cases anb (lkq σ (a : Int) c (b : Int) o) k <;> rfl) (by omega)
          · rw [ne_eq, se_row C hw (by omega) (by omega) (by omega) (by omega)] at c427
            refine ev_ic (k_g_link_1 2 rfl) ?_
            refine ev_goto (k_g_link_1 3 rfl) ?_
            refine ev_iandB (y := true) (k_g_link_1 5 rfl) ?_
            refine ev_isw (k_g_link_1 6 rfl) (le_b rfl) (show ev _ _ _ _ _ _ 143 [some (vA (xa 1)), some (vI (a : Int)), some (vL c), none, some (vI (b : Int)), some (vL o), none, some (vA (xa (rt a i 0))), some (vA (xa (rt b j 0))), some (vI (bi (v && true))), some (vI (k : Int))] _ _ _ _ from ?_)
            refine ev_iinc (k_g_link_1 7 rfl) rfl (by omega) (show ev _ _ _ _ _ _ 146 [some (vA (xa 1)), some (vI (a : Int)), some (vL c), none, some (vI (b : Int)), some (vL o), none, some (vA (xa (rt a i 0))), some (vA (xa (rt b j 0))), some (vI (bi (v && true))), some (vI ((k : Int) + 1))] _ _ _ _ from ?_)
            refine ev_goto (k_g_link_1 8 rfl) ?_
            have hiff := lkq_ok hw ha hb hi hj hc ho hle424 hlf424 hli424 hlj424 l17424 l18424 l19424 l20424
            rw [show (k : Int) + 1 = ((k + 1 : Nat) : Int) by omega]
            exact ih (k + 1) _ (by omega) (by rw [anb_s, show lkq σ (a : Int) c (b : Int) o k = false from b_f hiff (by omega), h2]; cases anb (lkq σ (a : Int) c (b : Int) o) k <;> rfl) (by omega)
set_option maxHeartbeats 4000000 in
theorem lp_linkN {G : gt_T} {Cc Ss : Nat} {Φ : Option ab_V → ab_H → Prop} {Θ : Nat → ab_H → Prop} {h : ab_H} {xa : Nat → Nat} {na la : List Nat} {σ : sg_T} (C : CR G h xa na la σ) (hw : WF σ) {a b : Nat} {c o : Int} (ha : a < 3) (hb : b < 3) {r7 r8 : Option Nat} (k0 : ∀ (v : Bool), v = false → ev G M_g_link 7 171 Cc Ss 149 [some (vA (xa 1)), some (vI (a : Int)), some (vL c), none, some (vI (b : Int)), some (vL o), none, some (vR r7), some (vR r8), some (vI (bi v)), none] [] h Φ Θ) : ∀ (fu : Nat) (k : Nat) (v : Bool), (k ≤ la.length) → (v = false) → la.length - k < fu → ev G M_g_link 7 171 Cc Ss 81 [some (vA (xa 1)), some (vI (a : Int)), some (vL c), none, some (vI (b : Int)), some (vL o), none, some (vR r7), some (vR r8), some (vI (bi v)), some (vI (k : Int))] [] h Φ Θ := by
  intro fu
  induction fu with
  | zero => intros; omega
  | succ fu ih =>
      intro k v h1 h2 hn
      have hln := cr_ln C
      have hw16 := hw.2.2.2.1
      have hll : la.length ≤ 60 := by omega
      refine ev_ilw (k_g_link_0 40 rfl) rfl ?_
      refine ev_al (k_g_link_0 41 rfl) rfl ?_
      refine ev_get (v := vA (xa 22)) (k_g_link_0 42 rfl) (cr_x C) rfl ?_
      obtain ⟨fs428, ho428⟩ := AL_recv (cr_ll C)
      refine ev_cV (k_g_link_0 43 rfl) rfl v_al_size ho428 rfl (c_al_size G _ _ _ _ (cr_ll C)) rfl (le_b rfl) (le_b rfl) (le_b rfl) k_n (k_I fun z428 h428 q428 => ?_)
      obtain ⟨rfl, rfl⟩ := q428
      refine ev_ic_ge (k_g_link_0 44 rfl) (fun c429 => ?_) (fun c429 => ?_)
      · refine ev_dead 10 (show ev _ _ _ _ _ _ 149 [some (vA (xa 1)), some (vI (a : Int)), some (vL c), none, some (vI (b : Int)), some (vL o), none, some (vR r7), some (vR r8), some (vI (bi v)), none] _ _ _ _ from ?_)
        exact k0 _ h2
      · refine ev_ilw (k_g_link_0 45 rfl) rfl ?_
        refine ev_al (k_g_link_0 46 rfl) rfl ?_
        refine ev_get (v := vA (xa 22)) (k_g_link_0 47 rfl) (cr_x C) rfl ?_
        refine ev_ilw (k_g_link_0 48 rfl) rfl ?_
        obtain ⟨fs430, ho430⟩ := AL_recv (cr_ll C)
        refine ev_cV (k_g_link_0 49 rfl) rfl v_al_get ho430 rfl (c_al_get G _ _ _ _ (cr_ll C) k (by omega)) rfl (le_b rfl) (le_b rfl) (le_b rfl) k_n (k_R fun z430 h430 q430 => ?_)
        obtain ⟨rfl, rfl⟩ := q430
        obtain ⟨le431, li431, lf431, lj431, hle431, hlf431, hlne431, hli431, hlj431, l17431, l18431, l19431, l20431, hlo431⟩ := cr_lk C k (by omega)
        have hlb431 := nr40 hw hle431
        have hlc431 := nr40 hw hlf431
        refine ev_chk (k_g_link_0 50 rfl) hlo431 ?_
        refine ev_get (v := vA (xa (rt le431 li431 0))) (k_g_link_0 51 rfl) hlo431 rfl ?_
        refine ev_alw (k_g_link_0 52 rfl) rfl ?_
        refine ev_ac_ne (k_g_link_0 53 rfl) (fun c432 => ?_) (fun c432 => ?_)
        · refine ev_ic (k_g_link_1 2 rfl) ?_
          refine ev_goto (k_g_link_1 3 rfl) ?_
          refine ev_iandB (y := true) (k_g_link_1 5 rfl) ?_
          refine ev_isw (k_g_link_1 6 rfl) (le_b rfl) (show ev _ _ _ _ _ _ 143 [some (vA (xa 1)), some (vI (a : Int)), some (vL c), none, some (vI (b : Int)), some (vL o), none, some (vR r7), some (vR r8), some (vI (bi (v && true))), some (vI (k : Int))] _ _ _ _ from ?_)
          refine ev_iinc (k_g_link_1 7 rfl) rfl (by omega) (show ev _ _ _ _ _ _ 146 [some (vA (xa 1)), some (vI (a : Int)), some (vL c), none, some (vI (b : Int)), some (vL o), none, some (vR r7), some (vR r8), some (vI (bi (v && true))), some (vI ((k : Int) + 1))] _ _ _ _ from ?_)
          refine ev_goto (k_g_link_1 8 rfl) ?_
          rw [show (k : Int) + 1 = ((k + 1 : Nat) : Int) by omega]
          exact ih (k + 1) _ (by omega) (by rw [h2]; rfl) (by omega)
        · refine ev_al (k_g_link_0 54 rfl) rfl ?_
          refine ev_get (v := vA (xa 22)) (k_g_link_0 55 rfl) (cr_x C) rfl ?_
          refine ev_ilw (k_g_link_0 56 rfl) rfl ?_
          obtain ⟨fs433, ho433⟩ := AL_recv (cr_ll C)
          refine ev_cV (k_g_link_0 57 rfl) rfl v_al_get ho433 rfl (c_al_get G _ _ _ _ (cr_ll C) k (by omega)) rfl (le_b rfl) (le_b rfl) (le_b rfl) k_n (k_R fun z433 h433 q433 => ?_)
          obtain ⟨rfl, rfl⟩ := q433
          refine ev_chk (k_g_link_0 58 rfl) hlo431 ?_
          refine ev_get (v := vA (xa (rt lf431 lj431 0))) (k_g_link_0 59 rfl) hlo431 rfl ?_
          refine ev_alw (k_g_link_1 0 rfl) rfl ?_
          refine ev_ac_eq (k_g_link_1 1 rfl) (fun c434 => ?_) (fun c434 => ?_)
          · refine ev_ic (k_g_link_1 4 rfl) ?_
            refine ev_iandB (y := false) (k_g_link_1 5 rfl) ?_
            refine ev_isw (k_g_link_1 6 rfl) (le_b rfl) (show ev _ _ _ _ _ _ 143 [some (vA (xa 1)), some (vI (a : Int)), some (vL c), none, some (vI (b : Int)), some (vL o), none, some (vR r7), some (vR r8), some (vI (bi (v && false))), some (vI (k : Int))] _ _ _ _ from ?_)
            refine ev_iinc (k_g_link_1 7 rfl) rfl (by omega) (show ev _ _ _ _ _ _ 146 [some (vA (xa 1)), some (vI (a : Int)), some (vL c), none, some (vI (b : Int)), some (vL o), none, some (vR r7), some (vR r8), some (vI (bi (v && false))), some (vI ((k : Int) + 1))] _ _ _ _ from ?_)
            refine ev_goto (k_g_link_1 8 rfl) ?_
            rw [show (k : Int) + 1 = ((k + 1 : Nat) : Int) by omega]
            exact ih (k + 1) _ (by omega) (by rw [h2]; rfl) (by omega)
          · refine ev_ic (k_g_link_1 2 rfl) ?_
            refine ev_goto (k_g_link_1 3 rfl) ?_
            refine ev_iandB (y := true) (k_g_link_1 5 rfl) ?_
            refine ev_isw (k_g_link_1 6 rfl) (le_b rfl) (show ev _ _ _ _ _ _ 143 [some (vA (xa 1)), some (vI (a : Int)), some (vL c), none, some (vI (b : Int)), some (vL o), none, some (vR r7), some (vR r8), some (vI (bi (v && true))), some (vI (k : Int))] _ _ _ _ from ?_)
            refine ev_iinc (k_g_link_1 7 rfl) rfl (by omega) (show ev _ _ _ _ _ _ 146 [some (vA (xa 1)), some (vI (a : Int)), some (vL c), none, some (vI (b : Int)), some (vL o), none, some (vR r7), some (vR r8), some (vI (bi (v && true))), some (vI ((k : Int) + 1))] _ _ _ _ from ?_)
            refine ev_goto (k_g_link_1 8 rfl) ?_
            rw [show (k : Int) + 1 = ((k + 1 : Nat) : Int) by omega]
            exact ih (k + 1) _ (by omega) (by rw [h2]; rfl) (by omega)
set_option maxHeartbeats 4000000 in
theorem c_g_link_ok (G : gt_T) (h : ab_H) (xa : Nat → Nat) (na la : List Nat) (σ : sg_T) (C : CR G h xa na la σ) (hw : WF σ) (a b i j : Nat) (c o : Int) (ha : a < 3) (hb : b < 3) (hab : a ≠ b) (hri : rof σ a c = some i) (hrj : rof σ b o = some j) (hL : WFL σ) (nn : Nat) (hnn2 : σ.1 16 = (nn : Int)) (hn60 : nn ≠ 60) (hno : anb (lkq σ (a : Int) c (b : Int) o) la.length = false) : ct G M_g_link 7 171 2 94 [vA (xa 1), vI (a : Int), vL c, vI (b : Int), vL o] h (rB fun z h' => z = true ∧ ∃ q, CR G h' xa na (la ++ [q]) (lkd σ nn (a : Int) c (b : Int) o) ∧ WF (lkd σ nn (a : Int) c (b : Int) o) ∧ FRp (t2 22) h h') nT := by
  show ev _ _ _ _ _ _ 0 [some (vA (xa 1)), some (vI (a : Int)), some (vL c), none, some (vI (b : Int)), some (vL o), none, none, none, none, none] [] _ _ _
  have hln := cr_ln C
  have hw16 := hw.2.2.2.1
  have hll : la.length ≤ 60 := by omega
  have hi : i < nr σ a := (rof_lt hri).1
  have hc : gd (σ.2 7) (40 * a + i) = c := (rof_lt hri).2
  have hj : j < nr σ b := (rof_lt hrj).1
  have ho : gd (σ.2 7) (40 * b + j) = o := (rof_lt hrj).2
  refine ev_il (k_g_link_0 0 rfl) rfl ?_
  refine ev_cS (k_g_link_0 1 rfl) rfl v_g_isEdition (c_g_isEdition G _ (a : Int)) rfl (le_b rfl) (le_b rfl) (le_b rfl) k_n (k_B fun z435 h435 q435 => ?_)
  obtain ⟨rfl, rfl⟩ := q435
  refine ev_b_eq (k_g_link_0 2 rfl) (fun c436 => ?_) (fun c436 => ?_)
  · have j436 := inb_f c436
    exfalso; omega
  · have j436 := inb_t c436
    refine ev_ilw (k_g_link_0 3 rfl) rfl ?_
    refine ev_cS (k_g_link_0 4 rfl) rfl v_g_isEdition (c_g_isEdition G _ (b : Int)) rfl (le_b rfl) (le_b rfl) (le_b rfl) k_n (k_B fun z437 h437 q437 => ?_)
    obtain ⟨rfl, rfl⟩ := q437
    refine ev_b_eq (k_g_link_0 5 rfl) (fun c438 => ?_) (fun c438 => ?_)
    · have j438 := inb_f c438
      exfalso; omega
    · have j438 := inb_t c438
      refine ev_il (k_g_link_0 6 rfl) rfl ?_
      refine ev_ilw (k_g_link_0 7 rfl) rfl ?_
      refine ev_ic_eq (k_g_link_0 8 rfl) (fun c439 => ?_) (fun c439 => ?_)
      · exfalso; omega
      · refine ev_al (k_g_link_0 9 rfl) rfl ?_
        refine ev_get (v := vA (xa 22)) (k_g_link_0 10 rfl) (cr_x C) rfl ?_
        obtain ⟨fs440, ho440⟩ := AL_recv (cr_ll C)
        refine ev_cV (k_g_link_0 11 rfl) rfl v_al_size ho440 rfl (c_al_size G _ _ _ _ (cr_ll C)) rfl (le_b rfl) (le_b rfl) (le_b rfl) k_n (k_I fun z440 h440 q440 => ?_)
        obtain ⟨rfl, rfl⟩ := q440
        refine ev_bp (k_g_link_0 12 rfl) ?_
        refine ev_ic_ne (k_g_link_0 13 rfl) (fun c441 => ?_) (fun c441 => ?_)
        · refine ev_al (k_g_link_0 16 rfl) rfl ?_
          refine ev_get (v := vA (xa 4)) (k_g_link_0 17 rfl) (cr_x C) rfl ?_
          refine ev_il (k_g_link_0 18 rfl) rfl ?_
          refine ev_aald (k_g_link_0 19 rfl) (le_b rfl) (cr_es C) (by omega) (by simp; omega) ?_
          rw [show ([some (xa 5), some (xa 6), some (xa 7)] : List (Option Nat)).getD (((a : Int) : Int)).toNat none = some (xa (5 + a)) from es_get (by omega)]
          refine ev_ll (k_g_link_0 20 rfl) rfl ?_
          refine ev_cV (k_g_link_0 21 rfl) rfl v_e_find (cr_ed C a (by omega)) rfl (c_e_find G _ xa na la σ C hw a (by omega) c) rfl (le_b rfl) (le_b rfl) (le_b rfl) k_n (k_R fun z442 h442 q442 => ?_)
          obtain ⟨rfl, rfl⟩ := q442
          refine ev_asw (k_g_link_0 22 rfl) (le_b rfl) (show ev _ _ _ _ _ _ 47 [some (vA (xa 1)), some (vI (a : Int)), some (vL c), none, some (vI (b : Int)), some (vL o), none, some (vR (rwa xa a (rof σ a c))), none, none, none] _ _ _ _ from ?_)
          refine ev_al (k_g_link_0 23 rfl) rfl ?_
          refine ev_get (v := vA (xa 4)) (k_g_link_0 24 rfl) (cr_x C) rfl ?_
          refine ev_ilw (k_g_link_0 25 rfl) rfl ?_
          refine ev_aald (k_g_link_0 26 rfl) (le_b rfl) (cr_es C) (by omega) (by simp; omega) ?_
          rw [show ([some (xa 5), some (xa 6), some (xa 7)] : List (Option Nat)).getD (((b : Int) : Int)).toNat none = some (xa (5 + b)) from es_get (by omega)]
          refine ev_llw (k_g_link_0 27 rfl) rfl ?_
          refine ev_cV (k_g_link_0 28 rfl) rfl v_e_find (cr_ed C b (by omega)) rfl (c_e_find G _ xa na la σ C hw b (by omega) o) rfl (le_b rfl) (le_b rfl) (le_b rfl) k_n (k_R fun z443 h443 q443 => ?_)
          obtain ⟨rfl, rfl⟩ := q443
          refine ev_asw (k_g_link_0 29 rfl) (le_b rfl) (show ev _ _ _ _ _ _ 61 [some (vA (xa 1)), some (vI (a : Int)), some (vL c), none, some (vI (b : Int)), some (vL o), none, some (vR (rwa xa a (rof σ a c))), some (vR (rwa xa b (rof σ b o))), none, none] _ _ _ _ from ?_)
          refine ev_alw (k_g_link_0 30 rfl) rfl ?_
          refine ev_rn (k_g_link_0 31 rfl) (fun c444 => ?_) (fun i444 c444 => ?_)
          · (try rw [c444])
            show ev _ _ _ _ _ _ 75 [some (vA (xa 1)), some (vI (a : Int)), some (vL c), none, some (vI (b : Int)), some (vL o), none, some (vN), some (vR (rwa xa b (rof σ b o))), none, none] [] _ _ _
            first | (rw [c444] at hri; cases hri; done) | (rw [c444] at hrj; cases hrj; done)
          · (try rw [c444])
            show ev _ _ _ _ _ _ 66 [some (vA (xa 1)), some (vI (a : Int)), some (vL c), none, some (vI (b : Int)), some (vL o), none, some (vA (xa (rt a i444 0))), some (vR (rwa xa b (rof σ b o))), none, none] [] _ _ _
            have bi444 : i444 < nr σ a := (rof_lt c444).1
            refine ev_alw (k_g_link_0 32 rfl) rfl ?_
            refine ev_rn (k_g_link_0 33 rfl) (fun c445 => ?_) (fun i445 c445 => ?_)
            · (try rw [c445])
              show ev _ _ _ _ _ _ 75 [some (vA (xa 1)), some (vI (a : Int)), some (vL c), none, some (vI (b : Int)), some (vL o), none, some (vA (xa (rt a i444 0))), some (vN), none, none] [] _ _ _
              first | (rw [c445] at hri; cases hri; done) | (rw [c445] at hrj; cases hrj; done)
            · (try rw [c445])
              show ev _ _ _ _ _ _ 71 [some (vA (xa 1)), some (vI (a : Int)), some (vL c), none, some (vI (b : Int)), some (vL o), none, some (vA (xa (rt a i444 0))), some (vA (xa (rt b i445 0))), none, none] [] _ _ _
              have bi445 : i445 < nr σ b := (rof_lt c445).1
              refine ev_ic (k_g_link_0 34 rfl) ?_
              refine ev_goto (k_g_link_0 35 rfl) ?_
              refine ev_isw (k_g_link_0 37 rfl) (le_b rfl) (show ev _ _ _ _ _ _ 78 [some (vA (xa 1)), some (vI (a : Int)), some (vL c), none, some (vI (b : Int)), some (vL o), none, some (vA (xa (rt a i444 0))), some (vA (xa (rt b i445 0))), some (vI 1), none] _ _ _ _ from ?_)
              refine ev_ic (k_g_link_0 38 rfl) ?_
              refine ev_isw (k_g_link_0 39 rfl) (le_b rfl) (show ev _ _ _ _ _ _ 81 [some (vA (xa 1)), some (vI (a : Int)), some (vL c), none, some (vI (b : Int)), some (vL o), none, some (vA (xa (rt a i444 0))), some (vA (xa (rt b i445 0))), some (vI 1), some (vI 0)] _ _ _ _ from ?_)
              have hii : i444 = i := by rw [c444] at hri; cases hri; rfl
              have hjj : i445 = j := by rw [c445] at hrj; cases hrj; rfl
              subst hii
              subst hjj
              rw [show (0 : Int) = ((0 : Nat) : Int) from rfl]
              refine lp_link C hw ha hb (i := i444) (j := i445) hi hj hc ho (fun v hv => ?_) (la.length + 1) 0 true (by omega) rfl (by omega)
              refine ev_ilw (k_g_link_1 9 rfl) rfl ?_
              refine ev_b_eq (k_g_link_1 10 rfl) (fun c446 => ?_) (fun c446 => ?_)
              · exfalso
                rw [c446] at hv
                rw [show anb (lkq σ (a : Int) c (b : Int) o) la.length = false from hno] at hv
                cases hv
              · refine ev_al (k_g_link_1 11 rfl) rfl ?_
                refine ev_get (v := vA (xa 22)) (k_g_link_1 12 rfl) (cr_x C) rfl ?_
                refine ev_new (C2 := 1) (S2 := 90) 31 (k_g_link_1 13 rfl) (le_b rfl) (le_b rfl) (le_b rfl) (fun q hq hqe => ?_)
                have C1 := CR_kp hw (fr_new (o' := oJ 31 5 (df 5)) hq) (fun t z => t0w z) C
                refine ev_dup (k_g_link_1 14 rfl) rfl ?_
                refine ev_al (k_g_link_1 15 rfl) rfl ?_
                refine ev_get (v := vA (xa 4)) (k_g_link_1 16 rfl) (cr_x C1) rfl ?_
                refine ev_il (k_g_link_1 17 rfl) rfl ?_
                refine ev_aald (k_g_link_1 18 rfl) (le_b rfl) (cr_es C1) (by omega) (by simp; omega) ?_
                rw [show ([some (xa 5), some (xa 6), some (xa 7)] : List (Option Nat)).getD (((a : Int) : Int)).toNat none = some (xa (5 + a)) from es_get (by omega)]
                refine ev_alw (k_g_link_1 19 rfl) rfl ?_
                refine ev_al (k_g_link_1 20 rfl) rfl ?_
                refine ev_get (v := vA (xa 4)) (k_g_link_1 21 rfl) (cr_x C1) rfl ?_
                refine ev_ilw (k_g_link_1 22 rfl) rfl ?_
                refine ev_aald (k_g_link_1 23 rfl) (le_b rfl) (cr_es C1) (by omega) (by simp; omega) ?_
                rw [show ([some (xa 5), some (xa 6), some (xa 7)] : List (Option Nat)).getD (((b : Int) : Int)).toNat none = some (xa (5 + b)) from es_get (by omega)]
                refine ev_alw (k_g_link_1 24 rfl) rfl ?_
                refine ev_cI (k_g_link_1 25 rfl) rfl v_k_init (c_k_init G _ q (xa (5 + a)) (xa (rt a i444 0)) (xa (5 + b)) (xa (rt b i445 0)) (hu_self _ _ _)) rfl (le_b rfl) (le_b rfl) (le_b rfl) k_n (k_V fun h9 q9 => ?_)
                rw [hu_hu] at q9
                subst q9
                have hN := fr_new (o' := oJ 31 5 [vA (xa (5 + a)), vA (xa (rt a i444 0)), vA (xa (5 + b)), vA (xa (rt b i445 0))]) hq
                have hA1 := AL_kp hN (cr_ll C) (fun z => z) (fun z => z)
                obtain ⟨fsA, hoA⟩ := AL_recv hA1
                refine ev_cVA (C2 := 0) (S2 := 0) (k_g_link_1 26 rfl) rfl v_al_add hoA rfl (c_al_add G _ (xa 22) 22 la q hA1 (by omega) (fun y hy => ?_) ⟨31, 5, _, hu_self _ _ _, rfl, by decide, by decide⟩) rfl (le_b rfl) (le_b rfl) (le_b rfl) (le_b rfl) (le_b rfl) k_n (k_B fun z8 h8 q8 => ?_)
                · obtain ⟨k, hk, rfl⟩ := List.getElem_of_mem hy
                  have hk2 := cr_lk C k hk
                  rw [List.getD_eq_getElem?_getD, List.getElem?_eq_getElem hk] at hk2
                  obtain ⟨e1, i1, f1, j1, -, -, -, -, -, -, -, -, -, b10⟩ := hk2
                  exact ⟨31, 5, _, kp hN b10 (fun z => z), rfl, by decide, by decide⟩
                obtain ⟨rfl, hA2, f8⟩ := q8
                have C2 := CR_link C hw hL ha hb hab hi hj hc ho hnn2 (by omega) hq hA2 f8
                have hw2 : WF (lkd σ nn (a : Int) c (b : Int) o) := WF_link hw hL hnn2 (by omega) (by rw [show nn = la.length by omega]; exact hno)
                refine ev_pop (k_g_link_1 27 rfl) rfl ?_
                refine ev_ilw (k_g_link_1 28 rfl) rfl ?_
                rw [c446]
                exact ev_zret (k_g_link_1 29 rfl) rfl ⟨true, rfl, rfl, _, C2, hw2, fr_tr (fr_wk hN (fun t z => z.elim)) f8 (fun t z => z)⟩
        · exfalso; omega
