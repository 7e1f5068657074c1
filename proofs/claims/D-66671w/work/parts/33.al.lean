/-! FRAMES BY TAGS; rows that give the heap behind them as a variable; ArrayList -/
def FRp (P : Nat → Prop) (h h' : ab_H) : Prop := ∀ (q : Nat) (o : ab_O), h q = some o → ¬ P o.1 → h' q = some o
def t0 : Nat → Prop := fun _ => False
def t1 (a : Nat) : Nat → Prop := fun t => t = a
def t2 (a : Nat) : Nat → Prop := fun t => t = a ∨ t = a + 1
theorem kp {P : Nat → Prop} {h h' : ab_H} (k : FRp P h h') {q tag : Nat} {x : (Nat × List ab_V) ⊕ (Nat × List Int) ⊕ (Nat × List (Option Nat))} (ha : h q = some (tag, x)) (hn : ¬ P tag) : h' q = some (tag, x) := k q _ ha hn
theorem fr_rf (P : Nat → Prop) (h : ab_H) : FRp P h h := fun _ _ q _ => q
theorem fr_tr {P Q : Nat → Prop} {h h1 h2 : ab_H} (a : FRp P h h1) (b : FRp Q h1 h2) (hQ : ∀ t, Q t → P t) : FRp P h h2 := fun q o x y => b q o (a q o x y) (fun z => y (hQ _ z))
theorem fr_wk {P Q : Nat → Prop} {h h1 : ab_H} (a : FRp P h h1) (hQ : ∀ t, P t → Q t) : FRp Q h h1 := fun q o x y => a q o x (fun z => y (hQ _ z))
theorem fr_hu {h : ab_H} {a : Nat} {o o' : ab_O} (ha : h a = some o) : FRp (t1 o.1) h (hu h a o') := by
  intro q o1 h1 h2
  by_cases e : q = a
  · subst e; rw [ha] at h1; cases h1; exact absurd rfl h2
  · rw [hu_ne h o' e]; exact h1
theorem fr_new {h : ab_H} {a : Nat} {o' : ab_O} (ha : h a = none) : FRp t0 h (hu h a o') := by
  intro q o1 h1 h2
  have e : q ≠ a := by intro z; rw [z, ha] at h1; cases h1
  rw [hu_ne h o' e]; exact h1
section EvT
variable {G : gt_T} {M : mt_T} {F L C S : Nat} {pc a0 b0 j0 : Nat} {z0 : Int} {ls : List (Option ab_V)} {st : List ab_V} {h : ab_H} {Φ : Option ab_V → ab_H → Prop} {Θ : Nat → ab_H → Prop}
theorem ev_putT (d : ri_at M (pc, 3, 50, a0, b0, j0, z0)) {a tag : Nat} {fs fs' : List ab_V} {v : ab_V} (ha : h a = some (oJ tag a0 fs)) (hlen : b0 < fs.length) (hk0 : fk (ft a0 b0) v = true) (hfs : fs.set b0 v = fs') (k : ∀ h', h' a = some (oJ tag a0 fs') → FRp (t1 tag) h h' → ev G M F L C S (pc + 3) ls st h' Φ Θ) : ev G M F L C S pc ls (v :: vA a :: st) h Φ Θ := by
  subst hfs
  exact ev_put d ha hlen hk0 (k _ (hu_self _ _ _) (fr_hu ha))
theorem ev_putTF (d : ri_at M (pc, 3, 51, a0, b0, j0, z0)) {a tag : Nat} {fs fs' : List ab_V} {v : ab_V} (ha : h a = some (oJ tag a0 fs)) (hlen : b0 < fs.length) (hk0 : fk (ft a0 b0) v = true) (hfs : fs.set b0 v = fs') (k : ∀ h', h' a = some (oJ tag a0 fs') → FRp (t1 tag) h h' → ev G M F L C S (pc + 3) ls st h' Φ Θ) : ev G M F L C S pc ls (v :: vA a :: st) h Φ Θ := by
  subst hfs
  exact ev_putF d ha hlen hk0 (k _ (hu_self _ _ _) (fr_hu ha))
theorem ev_newT {C2 S2 : Nat} (tag : Nat) (d : ri_at M (pc, 3, 64, a0, b0, j0, z0)) (hci : a0 < 8) (hC1 : C2 + 1 ≤ C) (hS1 : S2 + nf a0 ≤ S) (k : ∀ q h', h q = none → q ≠ ge G → h' q = some (oJ tag a0 (df a0)) → FRp t0 h h' → ev G M F L C2 S2 (pc + 3) ls (vA q :: st) h' Φ Θ) : ev G M F L C S pc ls st h Φ Θ :=
  ev_new tag d hci hC1 hS1 (fun q hq hne => k q _ hq hne (hu_self _ _ _) (fr_new hq))
theorem ev_newaT {C2 S2 N : Nat} (tag : Nat) (d : ri_at M (pc, 2, 53, a0, b0, j0, z0)) (ha0 : a0 < 3) (hN : N ≤ 65536) (hC1 : C2 + 1 ≤ C) (hS1 : S2 + N ≤ S) (k : ∀ q h', h q = none → q ≠ ge G → h' q = some (oN tag a0 (List.replicate N 0)) → FRp t0 h h' → ev G M F L C2 S2 (pc + 2) ls (vA q :: st) h' Φ Θ) : ev G M F L C S pc ls (vI (N : Int) :: st) h Φ Θ :=
  ev_newa tag d ha0 hN hC1 hS1 (fun q hq hne => k q _ hq hne (hu_self _ _ _) (fr_new hq))
theorem ev_anewT {C2 S2 N : Nat} (tag : Nat) (d : ri_at M (pc, 3, 54, a0, b0, j0, z0)) (ha0 : a0 < 2) (hN : N ≤ 65536) (hC1 : C2 + 1 ≤ C) (hS1 : S2 + N ≤ S) (k : ∀ q h', h q = none → q ≠ ge G → h' q = some (oR tag a0 (List.replicate N none)) → FRp t0 h h' → ev G M F L C2 S2 (pc + 3) ls (vA q :: st) h' Φ Θ) : ev G M F L C S pc ls (vI (N : Int) :: st) h Φ Θ :=
  ev_anew tag d ha0 hN hC1 hS1 (fun q hq hne => k q _ hq hne (hu_self _ _ _) (fr_new hq))
theorem ev_iastT (d : ri_at M (pc, 1, 60, a0, b0, j0, z0)) {a tag : Nat} {xs : List Int} {i x : Int} {iN : Nat} (hi0 : i = (iN : Int)) (ha : h a = some (oN tag 0 xs)) (hi : iN < xs.length) (k : ∀ h', h' a = some (oN tag 0 (xs.set iN x)) → FRp (t1 tag) h h' → ev G M F L C S (pc + 1) ls st h' Φ Θ) : ev G M F L C S pc ls (vI x :: vI i :: vA a :: st) h Φ Θ := by
  subst hi0
  exact ev_iast d ha (by omega) (by omega) (k _ (hu_self _ _ _) (fr_hu ha))
theorem ev_lastT (d : ri_at M (pc, 1, 61, a0, b0, j0, z0)) {a tag : Nat} {xs : List Int} {i x : Int} {iN : Nat} (hi0 : i = (iN : Int)) (ha : h a = some (oN tag 1 xs)) (hi : iN < xs.length) (k : ∀ h', h' a = some (oN tag 1 (xs.set iN x)) → FRp (t1 tag) h h' → ev G M F L C S (pc + 1) ls st h' Φ Θ) : ev G M F L C S pc ls (vL x :: vI i :: vA a :: st) h Φ Θ := by
  subst hi0
  exact ev_last d ha (by omega) (by omega) (k _ (hu_self _ _ _) (fr_hu ha))
theorem ev_castT (d : ri_at M (pc, 1, 62, a0, b0, j0, z0)) {a tag : Nat} {xs : List Int} {i x : Int} {iN : Nat} (hi0 : i = (iN : Int)) (ha : h a = some (oN tag 2 xs)) (hi : iN < xs.length) (hc0 : 0 ≤ x) (hc1 : x < 65536) (k : ∀ h', h' a = some (oN tag 2 (xs.set iN x)) → FRp (t1 tag) h h' → ev G M F L C S (pc + 1) ls st h' Φ Θ) : ev G M F L C S pc ls (vI x :: vI i :: vA a :: st) h Φ Θ := by
  subst hi0
  exact ev_cast d ha (by omega) (by omega) hc0 hc1 (k _ (hu_self _ _ _) (fr_hu ha))
theorem ev_aastT (d : ri_at M (pc, 1, 63, a0, b0, j0, z0)) {a tag : Nat} {rs : List (Option Nat)} {i : Int} {iN v tv ci : Nat} {fv : List ab_V} (hi0 : i = (iN : Int)) (ha : h a = some (oR tag 0 rs)) (hi : iN < rs.length) (hv : h v = some (oJ tv ci fv)) (hci : cs ci = true) (k : ∀ h', h' a = some (oR tag 0 (rs.set iN (some v))) → FRp (t1 tag) h h' → ev G M F L C S (pc + 1) ls st h' Φ Θ) : ev G M F L C S pc ls (vA v :: vI i :: vA a :: st) h Φ Θ := by
  subst hi0
  exact ev_aast d ha (by omega) (by omega) hv hci (k _ (hu_self _ _ _) (fr_hu ha))
theorem ev_iaddW (d : ri_at M (pc, 1, 9, a0, b0, j0, z0)) {x y : Int} (k : ∀ z : Int, ev G M F L C S (pc + 1) ls (vI z :: st) h Φ Θ) : ev G M F L C S pc ls (vI y :: vI x :: st) h Φ Θ := by
  refine ev_pu (k (Int.bmod (x + y) 4294967296)) (fun h1 _ => okc (show inI _ from ⟨by have := Int.le_bmod (x := x + y) (m := 4294967296) (by decide); omega, by have := Int.bmod_lt (x := x + y) (m := 4294967296) (by decide); omega⟩) (okt (okt h1))) ?_
  intro p e R s m args below meth c H locs cells slots lsC Q C0 hl hst kk
  have e1 : cv (vI (Int.bmod (x + y) 4294967296)) = .int (Int32.ofInt x + Int32.ofInt y) := by
    show Value.int (Int32.ofInt (Int.bmod (x + y) 4294967296)) = _
    congr 1
    rw [← Int32.ofInt_add]
    exact Int32.toInt_inj.mp (by rw [Int32.toInt_ofInt, Int32.toInt_ofInt]; exact Int.bmod_bmod ..)
  rw [List.map_cons, e1] at kk
  exact lv_iadd C0.1 C0.2.1 (rx_9 d) kk
end EvT
def isO (tg : Nat) (h : ab_H) (y : Nat) : Prop := ∃ tag ci fs, h y = some (oJ tag ci fs) ∧ cs ci = true ∧ tag ≠ tg ∧ tag ≠ tg + 1
theorem isO_kp {P : Nat → Prop} {h h' : ab_H} (k : FRp P h h') {tg y : Nat} (hP : ∀ t, P t → t = tg ∨ t = tg + 1) (a : isO tg h y) : isO tg h' y := by
  obtain ⟨tag, ci, fs, e1, e2, e3, e4⟩ := a
  exact ⟨tag, ci, fs, kp k e1 (fun z => by have := hP _ z; omega), e2, e3, e4⟩
/-- a list at l of the objects xs -/
def AL (G : gt_T) (h : ab_H) (l tg : Nat) (xs : List Nat) : Prop := ∃ (md : Int) (a : Nat), h l = some (oJ tg 6 [vI md, vA a, vI (xs.length : Int)]) ∧ ((a = ge G ∧ xs = []) ∨ ∃ k : Nat, h a = some (oR (tg + 1) 0 (xs.map some ++ List.replicate k none)) ∧ 0 < xs.length + k ∧ xs.length + k ≤ 90)
theorem AL_kp {G : gt_T} {P : Nat → Prop} {h h' : ab_H} (k : FRp P h h') {l tg : Nat} {xs : List Nat} (a : AL G h l tg xs) (h1 : ¬ P tg) (h2 : ¬ P (tg + 1)) : AL G h' l tg xs := by
  obtain ⟨md, a, e1, e2⟩ := a
  refine ⟨md, a, kp k e1 h1, ?_⟩
  rcases e2 with e2 | ⟨n, e2, e3⟩
  · exact Or.inl e2
  · exact Or.inr ⟨n, kp k e2 h2, e3⟩
theorem rs_get {xs : List Nat} {k i : Nat} (hi : i < xs.length) : (xs.map some ++ List.replicate k none).getD i none = some (xs.getD i 0) := by
  rw [List.getD_eq_getElem?_getD, List.getElem?_append_left (by simpa using hi), List.getD_eq_getElem?_getD]
  simp [hi]
theorem rs_len (xs : List Nat) (k : Nat) : (xs.map some ++ List.replicate k none : List (Option Nat)).length = xs.length + k := by simp
theorem rs_set {xs : List Nat} {k v : Nat} (hk : 0 < k) : (xs.map some ++ List.replicate k none : List (Option Nat)).set xs.length (some v) = (xs ++ [v]).map some ++ List.replicate (k - 1) none := by
  obtain ⟨k, rfl⟩ : ∃ j, k = j + 1 := ⟨k - 1, by omega⟩
  rw [List.set_append_right _ _ (by simp)]
  simp [List.replicate_succ]

set_option maxHeartbeats 2000000 in
theorem c_al_size (G : gt_T) (h : ab_H) (l tg : Nat) (xs : List Nat) (hA : AL G h l tg xs)  : ct G M_al_size 0 0 0 0 [vA l] h (rI fun z h' => h = h' ∧ z = (xs.length : Int)) nT := by
  show ev _ _ _ _ _ _ 0 [some (vA l)] [] _ _ _
  obtain ⟨md, a, e1, e2⟩ := hA
  refine ev_al (k_al_size 0 rfl) rfl ?_
  refine ev_get (v := vI (xs.length : Int)) (k_al_size 1 rfl) e1 rfl ?_
  exact ev_iret (k_al_size 2 rfl) rfl (⟨_, rfl, rfl, rfl⟩)
set_option maxHeartbeats 2000000 in
theorem c_al_isEmpty (G : gt_T) (h : ab_H) (l tg : Nat) (xs : List Nat) (hA : AL G h l tg xs)  : ct G M_al_isEmpty 0 0 0 0 [vA l] h (rB fun z h' => h = h' ∧ z = decide (xs.length = 0)) nT := by
  show ev _ _ _ _ _ _ 0 [some (vA l)] [] _ _ _
  obtain ⟨md, a, e1, e2⟩ := hA
  refine ev_al (k_al_isEmpty 0 rfl) rfl ?_
  refine ev_get (v := vI (xs.length : Int)) (k_al_isEmpty 1 rfl) e1 rfl ?_
  refine ev_if_ne (k_al_isEmpty 2 rfl) (fun c31 => ?_) (fun c31 => ?_)
  · refine ev_ic (k_al_isEmpty 5 rfl) ?_
    exact ev_zret (x := false) (k_al_isEmpty 6 rfl) rfl (⟨false, rfl, rfl, (decide_eq_false (by omega)).symm⟩)
  · refine ev_ic (k_al_isEmpty 3 rfl) ?_
    refine ev_goto (k_al_isEmpty 4 rfl) ?_
    exact ev_zret (x := true) (k_al_isEmpty 6 rfl) rfl (⟨true, rfl, rfl, (decide_eq_true (by omega)).symm⟩)
set_option maxHeartbeats 2000000 in
theorem c_pr_checkIndex (G : gt_T) (h : ab_H) (i n : Int) (h0 : 0 ≤ i) (h1 : i < n) : ct G M_pr_checkIndex 0 0 0 0 [vI i, vI n, vN] h (rI fun z h' => h = h' ∧ z = i) nT := by
  show ev _ _ _ _ _ _ 0 [some (vI i), some (vI n), some (vN)] [] _ _ _
  refine ev_il (k_pr_checkIndex 0 rfl) rfl ?_
  refine ev_if_lt (k_pr_checkIndex 1 rfl) (fun c32 => ?_) (fun c32 => ?_)
  · exfalso; omega
  · refine ev_il (k_pr_checkIndex 2 rfl) rfl ?_
    refine ev_il (k_pr_checkIndex 3 rfl) rfl ?_
    refine ev_ic_lt (k_pr_checkIndex 4 rfl) (fun c33 => ?_) (fun c33 => ?_)
    · refine ev_il (k_pr_checkIndex 9 rfl) rfl ?_
      exact ev_iret (k_pr_checkIndex 10 rfl) rfl (⟨_, rfl, rfl, rfl⟩)
    · exfalso; omega
set_option maxHeartbeats 2000000 in
theorem c_ob_checkIndex (G : gt_T) (h : ab_H) (i n : Int) (h0 : 0 ≤ i) (h1 : i < n) : ct G M_ob_checkIndex 1 22 0 0 [vI i, vI n] h (rI fun z h' => h = h' ∧ z = i) nT := by
  show ev _ _ _ _ _ _ 0 [some (vI i), some (vI n)] [] _ _ _
  refine ev_il (k_ob_checkIndex 0 rfl) rfl ?_
  refine ev_il (k_ob_checkIndex 1 rfl) rfl ?_
  refine ev_null (k_ob_checkIndex 2 rfl) ?_
  refine ev_cS (k_ob_checkIndex 3 rfl) rfl v_pr_checkIndex (c_pr_checkIndex G _ i n (by omega) (by omega)) rfl (le_b rfl) (le_b rfl) (le_b rfl) k_n (k_I fun z34 h34 q34 => ?_)
  obtain ⟨rfl, rfl⟩ := q34
  exact ev_iret (k_ob_checkIndex 4 rfl) rfl (⟨_, rfl, rfl, rfl⟩)
set_option maxHeartbeats 2000000 in
theorem c_al_elementData (G : gt_T) (h : ab_H) (l tg : Nat) (xs : List Nat) (hA : AL G h l tg xs) (i : Nat) (hi : i < xs.length) : ct G M_al_elementData 0 0 0 0 [vA l, vI (i : Int)] h (rR fun z h' => h = h' ∧ z = some (xs.getD i 0)) nT := by
  show ev _ _ _ _ _ _ 0 [some (vA l), some (vI (i : Int))] [] _ _ _
  obtain ⟨md, a, e1, e2⟩ := hA
  rcases e2 with ⟨rfl, rfl⟩ | ⟨k, e2, e3, e4⟩
  · exact absurd hi (by simp)
  refine ev_al (k_al_elementData 0 rfl) rfl ?_
  refine ev_get (v := vA a) (k_al_elementData 1 rfl) e1 rfl ?_
  refine ev_il (k_al_elementData 2 rfl) rfl ?_
  refine ev_aald (k_al_elementData 3 rfl) (le_b rfl) e2 (by omega) (by rw [rs_len]; omega) ?_
  rw [show ((i : Int)).toNat = i from rfl, rs_get hi]
  exact ev_aret (k_al_elementData 4 rfl) rfl (⟨_, rfl, rfl, rfl⟩)
set_option maxHeartbeats 2000000 in
theorem c_al_get (G : gt_T) (h : ab_H) (l tg : Nat) (xs : List Nat) (hA : AL G h l tg xs) (i : Nat) (hi : i < xs.length) : ct G M_al_get 2 43 0 0 [vA l, vI (i : Int)] h (rR fun z h' => h = h' ∧ z = some (xs.getD i 0)) nT := by
  show ev _ _ _ _ _ _ 0 [some (vA l), some (vI (i : Int))] [] _ _ _
  have hA0 := hA
  obtain ⟨md, a, e1, e2⟩ := hA0
  refine ev_il (k_al_get 0 rfl) rfl ?_
  refine ev_al (k_al_get 1 rfl) rfl ?_
  refine ev_get (v := vI (xs.length : Int)) (k_al_get 2 rfl) e1 rfl ?_
  refine ev_cS (k_al_get 3 rfl) rfl v_ob_checkIndex (c_ob_checkIndex G _ (i : Int) (xs.length : Int) (by omega) (by omega)) rfl (le_b rfl) (le_b rfl) (le_b rfl) k_n (k_I fun z35 h35 q35 => ?_)
  obtain ⟨rfl, rfl⟩ := q35
  refine ev_pop (k_al_get 4 rfl) rfl ?_
  refine ev_al (k_al_get 5 rfl) rfl ?_
  refine ev_il (k_al_get 6 rfl) rfl ?_
  refine ev_cV (k_al_get 7 rfl) rfl v_al_elementData e1 rfl (c_al_elementData G _ l tg xs hA i hi) rfl (le_b rfl) (le_b rfl) (le_b rfl) k_n (k_R fun z36 h36 q36 => ?_)
  obtain ⟨rfl, rfl⟩ := q36
  exact ev_aret (k_al_get 8 rfl) rfl (⟨_, rfl, rfl, rfl⟩)
theorem c_abc_init (G : gt_T) (h : ab_H) (l : Nat) : ct G M_abc_init 1 20 0 0 [vA l] h (rV fun h' => h = h') nT := by
  show ev _ _ _ _ _ _ 0 [some (vA l)] [] _ _ _
  refine ev_al (k_abc_init 0 rfl) rfl ?_
  refine ev_objInit (k_abc_init 1 rfl) (le_b rfl) (le_b rfl) ?_
  exact ev_vret (k_abc_init 2 rfl) rfl ⟨rfl, rfl⟩
theorem c_abl_init (G : gt_T) (h : ab_H) (l tg : Nat) (hl : h l = some (oJ tg 6 (df 6))) : ct G M_abl_init 2 40 0 0 [vA l] h (rV fun h' => h' l = some (oJ tg 6 (df 6)) ∧ FRp (t1 tg) h h') nT := by
  show ev _ _ _ _ _ _ 0 [some (vA l)] [] _ _ _
  refine ev_al (k_abl_init 0 rfl) rfl ?_
  refine ev_cI (k_abl_init 1 rfl) rfl v_abc_init (c_abc_init G _ l) rfl (le_b rfl) (le_b rfl) (le_b rfl) k_n (k_V fun h1 q1 => ?_)
  subst q1
  refine ev_al (k_abl_init 2 rfl) rfl ?_
  refine ev_ic (k_abl_init 3 rfl) ?_
  refine ev_putT (k_abl_init 4 rfl) hl (le_b rfl) rfl rfl (fun h2 e2 f2 => ?_)
  exact ev_vret (k_abl_init 5 rfl) rfl ⟨rfl, e2, f2⟩
theorem c_al_init (G : gt_T) (h : ab_H) (l tg : Nat) (hl : h l = some (oJ tg 6 (df 6))) : ct G M_al_init 3 60 0 0 [vA l] h (rV fun h' => AL G h' l tg [] ∧ FRp (t1 tg) h h') nT := by
  show ev _ _ _ _ _ _ 0 [some (vA l)] [] _ _ _
  refine ev_al (k_al_init 0 rfl) rfl ?_
  refine ev_cI (k_al_init 1 rfl) rfl v_abl_init (c_abl_init G _ l tg hl) rfl (le_b rfl) (le_b rfl) (le_b rfl) k_n (k_V fun h1 q1 => ?_)
  obtain ⟨q1, q2⟩ := q1
  refine ev_al (k_al_init 2 rfl) rfl ?_
  refine ev_gets (k_al_init 3 rfl) ?_
  refine ev_putT (k_al_init 4 rfl) q1 (le_b rfl) rfl rfl (fun h2 e2 f2 => ?_)
  exact ev_vret (k_al_init 5 rfl) rfl ⟨rfl, ⟨0, ge G, e2, Or.inl ⟨rfl, rfl⟩⟩, fr_tr q2 f2 (fun _ q => q)⟩
theorem cpy_all (rs : List (Option Nat)) (N : Nat) (h : rs.length ≤ N) : cpy rs (List.replicate N none) 0 0 rs.length = rs ++ List.replicate (N - rs.length) none := by
  unfold cpy
  refine List.ext_getElem (by simp; omega) (fun i h1 h2 => ?_)
  simp only [List.length_map, List.length_range, List.length_replicate] at h1
  simp only [List.getElem_map, List.getElem_range, Nat.zero_le, true_and, Nat.zero_add, Nat.sub_zero]
  by_cases c : i < rs.length
  · rw [if_pos c, List.getElem_append_left c, List.getD_eq_getElem?_getD, List.getElem?_eq_getElem c]; rfl
  · rw [if_neg c, List.getElem_append_right (by omega)]
    simp only [List.getElem_replicate, List.getD_eq_getElem?_getD, List.getElem?_replicate]
    split <;> rfl
theorem fr_newhu {h h1 : ab_H} {q : Nat} {o : ab_O} (hq : h q = none) (f : FRp t0 h h1) : FRp t0 h (hu h1 q o) := by
  intro p o1 h2 h3
  have e : p ≠ q := by intro z; rw [z, hq] at h2; cases h2
  rw [hu_ne _ _ e]; exact f p o1 h2 h3
set_option maxHeartbeats 2000000 in
theorem c_as_newLength (G : gt_T) (h : ab_H) (o m p : Int) (h0 : 0 ≤ o) (h1 : o ≤ 1000) (h2 : 1 ≤ m) (h3 : m ≤ 1000) (h4 : 0 ≤ p) (h5 : p ≤ 1000) : ct G M_as_newLength 1 21 0 0 [vI o, vI m, vI p] h (rI fun z h' => h = h' ∧ z = o + (if m < p then p else m)) nT := by
  show ev _ _ _ _ _ _ 0 [some (vI o), some (vI m), some (vI p), none] [] _ _ _
  have hmx : 1 ≤ (if m < p then p else m) ∧ (if m < p then p else m) ≤ 1000 := by split <;> omega
  refine ev_il (k_as_newLength 0 rfl) rfl ?_
  refine ev_il (k_as_newLength 1 rfl) rfl ?_
  refine ev_il (k_as_newLength 2 rfl) rfl ?_
  refine ev_max (k_as_newLength 3 rfl) (le_b rfl) (le_b rfl) ?_
  refine ev_iadd (k_as_newLength 4 rfl) (by omega) ?_
  refine ev_is (k_as_newLength 5 rfl) (le_b rfl) (show ev _ _ _ _ _ _ 8 [some (vI o), some (vI m), some (vI p), some (vI (o + (if m < p then p else m)))] _ _ _ _ from ?_)
  refine ev_ic (k_as_newLength 6 rfl) ?_
  refine ev_il (k_as_newLength 7 rfl) rfl ?_
  refine ev_ic_ge (k_as_newLength 8 rfl) (fun c37 => ?_) (fun c37 => ?_)
  · exfalso; split at * <;> omega
  · refine ev_il (k_as_newLength 9 rfl) rfl ?_
    refine ev_ldc (k_as_newLength 10 rfl) ?_
    refine ev_ic_gt (k_as_newLength 11 rfl) (fun c38 => ?_) (fun c38 => ?_)
    · exfalso; split at * <;> omega
    · refine ev_il (k_as_newLength 12 rfl) rfl ?_
      exact ev_iret (k_as_newLength 13 rfl) rfl (⟨_, rfl, rfl, rfl⟩)
theorem c_ar_copyOf2 (G : gt_T) (h : ab_H) (a tg tn : Nat) (rs : List (Option Nat)) (N : Nat) (ha : h a = some (oR tg 0 rs)) (hN : rs.length ≤ N) (hN9 : N ≤ 90) (hel : ∀ y, some y ∈ rs → isO tn h y) : ct G M_ar_copyOf2 1 40 1 90 [vA a, vI (N : Int), vA (gm G)] h (rR fun z h' => ∃ q, z = some q ∧ h q = none ∧ q ≠ ge G ∧ h' q = some (oR (tn + 1) 0 (rs ++ List.replicate (N - rs.length) none)) ∧ FRp t0 h h') nT := by
  show ev _ _ _ _ _ _ 0 [some (vA a), some (vI (N : Int)), some (vA (gm G)), none] [] _ _ _
  refine ev_al (k_ar_copyOf2 0 rfl) rfl ?_
  refine ev_ldcM (k_ar_copyOf2 1 rfl) ?_
  refine ev_ac_ne (k_ar_copyOf2 2 rfl) (fun c => absurd rfl c) (fun _ => ?_)
  refine ev_il (k_ar_copyOf2 3 rfl) rfl ?_
  refine ev_anewT (C2 := 0) (S2 := 0) (tn + 1) (k_ar_copyOf2 4 rfl) (le_b rfl) (by omega) (le_b rfl) (by omega) (fun q h1 hq hne e1 f1 => ?_)
  refine ev_goto (k_ar_copyOf2 5 rfl) ?_
  refine ev_as (k_ar_copyOf2 8 rfl) (le_b rfl) (show ev _ _ _ _ _ _ 25 [some (vA a), some (vI (N : Int)), some (vA (gm G)), some (vA q)] _ _ _ _ from ?_)
  refine ev_al (k_ar_copyOf2 9 rfl) rfl ?_
  refine ev_ic (k_ar_copyOf2 10 rfl) ?_
  refine ev_al (k_ar_copyOf2 11 rfl) rfl ?_
  refine ev_ic (k_ar_copyOf2 12 rfl) ?_
  refine ev_al (k_ar_copyOf2 13 rfl) rfl ?_
  have ha1 := kp f1 ha (fun z => z)
  refine ev_alenR (k_ar_copyOf2 14 rfl) (le_b rfl) (by omega) ha1 ?_
  refine ev_il (k_ar_copyOf2 15 rfl) rfl ?_
  refine ev_min (k_ar_copyOf2 16 rfl) (le_b rfl) (le_b rfl) ?_
  rw [if_neg (by omega)]
  refine ev_acopy (k_ar_copyOf2 17 rfl) ha1 e1 (by omega) (by omega) (by omega) (by omega) (by simp; omega) (fun y hy => ?_) (le_b rfl) (le_b rfl) ?_
  · obtain ⟨t, ci, fs, g1, g2, -⟩ := hel y hy
    exact ⟨t, ci, fs, kp f1 g1 (fun z => z), g2⟩
  rw [show ((0 : Int)).toNat = 0 from rfl, show ((rs.length : Int)).toNat = rs.length from rfl, cpy_all rs N hN]
  refine ev_al (k_ar_copyOf2 18 rfl) rfl ?_
  exact ev_aret (k_ar_copyOf2 19 rfl) rfl ⟨_, rfl, q, rfl, hq, hne, hu_self _ _ _, fr_newhu hq f1⟩
theorem c_ar_copyOf (G : gt_T) (h : ab_H) (a tg tn : Nat) (rs : List (Option Nat)) (N : Nat) (ha : h a = some (oR tg 0 rs)) (hN : rs.length ≤ N) (hN9 : N ≤ 90) (hel : ∀ y, some y ∈ rs → isO tn h y) : ct G M_ar_copyOf 2 63 1 90 [vA a, vI (N : Int)] h (rR fun z h' => ∃ q, z = some q ∧ h q = none ∧ q ≠ ge G ∧ h' q = some (oR (tn + 1) 0 (rs ++ List.replicate (N - rs.length) none)) ∧ FRp t0 h h') nT := by
  show ev _ _ _ _ _ _ 0 [some (vA a), some (vI (N : Int))] [] _ _ _
  refine ev_al (k_ar_copyOf 0 rfl) rfl ?_
  refine ev_il (k_ar_copyOf 1 rfl) rfl ?_
  refine ev_al (k_ar_copyOf 2 rfl) rfl ?_
  refine ev_getC (k_ar_copyOf 3 rfl) ha (le_b rfl) (le_b rfl) ?_
  refine ev_cSA (C2 := 0) (S2 := 0) (k_ar_copyOf 4 rfl) rfl v_ar_copyOf2 (c_ar_copyOf2 G _ a tg tn rs N ha hN hN9 hel) rfl (le_b rfl) (le_b rfl) (le_b rfl) (le_b rfl) (le_b rfl) k_n (k_R fun z h1 q1 => ?_)
  exact ev_aret (k_ar_copyOf 5 rfl) rfl ⟨_, rfl, q1⟩
theorem map_some_mem {xs : List Nat} {k y : Nat} (h : some y ∈ (xs.map some ++ List.replicate k none : List (Option Nat))) : y ∈ xs := by
  simp at h; exact h
/-- a list whose array is full grows -/
def GW (G : gt_T) (h h' : ab_H) (l tg : Nat) (md : Int) (xs : List Nat) (z : Option Nat) : Prop := ∃ q k, z = some q ∧ h' l = some (oJ tg 6 [vI md, vA q, vI (xs.length : Int)]) ∧ h' q = some (oR (tg + 1) 0 (xs.map some ++ List.replicate k none)) ∧ 0 < k ∧ xs.length + k ≤ 90 ∧ FRp (t2 tg) h h'
theorem c_al_grow2 (G : gt_T) (h : ab_H) (l tg : Nat) (md : Int) (a : Nat) (xs : List Nat) (hl : h l = some (oJ tg 6 [vI md, vA a, vI (xs.length : Int)])) (hx : xs.length < 60) (hel : ∀ y ∈ xs, isO tg h y) (ha : (a = ge G ∧ xs = []) ∨ (h a = some (oR (tg + 1) 0 (xs.map some)) ∧ 0 < xs.length)) : ct G M_al_grow2 3 84 1 90 [vA l, vI ((xs.length : Int) + 1)] h (rR fun z h' => GW G h h' l tg md xs z) nT := by
  show ev _ _ _ _ _ _ 0 [some (vA l), some (vI ((xs.length : Int) + 1)), none, none] [] _ _ _
  refine ev_al (k_al_grow2 0 rfl) rfl ?_
  refine ev_get (v := vA a) (k_al_grow2 1 rfl) hl rfl ?_
  rcases ha with ⟨rfl, rfl⟩ | ⟨ha, hpos⟩
  · refine ev_alenE (k_al_grow2 2 rfl) ?_
    refine ev_is (k_al_grow2 3 rfl) (le_b rfl) (show ev _ _ _ _ _ _ 6 [some (vA l), some (vI 1), some (vI 0), none] _ _ _ _ from ?_)
    refine ev_il (k_al_grow2 4 rfl) rfl ?_
    refine ev_if_gt (k_al_grow2 5 rfl) (fun c => absurd c (by decide)) (fun _ => ?_)
    refine ev_al (k_al_grow2 6 rfl) rfl ?_
    refine ev_get (v := vA (ge G)) (k_al_grow2 7 rfl) hl rfl ?_
    refine ev_gets (k_al_grow2 8 rfl) ?_
    refine ev_ac_eq (k_al_grow2 9 rfl) (fun _ => ?_) (fun c => absurd rfl c)
    refine ev_al (k_al_grow2 27 rfl) rfl ?_
    refine ev_bp (k_al_grow2 28 rfl) ?_
    refine ev_il (k_al_grow2 29 rfl) rfl ?_
    refine ev_max (k_al_grow2 30 rfl) (le_b rfl) (le_b rfl) ?_
    rw [if_neg (by decide)]
    refine ev_anewT (N := 10) (C2 := 0) (S2 := 80) (tg + 1) (k_al_grow2 31 rfl) (le_b rfl) (le_b rfl) (le_b rfl) (le_b rfl) (fun q h1 hq hne e1 f1 => ?_)
    refine ev_dupx1 (k_al_grow2 32 rfl) rfl rfl ?_
    refine ev_putT (k_al_grow2 33 rfl) (kp f1 hl (fun z => z)) (le_b rfl) rfl rfl (fun h2 e2 f2 => ?_)
    exact ev_aret (k_al_grow2 34 rfl) rfl ⟨_, rfl, q, 10, rfl, e2, kp f2 e1 (by unfold t1; omega), by decide, by simp, fr_tr (fr_wk f1 (fun t z => z.elim)) f2 (fun t z => Or.inl z)⟩
  · refine ev_alenR (k_al_grow2 2 rfl) (le_b rfl) (by simp; omega) ha ?_
    rw [show ((xs.map some).length : Int) = (xs.length : Int) by simp]
    refine ev_is (k_al_grow2 3 rfl) (le_b rfl) (show ev _ _ _ _ _ _ 6 [some (vA l), some (vI ((xs.length : Int) + 1)), some (vI (xs.length : Int)), none] _ _ _ _ from ?_)
    refine ev_il (k_al_grow2 4 rfl) rfl ?_
    refine ev_if_gt (k_al_grow2 5 rfl) (fun _ => ?_) (fun c => absurd c (by omega))
    refine ev_il (k_al_grow2 10 rfl) rfl ?_
    refine ev_il (k_al_grow2 11 rfl) rfl ?_
    refine ev_il (k_al_grow2 12 rfl) rfl ?_
    refine ev_isub (k_al_grow2 13 rfl) (by omega) ?_
    refine ev_il (k_al_grow2 14 rfl) rfl ?_
    refine ev_ic (k_al_grow2 15 rfl) ?_
    refine ev_ishr1 (k_al_grow2 16 rfl) (by omega) ?_
    refine ev_cS (k_al_grow2 17 rfl) rfl v_as_newLength (c_as_newLength G _ (xs.length : Int) ((xs.length : Int) + 1 - (xs.length : Int)) ((xs.length : Int) / 2) (by omega) (by omega) (by omega) (by omega) (by omega) (by omega)) rfl (le_b rfl) (le_b rfl) (le_b rfl) k_n (k_I fun z h1 q1 => ?_)
    obtain ⟨rfl, rfl⟩ := q1
    obtain ⟨N, hN⟩ : ∃ N : Nat, (xs.length : Int) + (if (xs.length : Int) + 1 - (xs.length : Int) < (xs.length : Int) / 2 then (xs.length : Int) / 2 else (xs.length : Int) + 1 - (xs.length : Int)) = (N : Int) := ⟨((xs.length : Int) + (if (xs.length : Int) + 1 - (xs.length : Int) < (xs.length : Int) / 2 then (xs.length : Int) / 2 else (xs.length : Int) + 1 - (xs.length : Int))).toNat, by split <;> omega⟩
    have hNb : xs.length < N ∧ N ≤ 90 := by split at hN <;> omega
    rw [hN]
    refine ev_is (k_al_grow2 18 rfl) (le_b rfl) (show ev _ _ _ _ _ _ 31 [some (vA l), some (vI ((xs.length : Int) + 1)), some (vI (xs.length : Int)), some (vI (N : Int))] _ _ _ _ from ?_)
    refine ev_al (k_al_grow2 19 rfl) rfl ?_
    refine ev_al (k_al_grow2 20 rfl) rfl ?_
    refine ev_get (v := vA a) (k_al_grow2 21 rfl) hl rfl ?_
    refine ev_il (k_al_grow2 22 rfl) rfl ?_
    refine ev_cSA (C2 := 0) (S2 := 0) (k_al_grow2 23 rfl) rfl v_ar_copyOf (c_ar_copyOf G _ a (tg + 1) tg (xs.map some) N ha (by simp; omega) (by omega) (fun y hy => hel y (by simpa using hy))) rfl (le_b rfl) (le_b rfl) (le_b rfl) (le_b rfl) (le_b rfl) k_n (k_R fun z h2 q2 => ?_)
    obtain ⟨q, rfl, hq, hne, e1, f1⟩ := q2
    refine ev_dupx1 (k_al_grow2 24 rfl) rfl rfl ?_
    refine ev_putT (k_al_grow2 25 rfl) (kp f1 hl (fun z => z)) (le_b rfl) rfl rfl (fun h3 e3 f3 => ?_)
    refine ev_aret (k_al_grow2 26 rfl) rfl ⟨_, rfl, q, N - xs.length, rfl, e3, ?_, by omega, by omega, fr_tr (fr_wk f1 (fun t z => z.elim)) f3 (fun t z => Or.inl z)⟩
    have := kp f3 e1 (by unfold t1; omega)
    simpa using this
theorem c_al_grow (G : gt_T) (h : ab_H) (l tg : Nat) (md : Int) (a : Nat) (xs : List Nat) (hl : h l = some (oJ tg 6 [vI md, vA a, vI (xs.length : Int)])) (hx : xs.length < 60) (hel : ∀ y ∈ xs, isO tg h y) (ha : (a = ge G ∧ xs = []) ∨ (h a = some (oR (tg + 1) 0 (xs.map some)) ∧ 0 < xs.length)) : ct G M_al_grow 4 107 1 90 [vA l] h (rR fun z h' => GW G h h' l tg md xs z) nT := by
  show ev _ _ _ _ _ _ 0 [some (vA l)] [] _ _ _
  refine ev_al (k_al_grow 0 rfl) rfl ?_
  refine ev_al (k_al_grow 1 rfl) rfl ?_
  refine ev_get (v := vI (xs.length : Int)) (k_al_grow 2 rfl) hl rfl ?_
  refine ev_ic (k_al_grow 3 rfl) ?_
  refine ev_iadd (k_al_grow 4 rfl) (by omega) ?_
  refine ev_cVA (C2 := 0) (S2 := 0) (k_al_grow 5 rfl) rfl v_al_grow2 hl rfl (c_al_grow2 G _ l tg md a xs hl hx hel ha) rfl (le_b rfl) (le_b rfl) (le_b rfl) (le_b rfl) (le_b rfl) k_n (k_R fun z h1 q1 => ?_)
  exact ev_aret (k_al_grow 6 rfl) rfl ⟨_, rfl, q1⟩
theorem c_al_add2 (G : gt_T) (h : ab_H) (l tg : Nat) (md : Int) (a : Nat) (xs : List Nat) (v : Nat) (hl : h l = some (oJ tg 6 [vI md, vA a, vI (xs.length : Int)])) (hx : xs.length < 60) (hel : ∀ y ∈ xs, isO tg h y) (hv : isO tg h v) (ha : (a = ge G ∧ xs = []) ∨ ∃ k : Nat, h a = some (oR (tg + 1) 0 (xs.map some ++ List.replicate k none)) ∧ 0 < xs.length + k ∧ xs.length + k ≤ 90) : ct G M_al_add2 5 127 1 90 [vA l, vA v, vA a, vI (xs.length : Int)] h (rV fun h' => AL G h' l tg (xs ++ [v]) ∧ FRp (t2 tg) h h') nT := by
  show ev _ _ _ _ _ _ 0 [some (vA l), some (vA v), some (vA a), some (vI (xs.length : Int))] [] _ _ _
  have tail : ∀ (h1 : ab_H) (b k : Nat), h1 l = some (oJ tg 6 [vI md, vA b, vI (xs.length : Int)]) → h1 b = some (oR (tg + 1) 0 (xs.map some ++ List.replicate k none)) → 0 < k → xs.length + k ≤ 90 → FRp (t2 tg) h h1 → ev G M_al_add2 5 127 0 0 11 [some (vA l), some (vA v), some (vA b), some (vI (xs.length : Int))] [] h1 (rV fun h' => AL G h' l tg (xs ++ [v]) ∧ FRp (t2 tg) h h') nT := by
    intro h1 b k g1 g2 g3 g4 g5
    obtain ⟨tv, cv_, fv, w1, w2, w3, w4⟩ := isO_kp g5 (fun t z => z) hv
    refine ev_al (k_al_add2 7 rfl) rfl ?_
    refine ev_il (k_al_add2 8 rfl) rfl ?_
    refine ev_al (k_al_add2 9 rfl) rfl ?_
    refine ev_aastT (k_al_add2 10 rfl) (iN := xs.length) rfl g2 (by simp; omega) w1 w2 (fun h2 e2 f2 => ?_)
    rw [rs_set g3] at e2
    refine ev_al (k_al_add2 11 rfl) rfl ?_
    refine ev_il (k_al_add2 12 rfl) rfl ?_
    refine ev_ic (k_al_add2 13 rfl) ?_
    refine ev_iadd (k_al_add2 14 rfl) (by omega) ?_
    refine ev_putT (k_al_add2 15 rfl) (kp f2 g1 (by unfold t1; omega)) (le_b rfl) rfl rfl (fun h3 e3 f3 => ?_)
    refine ev_vret (k_al_add2 16 rfl) rfl ⟨rfl, ⟨md, b, ?_, Or.inr ⟨k - 1, kp f3 e2 (by unfold t1; omega), by simp; omega, by simp; omega⟩⟩, fr_tr (fr_tr g5 f2 (fun t z => Or.inr z)) f3 (fun t z => Or.inl z)⟩
    rw [e3]
    simp
  refine ev_il (k_al_add2 0 rfl) rfl ?_
  refine ev_al (k_al_add2 1 rfl) rfl ?_
  rcases ha with ⟨rfl, rfl⟩ | ⟨k, ha, hk0, hk9⟩
  · refine ev_alenE (k_al_add2 2 rfl) ?_
    refine ev_ic_ne (k_al_add2 3 rfl) (fun c => absurd rfl c) (fun _ => ?_)
    refine ev_al (k_al_add2 4 rfl) rfl ?_
    refine ev_cVA (C2 := 0) (S2 := 0) (k_al_add2 5 rfl) rfl v_al_grow hl rfl (c_al_grow G _ l tg md (ge G) [] hl (by decide) (fun y hy => by cases hy) (Or.inl ⟨rfl, rfl⟩)) rfl (le_b rfl) (le_b rfl) (le_b rfl) (le_b rfl) (le_b rfl) k_n (k_R fun z h1 q1 => ?_)
    obtain ⟨q, k, rfl, g1, g2, g3, g4, g5⟩ := q1
    refine ev_as (k_al_add2 6 rfl) (le_b rfl) (show ev _ _ _ _ _ _ 11 [some (vA l), some (vA v), some (vA q), some (vI 0)] _ _ _ _ from ?_)
    exact tail h1 q k g1 g2 g3 g4 g5
  · refine ev_alenR (k_al_add2 2 rfl) (le_b rfl) (by rw [rs_len]; omega) ha ?_
    rw [rs_len]
    refine ev_ic_ne (k_al_add2 3 rfl) (fun c => ?_) (fun c => ?_)
    · exact ev_room (Nat.le_refl _) (Nat.le_refl _) (Nat.zero_le _) (Nat.zero_le _) (tail h a k hl ha (by omega) hk9 (fr_rf _ _))
    · have hk : k = 0 := by omega
      subst hk
      rw [List.replicate_zero, List.append_nil] at ha
      refine ev_al (k_al_add2 4 rfl) rfl ?_
      refine ev_cVA (C2 := 0) (S2 := 0) (k_al_add2 5 rfl) rfl v_al_grow hl rfl (c_al_grow G _ l tg md a xs hl hx hel (Or.inr ⟨ha, by omega⟩)) rfl (le_b rfl) (le_b rfl) (le_b rfl) (le_b rfl) (le_b rfl) k_n (k_R fun z h1 q1 => ?_)
      obtain ⟨q, k, rfl, g1, g2, g3, g4, g5⟩ := q1
      refine ev_as (k_al_add2 6 rfl) (le_b rfl) (show ev _ _ _ _ _ _ 11 [some (vA l), some (vA v), some (vA q), some (vI (xs.length : Int))] _ _ _ _ from ?_)
      exact tail h1 q k g1 g2 g3 g4 g5
theorem c_al_add (G : gt_T) (h : ab_H) (l tg : Nat) (xs : List Nat) (v : Nat) (hA : AL G h l tg xs) (hx : xs.length < 60) (hel : ∀ y ∈ xs, isO tg h y) (hv : isO tg h v) : ct G M_al_add 6 150 1 90 [vA l, vA v] h (rB fun z h' => z = true ∧ AL G h' l tg (xs ++ [v]) ∧ FRp (t2 tg) h h') nT := by
  show ev _ _ _ _ _ _ 0 [some (vA l), some (vA v)] [] _ _ _
  obtain ⟨md, a, e1, e2⟩ := hA
  refine ev_al (k_al_add 0 rfl) rfl ?_
  refine ev_dup (k_al_add 1 rfl) rfl ?_
  refine ev_get (v := vI md) (k_al_add 2 rfl) e1 rfl ?_
  refine ev_ic (k_al_add 3 rfl) ?_
  refine ev_iaddW (k_al_add 4 rfl) (fun m2 => ?_)
  refine ev_putT (k_al_add 5 rfl) e1 (le_b rfl) rfl rfl (fun h1 g1 f1 => ?_)
  refine ev_al (k_al_add 6 rfl) rfl ?_
  refine ev_al (k_al_add 7 rfl) rfl ?_
  refine ev_al (k_al_add 8 rfl) rfl ?_
  refine ev_get (v := vA a) (k_al_add 9 rfl) g1 rfl ?_
  refine ev_al (k_al_add 10 rfl) rfl ?_
  refine ev_get (v := vI (xs.length : Int)) (k_al_add 11 rfl) g1 rfl ?_
  have hP : ∀ t, t1 tg t → t = tg ∨ t = tg + 1 := fun t z => Or.inl z
  refine ev_cVA (C2 := 0) (S2 := 0) (k_al_add 12 rfl) rfl v_al_add2 g1 rfl (c_al_add2 G _ l tg m2 a xs v g1 hx (fun y hy => isO_kp f1 hP (hel y hy)) (isO_kp f1 hP hv) (by
    rcases e2 with e2 | ⟨k, e2, e3⟩
    · exact Or.inl e2
    · exact Or.inr ⟨k, kp f1 e2 (by unfold t1; omega), e3⟩)) rfl (le_b rfl) (le_b rfl) (le_b rfl) (le_b rfl) (le_b rfl) k_n (k_V fun h2 q2 => ?_)
  refine ev_ic (k_al_add 13 rfl) ?_
  exact ev_zret (x := true) (k_al_add 14 rfl) rfl ⟨true, rfl, rfl, q2.1, fr_tr (fr_wk f1 (fun t z => Or.inl z)) q2.2 (fun t z => z)⟩
theorem cpy_rm {xs : List Nat} {k i : Nat} (hi : i + 1 < xs.length) : (cpy (xs.map some ++ List.replicate k none) (xs.map some ++ List.replicate k none) (i + 1) i (xs.length - 1 - i)).set (xs.length - 1) none = (xs.eraseIdx i).map some ++ List.replicate (k + 1) none := by
  refine List.ext_getElem (by simp [cpy, List.length_eraseIdx]; split <;> omega) (fun j h1 h2 => ?_)
  have hj : j < xs.length + k := by simpa [cpy] using h1
  have el : (xs.eraseIdx i).length = xs.length - 1 := by rw [List.length_eraseIdx, if_pos (by omega)]
  rw [List.getElem_set]
  by_cases c1 : xs.length - 1 = j
  · rw [if_pos c1, List.getElem_append_right (by simp [el]; omega)]
    simp
  · rw [if_neg c1]
    simp only [cpy, List.getElem_map, List.getElem_range]
    by_cases c2 : i ≤ j ∧ j < i + (xs.length - 1 - i)
    · rw [if_pos c2, show i + 1 + (j - i) = j + 1 by omega, rs_get (by omega), List.getElem_append_left (by simp [el]; omega)]
      simp only [List.getElem_map]
      rw [List.getElem_eraseIdx_of_ge _ (by omega), List.getD_eq_getElem?_getD, List.getElem?_eq_getElem (by omega)]
      rfl
    · rw [if_neg c2]
      by_cases c3 : j < i
      · rw [rs_get (by omega), List.getElem_append_left (by simp [el]; omega)]
        simp only [List.getElem_map]
        rw [List.getElem_eraseIdx_of_lt _ (by omega), List.getD_eq_getElem?_getD, List.getElem?_eq_getElem (by omega)]
        rfl
      · rw [List.getElem_append_right (by simp [el]; omega), List.getD_eq_getElem?_getD, List.getElem?_append_right (by simp; omega)]
        simp [List.getElem?_replicate]
        split <;> rfl
theorem rm_last {xs : List Nat} {k i : Nat} (hi : i + 1 = xs.length) : (xs.map some ++ List.replicate k none : List (Option Nat)).set (xs.length - 1) none = (xs.eraseIdx i).map some ++ List.replicate (k + 1) none := by
  refine List.ext_getElem (by simp [List.length_eraseIdx]; split <;> omega) (fun j h1 h2 => ?_)
  have hj : j < xs.length + k := by simpa using h1
  have el : (xs.eraseIdx i).length = xs.length - 1 := by rw [List.length_eraseIdx, if_pos (by omega)]
  rw [List.getElem_set]
  by_cases c1 : xs.length - 1 = j
  · rw [if_pos c1, List.getElem_append_right (by simp [el]; omega)]
    simp
  · rw [if_neg c1]
    by_cases c3 : j < xs.length - 1
    · rw [List.getElem_append_left (by simp; omega), List.getElem_append_left (by simp [el]; omega)]
      simp only [List.getElem_map]
      rw [List.getElem_eraseIdx_of_lt _ (by omega)]
    · rw [List.getElem_append_right (by simp; omega), List.getElem_append_right (by simp [el]; omega)]
      simp
theorem mem_erase {xs : List Nat} {i y : Nat} (h : y ∈ xs.eraseIdx i) : y ∈ xs := List.mem_of_mem_eraseIdx h
theorem c_al_fastRemove (G : gt_T) (h : ab_H) (l tg : Nat) (md : Int) (a k : Nat) (xs : List Nat) (i : Nat) (hi : i < xs.length) (hl : h l = some (oJ tg 6 [vI md, vA a, vI (xs.length : Int)])) (ha : h a = some (oR (tg + 1) 0 (xs.map some ++ List.replicate k none))) (hk9 : xs.length + k ≤ 90) (hel : ∀ y ∈ xs, isO tg h y) : ct G M_al_fastRemove 1 40 0 0 [vA l, vA a, vI (i : Int)] h (rV fun h' => AL G h' l tg (xs.eraseIdx i) ∧ FRp (t2 tg) h h') nT := by
  show ev _ _ _ _ _ _ 0 [some (vA l), some (vA a), some (vI (i : Int)), none] [] _ _ _
  have el : (xs.eraseIdx i).length = xs.length - 1 := by rw [List.length_eraseIdx, if_pos hi]
  have tail : ∀ (h1 : ab_H) (m2 : Int) (rs : List (Option Nat)), h1 l = some (oJ tg 6 [vI m2, vA a, vI (xs.length : Int)]) → h1 a = some (oR (tg + 1) 0 rs) → rs.length = xs.length + k → rs.set (xs.length - 1) none = (xs.eraseIdx i).map some ++ List.replicate (k + 1) none → FRp (t2 tg) h h1 → ev G M_al_fastRemove 1 40 0 0 34 [some (vA l), some (vA a), some (vI (i : Int)), some (vI ((xs.length : Int) - 1))] [] h1 (rV fun h' => AL G h' l tg (xs.eraseIdx i) ∧ FRp (t2 tg) h h') nT := by
    intro h1 m2 rs g1 g2 g3 g4 g5
    refine ev_al (k_al_fastRemove 24 rfl) rfl ?_
    refine ev_al (k_al_fastRemove 25 rfl) rfl ?_
    refine ev_il (k_al_fastRemove 26 rfl) rfl ?_
    refine ev_dupx1 (k_al_fastRemove 27 rfl) rfl rfl ?_
    refine ev_putT (k_al_fastRemove 28 rfl) g1 (le_b rfl) rfl rfl (fun h3 e3 f3 => ?_)
    refine ev_null (k_al_fastRemove 29 rfl) ?_
    have g2' := kp f3 g2 (by unfold t1; omega)
    refine ev_aastN (k_al_fastRemove 30 rfl) g2' (by omega) (by omega) ?_
    refine ev_vret (k_al_fastRemove 31 rfl) rfl ⟨rfl, ⟨m2, a, ?_, Or.inr ⟨k + 1, ?_, by omega, by omega⟩⟩, fr_tr (fr_tr g5 f3 (fun t z => Or.inl z)) (fr_hu g2') (fun t z => Or.inr z)⟩
    · have := kp (fr_hu (o' := oR (tg + 1) 0 (rs.set (((xs.length : Int) - 1)).toNat none)) g2') e3 (by unfold t1; omega)
      rw [this, el, show ((xs.length - 1 : Nat) : Int) = (xs.length : Int) - 1 by omega]
      rfl
    · rw [hu_self, show (((xs.length : Int) - 1)).toNat = xs.length - 1 by omega, g4]
  refine ev_al (k_al_fastRemove 0 rfl) rfl ?_
  refine ev_dup (k_al_fastRemove 1 rfl) rfl ?_
  refine ev_get (v := vI md) (k_al_fastRemove 2 rfl) hl rfl ?_
  refine ev_ic (k_al_fastRemove 3 rfl) ?_
  refine ev_iaddW (k_al_fastRemove 4 rfl) (fun m2 => ?_)
  refine ev_putT (k_al_fastRemove 5 rfl) hl (le_b rfl) rfl rfl (fun h1 g1 f1 => ?_)
  have ha1 := kp f1 ha (by unfold t1; omega)
  refine ev_al (k_al_fastRemove 6 rfl) rfl ?_
  refine ev_get (v := vI (xs.length : Int)) (k_al_fastRemove 7 rfl) g1 rfl ?_
  refine ev_ic (k_al_fastRemove 8 rfl) ?_
  refine ev_isub (k_al_fastRemove 9 rfl) (by omega) ?_
  refine ev_dup (k_al_fastRemove 10 rfl) rfl ?_
  refine ev_is (k_al_fastRemove 11 rfl) (le_b rfl) (show ev _ _ _ _ _ _ 18 [some (vA l), some (vA a), some (vI (i : Int)), some (vI ((xs.length : Int) - 1))] _ _ _ _ from ?_)
  refine ev_il (k_al_fastRemove 12 rfl) rfl ?_
  have hf1 : FRp (t2 tg) h h1 := fr_wk f1 (fun t z => Or.inl z)
  refine ev_ic_le (k_al_fastRemove 13 rfl) (fun c => ?_) (fun c => ?_)
  · exact tail h1 m2 _ g1 ha1 (rs_len _ _) (rm_last (by omega)) hf1
  · refine ev_al (k_al_fastRemove 14 rfl) rfl ?_
    refine ev_il (k_al_fastRemove 15 rfl) rfl ?_
    refine ev_ic (k_al_fastRemove 16 rfl) ?_
    refine ev_iadd (k_al_fastRemove 17 rfl) (by omega) ?_
    refine ev_al (k_al_fastRemove 18 rfl) rfl ?_
    refine ev_il (k_al_fastRemove 19 rfl) rfl ?_
    refine ev_il (k_al_fastRemove 20 rfl) rfl ?_
    refine ev_il (k_al_fastRemove 21 rfl) rfl ?_
    refine ev_isub (k_al_fastRemove 22 rfl) (by omega) ?_
    refine ev_acopy (k_al_fastRemove 23 rfl) ha1 ha1 (by omega) (by omega) (by omega) (by rw [rs_len]; omega) (by rw [rs_len]; omega) (fun y hy => ?_) (le_b rfl) (le_b rfl) ?_
    · obtain ⟨t, ci, fs, w1, w2, -⟩ := isO_kp f1 (fun t z => Or.inl z) (hel y (map_some_mem hy))
      exact ⟨t, ci, fs, w1, w2⟩
    rw [show ((i : Int) + 1).toNat = i + 1 by omega, show ((i : Int)).toNat = i from rfl, show ((xs.length : Int) - 1 - (i : Int)).toNat = xs.length - 1 - i by omega]
    exact tail _ m2 _ (kp (fr_hu ha1) g1 (by unfold t1; omega)) (hu_self _ _ _) (by rw [cpy_len, rs_len]) (cpy_rm (by omega)) (fr_tr hf1 (fr_hu ha1) (fun t z => Or.inr z))
theorem c_al_remove (G : gt_T) (h : ab_H) (l tg : Nat) (xs : List Nat) (i : Nat) (hA : AL G h l tg xs) (hi : i < xs.length) (hel : ∀ y ∈ xs, isO tg h y) : ct G M_al_remove 2 63 0 0 [vA l, vI (i : Int)] h (rR fun _ h' => AL G h' l tg (xs.eraseIdx i) ∧ FRp (t2 tg) h h') nT := by
  show ev _ _ _ _ _ _ 0 [some (vA l), some (vI (i : Int)), none, none] [] _ _ _
  obtain ⟨md, a, e1, e2⟩ := hA
  rcases e2 with ⟨rfl, rfl⟩ | ⟨k, e2, e3, e4⟩
  · exact absurd hi (by simp)
  refine ev_il (k_al_remove 0 rfl) rfl ?_
  refine ev_al (k_al_remove 1 rfl) rfl ?_
  refine ev_get (v := vI (xs.length : Int)) (k_al_remove 2 rfl) e1 rfl ?_
  refine ev_cS (k_al_remove 3 rfl) rfl v_ob_checkIndex (c_ob_checkIndex G _ (i : Int) (xs.length : Int) (by omega) (by omega)) rfl (le_b rfl) (le_b rfl) (le_b rfl) k_n (k_I fun z h1 q1 => ?_)
  obtain ⟨rfl, rfl⟩ := q1
  refine ev_pop (k_al_remove 4 rfl) rfl ?_
  refine ev_al (k_al_remove 5 rfl) rfl ?_
  refine ev_get (v := vA a) (k_al_remove 6 rfl) e1 rfl ?_
  refine ev_as (k_al_remove 7 rfl) (le_b rfl) (show ev _ _ _ _ _ _ 14 [some (vA l), some (vI (i : Int)), some (vA a), none] _ _ _ _ from ?_)
  refine ev_al (k_al_remove 8 rfl) rfl ?_
  refine ev_il (k_al_remove 9 rfl) rfl ?_
  refine ev_aald (k_al_remove 10 rfl) (le_b rfl) e2 (by omega) (by rw [rs_len]; omega) ?_
  rw [show ((i : Int)).toNat = i from rfl, rs_get hi]
  refine ev_as (k_al_remove 11 rfl) (le_b rfl) (show ev _ _ _ _ _ _ 18 [some (vA l), some (vI (i : Int)), some (vA a), some (vA (xs.getD i 0))] _ _ _ _ from ?_)
  refine ev_al (k_al_remove 12 rfl) rfl ?_
  refine ev_al (k_al_remove 13 rfl) rfl ?_
  refine ev_il (k_al_remove 14 rfl) rfl ?_
  refine ev_cV (k_al_remove 15 rfl) rfl v_al_fastRemove e1 rfl (c_al_fastRemove G _ l tg md a k xs i hi e1 e2 e4 hel) rfl (le_b rfl) (le_b rfl) (le_b rfl) k_n (k_V fun h2 q2 => ?_)
  refine ev_al (k_al_remove 16 rfl) rfl ?_
  exact ev_aret (k_al_remove 17 rfl) rfl ⟨_, rfl, q2⟩
