/-! PLAIN FUNCTIONS; THE MODEL OBJECT: its state sg (numbers by field, arrays by field), where it lies in a heap (printed by gen/model.py) -/
def gd (xs : List Int) (i : Nat) : Int := xs.getD i 0
theorem gd_mem {xs : List Int} {i : Nat} (hi : i < xs.length) : gd xs i ∈ xs := gD_mem hi
theorem gd_set {xs : List Int} {k : Nat} (z : Int) (hk : k < xs.length) (j : Nat) : gd (xs.set k z) j = if j = k then z else gd xs j := getD_set xs k z 0 hk j
theorem bq_t {x y : Int} (h : x = y) : (x == y) = true := beq_iff_eq.mpr h
theorem bq_f {x y : Int} (h : x ≠ y) : (x == y) = false := beq_eq_false_iff_ne.mpr h
def inb (v a b : Int) : Bool := decide (a ≤ v ∧ v ≤ b)
theorem inb_t {v a b : Int} (h : inb v a b = true) : a ≤ v ∧ v ≤ b := of_decide_eq_true h
theorem inb_f {v a b : Int} (h : inb v a b = false) : ¬ (a ≤ v ∧ v ≤ b) := of_decide_eq_false h
def cnt (p : Nat → Bool) : Nat → Nat
  | 0 => 0
  | n + 1 => cnt p n + (if p n then 1 else 0)
def lix (p : Nat → Bool) : Nat → Option Nat
  | 0 => none
  | n + 1 => if p n then some n else lix p n
def anb (p : Nat → Bool) : Nat → Bool
  | 0 => false
  | n + 1 => anb p n || p n
/-- an index or -1 -/
def oix (o : Option Nat) : Int := match o with
  | none => -1
  | some k => (k : Int)
theorem cnt_le (p : Nat → Bool) (n : Nat) : cnt p n ≤ n := by
  induction n with
  | zero => exact Nat.le_refl _
  | succ n ih => unfold cnt; split <;> omega
theorem lix_lt {p : Nat → Bool} {n k : Nat} (h : lix p n = some k) : k < n ∧ p k = true := by
  induction n with
  | zero => cases h
  | succ n ih =>
    unfold lix at h
    split at h
    · cases h; exact ⟨Nat.lt_succ_self _, by assumption⟩
    · obtain ⟨h1, h2⟩ := ih h; exact ⟨by omega, h2⟩
theorem cnt_congr {p q : Nat → Bool} {n : Nat} (h : ∀ k, k < n → p k = q k) : cnt p n = cnt q n := by
  induction n with
  | zero => rfl
  | succ n ih => unfold cnt; rw [ih (fun k hk => h k (by omega)), h n (Nat.lt_succ_self n)]
theorem lix_congr {p q : Nat → Bool} {n : Nat} (h : ∀ k, k < n → p k = q k) : lix p n = lix q n := by
  induction n with
  | zero => rfl
  | succ n ih => unfold lix; rw [ih (fun k hk => h k (by omega)), h n (Nat.lt_succ_self n)]
theorem anb_congr {p q : Nat → Bool} {n : Nat} (h : ∀ k, k < n → p k = q k) : anb p n = anb q n := by
  induction n with
  | zero => rfl
  | succ n ih => unfold anb; rw [ih (fun k hk => h k (by omega)), h n (Nat.lt_succ_self n)]
abbrev sg_T : Type := (Nat → Int) × (Nat → List Int)
def mf (ma : Nat → Nat) (σ : sg_T) : List ab_V := [vI (σ.1 0), vA (ma 1), vI (σ.1 2), vI (σ.1 3), vI (σ.1 4), vI (σ.1 5), vA (ma 6), vA (ma 7), vA (ma 8), vA (ma 9), vA (ma 10), vI (σ.1 11), vA (ma 12), vA (ma 13), vA (ma 14), vA (ma 15), vI (σ.1 16), vA (ma 17), vA (ma 18), vA (ma 19), vA (ma 20), vI (σ.1 21), vA (ma 22), vA (ma 23), vA (ma 24), vI (σ.1 25), vA (ma 26)]
/-- of an array field: its kind, its length -/
def ka : Nat → Option (Nat × Nat) := fun k => match k with
  | 1 => some (0, 400)
  | 6 => some (0, 4)
  | 7 => some (1, 160)
  | 8 => some (0, 160)
  | 9 => some (0, 160)
  | 10 => some (1, 640)
  | 12 => some (0, 20)
  | 13 => some (1, 20)
  | 14 => some (0, 20)
  | 15 => some (1, 20)
  | 17 => some (0, 60)
  | 18 => some (1, 60)
  | 19 => some (0, 60)
  | 20 => some (1, 60)
  | 22 => some (1, 40)
  | 23 => some (0, 40)
  | 24 => some (1, 6)
  | 26 => some (0, 40)
  | _ => none
def MR (h : ab_H) (ma : Nat → Nat) (σ : sg_T) : Prop := h (ma 0) = some (oJ 1000 7 (mf ma σ)) ∧ ∀ (k kd n : Nat), ka k = some (kd, n) → h (ma k) = some (oN (1000 + k) kd (σ.2 k)) ∧ (σ.2 k).length = n
theorem mr_a {h : ab_H} {ma : Nat → Nat} {σ : sg_T} (hm : MR h ma σ) (k : Nat) {kd n : Nat} (hk : ka k = some (kd, n)) : h (ma k) = some (oN (1000 + k) kd (σ.2 k)) := (hm.2 k kd n hk).1
theorem mr_l {h : ab_H} {ma : Nat → Nat} {σ : sg_T} (hm : MR h ma σ) (k : Nat) {kd n : Nat} (hk : ka k = some (kd, n)) : (σ.2 k).length = n := (hm.2 k kd n hk).2
def sS (σ : sg_T) (k : Nat) (z : Int) : sg_T := (fun j => if j = k then z else σ.1 j, σ.2)
def sA (σ : sg_T) (k : Nat) (xs : List Int) : sg_T := (σ.1, fun j => if j = k then xs else σ.2 j)
/-- what isn't the model's stays -/
def fM (h h' : ab_H) : Prop := ∀ (q : Nat) (o : ab_O), h q = some o → o.1 < 1000 → h' q = some o
theorem fM_rf (h : ab_H) : fM h h := fun _ _ q _ => q
theorem fM_tr {h h1 h2 : ab_H} (a : fM h h1) (b : fM h1 h2) : fM h h2 := fun q o x y => b q o (a q o x y) y
theorem fM_hu {h : ab_H} {a : Nat} {o o' : ab_O} (ha : h a = some o) (ht : 1000 ≤ o.1) : fM h (hu h a o') := by
  intro q o1 h1 h2
  by_cases e : q = a
  · subst e; rw [ha] at h1; cases h1; omega
  · rw [hu_ne h o' e]; exact h1
theorem mr_o {h : ab_H} {ma : Nat → Nat} {σ : sg_T} (hm : MR h ma σ) {fs : List ab_V} {σ' : sg_T} (h1 : fs = mf ma σ') (h2 : σ'.2 = σ.2) : MR (hu h (ma 0) (oJ 1000 7 fs)) ma σ' := by
  refine ⟨by rw [hu_self, h1], fun k kd n hk => ?_⟩
  have hk' := hm.2 k kd n hk
  rw [h2]
  refine ⟨?_, hk'.2⟩
  have e : ma k ≠ ma 0 := by
    intro z
    have := hk'.1
    rw [z, hm.1] at this
    have h2 := congrArg (fun o : Option ab_O => o.map (fun x => x.2)) this
    simp at h2
  rw [hu_ne _ _ e]
  exact hk'.1
theorem mr_u {h : ab_H} {ma : Nat → Nat} {σ : sg_T} (hm : MR h ma σ) (k : Nat) {kd n : Nat} (hk : ka k = some (kd, n)) {xs : List Int} (hl : xs.length = n) : MR (hu h (ma k) (oN (1000 + k) kd xs)) ma (sA σ k xs) := by
  have h0 := hm.2 k kd n hk
  have e0 : ma 0 ≠ ma k := by
    intro z
    have := h0.1
    rw [← z, hm.1] at this
    have h2 := congrArg (fun o : Option ab_O => o.map (fun x => x.2)) this
    simp at h2
  refine ⟨by rw [hu_ne _ _ e0]; exact hm.1, fun j kd' n' hj => ?_⟩
  by_cases e : j = k
  · subst e
    rw [hk] at hj
    cases hj
    refine ⟨?_, ?_⟩
    · rw [hu_self]; simp [sA]
    · simp [sA, hl]
  · have hj' := hm.2 j kd' n' hj
    have e1 : ma j ≠ ma k := by
      intro z
      have h1 := hj'.1
      rw [z, h0.1] at h1
      have h2 := congrArg (fun o : Option ab_O => o.map (fun x => x.1)) h1
      simp at h2
      omega
    refine ⟨?_, ?_⟩
    · rw [hu_ne _ _ e1]; simp [sA, e, hj'.1]
    · simp [sA, e, hj'.2]
section EvBool
variable {G : gt_T} {M : mt_T} {F L C S : Nat} {pc a0 b0 j0 : Nat} {z0 : Int} {ls : List (Option ab_V)} {st : List ab_V} {h : ab_H} {Φ : Option ab_V → ab_H → Prop} {Θ : Nat → ab_H → Prop}
theorem ev_eqv {v v' : ab_V} (e : v = v') (k : ev G M F L C S pc ls (v' :: st) h Φ Θ) : ev G M F L C S pc ls (v :: st) h Φ Θ := by rw [e]; exact k
theorem ev_iorB (d : ri_at M (pc, 1, 15, a0, b0, j0, z0)) {x y : Bool} (k : ev G M F L C S (pc + 1) ls (vI (bi (x || y)) :: st) h Φ Θ) : ev G M F L C S pc ls (vI (bi y) :: vI (bi x) :: st) h Φ Θ := by
  refine ev_ior d (ev_eqv ?_ k)
  cases x <;> cases y <;> decide +kernel
theorem ev_iandB (d : ri_at M (pc, 1, 14, a0, b0, j0, z0)) {x y : Bool} (k : ev G M F L C S (pc + 1) ls (vI (bi (x && y)) :: st) h Φ Θ) : ev G M F L C S pc ls (vI (bi y) :: vI (bi x) :: st) h Φ Θ := by
  refine ev_iand d (ev_eqv ?_ k)
  cases x <;> cases y <;> decide +kernel
theorem ev_dead (i : Nat) (k : ev G M F L C S pc (ls.set i none) st h Φ Θ) : ev G M F L C S pc ls st h Φ Θ := by
  intro p e R s m args below meth c H locs cells slots lsC B
  obtain ⟨C0, hF, hL, hC, hS, hrp, hl, hst, hls⟩ := B
  have key : ∀ (j : Nat) (v : ab_V), (ls.set i none)[j]? = some (some v) → ls[j]? = some (some v) := by
    intro j v hj
    rw [List.getElem?_set] at hj
    split at hj
    · split at hj <;> simp at hj
    · exact hj
  refine k p e R s m args below meth c H locs cells slots lsC ⟨C0, hF, hL, hC, hS, hrp, ⟨hl.1, hl.2.1, by rw [List.length_set]; exact hl.2.2.1, fun j v hj => hl.2.2.2 j v (key j v hj)⟩, hst, fun v hv => ?_⟩
  obtain ⟨j, hj⟩ := List.getElem?_of_mem hv
  exact hls v (List.mem_of_getElem? (key j v hj))
end EvBool
