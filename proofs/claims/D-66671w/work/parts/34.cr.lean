/-! THE CLASS's OBJECTS stand for the same state sg as the model's. Addresses by tag: xa tag. -/
def rt (e i j : Nat) : Nat := 100 + 200 * e + 5 * i + j
def rwl (xa : Nat → Nat) (e n : Nat) : List Nat := (List.range n).map fun i => xa (rt e i 0)
theorem rwl_len (xa : Nat → Nat) (e n : Nat) : (rwl xa e n).length = n := by simp [rwl]
theorem rwl_get {xa : Nat → Nat} {e n i : Nat} (hi : i < n) : (rwl xa e n).getD i 0 = xa (rt e i 0) := by
  unfold rwl
  rw [List.getD_eq_getElem?_getD, List.getElem?_map, List.getElem?_range hi]; rfl
theorem rwl_s (xa : Nat → Nat) (e n : Nat) : rwl xa e (n + 1) = rwl xa e n ++ [xa (rt e n 0)] := by simp [rwl, List.range_succ]
theorem rwl_mem {xa : Nat → Nat} {e n y : Nat} (h : y ∈ rwl xa e n) : ∃ i, i < n ∧ y = xa (rt e i 0) := by
  simp only [rwl, List.mem_map, List.mem_range] at h
  obtain ⟨i, h1, h2⟩ := h
  exact ⟨i, h1, h2.symm⟩
/-- a word in 32 and in 27 signs -/
def WW (a b : Int) : Prop := ∃ w : List Int, (∀ x ∈ w, 1 ≤ x ∧ x ≤ 26) ∧ w.length ≤ 8 ∧ a = enc 32 w ∧ b = enc 27 w
/-- the row above -/
def abo (xa : Nat → Nat) (σ : sg_T) (e i : Nat) : Option Nat := if abv (σ.2 8) (40 * e) (40 * e + i) < 0 then none else some (xa (rt e ((abv (σ.2 8) (40 * e) (40 * e + i)).toNat - 40 * e) 0))
def rf (xa : Nat → Nat) (σ : sg_T) (e i : Nat) : List ab_V := [vL (gd (σ.2 7) (40 * e + i)), vI (gd (σ.2 8) (40 * e + i)), vI (i : Int), vR (abo xa σ e i), vA (xa (rt e i 2)), vA (xa (rt e i 1)), vI (gd (σ.2 9) (40 * e + i))]
def nr (σ : sg_T) (e : Nat) : Nat := (gd (σ.2 6) e).toNat
def ROW (G : gt_T) (h : ab_H) (xa : Nat → Nat) (σ : sg_T) (e i : Nat) : Prop := h (xa (rt e i 0)) = some (oJ (rt e i 0) 3 (rf xa σ e i)) ∧ (∃ ws, h (xa (rt e i 1)) = some (oN (rt e i 1) 1 ws) ∧ ws.length = 4 ∧ ∀ j, j < (gd (σ.2 9) (40 * e + i)).toNat → WW (gd (σ.2 10) (4 * (40 * e + i) + j)) (gd ws j)) ∧ ∃ bl, AL G h (xa (rt e i 2)) (rt e i 2) bl ∧ bl.length = bel σ e (40 * e + i)
def EDR (G : gt_T) (h : ab_H) (xa : Nat → Nat) (σ : sg_T) (e : Nat) : Prop := AL G h (xa (10 + 2 * e)) (10 + 2 * e) (rwl xa e (nr σ e)) ∧ ∀ i, i < nr σ e → ROW G h xa σ e i
def NOT_ (h : ab_H) (xa : Nat → Nat) (σ : sg_T) (a : Nat) (k : Nat) : Prop := ∃ e i j : Nat, e < 3 ∧ i < nr σ e ∧ j < nr σ e ∧ gd (σ.2 12) k = (e : Int) ∧ gd (σ.2 13) k = gd (σ.2 7) (40 * e + i) ∧ gd (σ.2 15) k = gd (σ.2 7) (40 * e + j) ∧ h a = some (oJ 30 4 [vA (xa (5 + e)), vA (xa (rt e i 0)), vI (gd (σ.2 14) k), vA (xa (rt e j 0))])
def LNK_ (h : ab_H) (xa : Nat → Nat) (σ : sg_T) (a : Nat) (k : Nat) : Prop := ∃ e i f j : Nat, e < 3 ∧ f < 3 ∧ e ≠ f ∧ i < nr σ e ∧ j < nr σ f ∧ gd (σ.2 17) k = (e : Int) ∧ gd (σ.2 18) k = gd (σ.2 7) (40 * e + i) ∧ gd (σ.2 19) k = (f : Int) ∧ gd (σ.2 20) k = gd (σ.2 7) (40 * f + j) ∧ h a = some (oJ 31 5 [vA (xa (5 + e)), vA (xa (rt e i 0)), vA (xa (5 + f)), vA (xa (rt f j 0))])
def xf (xa : Nat → Nat) (σ : sg_T) : List ab_V := [vA (xa 2), vA (xa 4), vA (xa 20), vA (xa 22), vI (σ.1 3), vI (σ.1 4), vI (σ.1 5), vA (xa 24), vA (xa 25), vI (σ.1 21)]
def CR (G : gt_T) (h : ab_H) (xa : Nat → Nat) (na la : List Nat) (σ : sg_T) : Prop :=
  h (xa 1) = some (oJ 1 0 (xf xa σ)) ∧ (∃ at_ : Int, h (xa 2) = some (oJ 2 1 [vA (xa 3), vI (σ.1 2), vI at_])) ∧ (∃ cs, h (xa 3) = some (oN 3 2 cs) ∧ cs.length = 400 ∧ ∀ i : Nat, (i : Int) < σ.1 2 → gd cs i = gd (σ.2 1) i)
  ∧ h (xa 4) = some (oR 4 1 [some (xa 5), some (xa 6), some (xa 7)]) ∧ (∀ e, e < 3 → h (xa (5 + e)) = some (oJ (5 + e) 2 [vI (e : Int), vA (xa (10 + 2 * e))])) ∧ (∀ e, e < 3 → EDR G h xa σ e)
  ∧ (AL G h (xa 20) 20 na ∧ (na.length : Int) = σ.1 11 ∧ ∀ k, k < na.length → NOT_ h xa σ (na.getD k 0) k) ∧ (AL G h (xa 22) 22 la ∧ (la.length : Int) = σ.1 16 ∧ ∀ k, k < la.length → LNK_ h xa σ (la.getD k 0) k)
  ∧ ∃ fc fp, h (xa 24) = some (oN 24 1 fc) ∧ h (xa 25) = some (oN 25 0 fp) ∧ fc.length = 40 ∧ fp.length = 40 ∧ ∀ i : Nat, (i : Int) < σ.1 21 → gd fc i = gd (σ.2 22) i ∧ gd fp i = gd (σ.2 23) i
/-- what is true of every state of the law -/
def WF (σ : sg_T) : Prop := (0 ≤ σ.1 2 ∧ σ.1 2 ≤ 400) ∧ (0 ≤ σ.1 3 ∧ σ.1 3 ≤ 2) ∧ (0 ≤ σ.1 11 ∧ σ.1 11 ≤ 20) ∧ (0 ≤ σ.1 16 ∧ σ.1 16 ≤ 60) ∧ (0 ≤ σ.1 21 ∧ σ.1 21 ≤ 40)
  ∧ (∀ e, e < 3 → 0 ≤ gd (σ.2 6) e ∧ gd (σ.2 6) e ≤ 40)
  ∧ (∀ e i, e < 3 → i < nr σ e → 0 ≤ gd (σ.2 8) (40 * e + i) ∧ gd (σ.2 8) (40 * e + i) ≤ 4 ∧ 0 ≤ gd (σ.2 9) (40 * e + i) ∧ gd (σ.2 9) (40 * e + i) ≤ 4)
  ∧ (∀ e i j, e < 3 → i < nr σ e → j < nr σ e → gd (σ.2 7) (40 * e + i) = gd (σ.2 7) (40 * e + j) → i = j)
  ∧ (∀ i : Nat, (i : Int) < σ.1 2 → gS (gd (σ.2 1) i) = true)
  ∧ (∀ k : Nat, (k : Int) < σ.1 11 → 0 ≤ gd (σ.2 14) k ∧ gd (σ.2 14) k ≤ 1)
  ∧ (∀ i j : Nat, (i : Int) < σ.1 16 → (j : Int) < σ.1 16 → gd (σ.2 17) i = gd (σ.2 17) j → gd (σ.2 18) i = gd (σ.2 18) j → gd (σ.2 19) i = gd (σ.2 19) j → gd (σ.2 20) i = gd (σ.2 20) j → i = j)
  ∧ (∀ e i, e < 3 → i < nr σ e → gd (σ.2 8) (40 * e + i) = 0 ∨ 0 ≤ abv (σ.2 8) (40 * e) (40 * e + i))
section CRacc
variable {G : gt_T} {h : ab_H} {xa : Nat → Nat} {na la : List Nat} {σ : sg_T}
theorem cr_x (C : CR G h xa na la σ) : h (xa 1) = some (oJ 1 0 (xf xa σ)) := C.1
theorem cr_rd (C : CR G h xa na la σ) : ∃ at_ : Int, h (xa 2) = some (oJ 2 1 [vA (xa 3), vI (σ.1 2), vI at_]) := C.2.1
theorem cr_tx (C : CR G h xa na la σ) : ∃ cs, h (xa 3) = some (oN 3 2 cs) ∧ cs.length = 400 ∧ ∀ i : Nat, (i : Int) < σ.1 2 → gd cs i = gd (σ.2 1) i := C.2.2.1
theorem cr_es (C : CR G h xa na la σ) : h (xa 4) = some (oR 4 1 [some (xa 5), some (xa 6), some (xa 7)]) := C.2.2.2.1
theorem cr_ed (C : CR G h xa na la σ) (e : Nat) (he : e < 3) : h (xa (5 + e)) = some (oJ (5 + e) 2 [vI (e : Int), vA (xa (10 + 2 * e))]) := C.2.2.2.2.1 e he
theorem cr_rl (C : CR G h xa na la σ) (e : Nat) (he : e < 3) : AL G h (xa (10 + 2 * e)) (10 + 2 * e) (rwl xa e (nr σ e)) := (C.2.2.2.2.2.1 e he).1
theorem cr_row (C : CR G h xa na la σ) (e i : Nat) (he : e < 3) (hi : i < nr σ e) : h (xa (rt e i 0)) = some (oJ (rt e i 0) 3 (rf xa σ e i)) := ((C.2.2.2.2.2.1 e he).2 i hi).1
theorem cr_ws (C : CR G h xa na la σ) (e i : Nat) (he : e < 3) (hi : i < nr σ e) : ∃ ws, h (xa (rt e i 1)) = some (oN (rt e i 1) 1 ws) ∧ ws.length = 4 ∧ ∀ j, j < (gd (σ.2 9) (40 * e + i)).toNat → WW (gd (σ.2 10) (4 * (40 * e + i) + j)) (gd ws j) := ((C.2.2.2.2.2.1 e he).2 i hi).2.1
theorem cr_bl (C : CR G h xa na la σ) (e i : Nat) (he : e < 3) (hi : i < nr σ e) : ∃ bl, AL G h (xa (rt e i 2)) (rt e i 2) bl ∧ bl.length = bel σ e (40 * e + i) := ((C.2.2.2.2.2.1 e he).2 i hi).2.2
theorem cr_nl (C : CR G h xa na la σ) : AL G h (xa 20) 20 na := C.2.2.2.2.2.2.1.1
theorem cr_nn (C : CR G h xa na la σ) : (na.length : Int) = σ.1 11 := C.2.2.2.2.2.2.1.2.1
theorem cr_no (C : CR G h xa na la σ) (k : Nat) (hk : k < na.length) : NOT_ h xa σ (na.getD k 0) k := C.2.2.2.2.2.2.1.2.2 k hk
theorem cr_ll (C : CR G h xa na la σ) : AL G h (xa 22) 22 la := C.2.2.2.2.2.2.2.1.1
theorem cr_ln (C : CR G h xa na la σ) : (la.length : Int) = σ.1 16 := C.2.2.2.2.2.2.2.1.2.1
theorem cr_lk (C : CR G h xa na la σ) (k : Nat) (hk : k < la.length) : LNK_ h xa σ (la.getD k 0) k := C.2.2.2.2.2.2.2.1.2.2 k hk
theorem cr_fd (C : CR G h xa na la σ) : ∃ fc fp, h (xa 24) = some (oN 24 1 fc) ∧ h (xa 25) = some (oN 25 0 fp) ∧ fc.length = 40 ∧ fp.length = 40 ∧ ∀ i : Nat, (i : Int) < σ.1 21 → gd fc i = gd (σ.2 22) i ∧ gd fp i = gd (σ.2 23) i := C.2.2.2.2.2.2.2.2
theorem AL_recv {l tg : Nat} {xs : List Nat} (a : AL G h l tg xs) : ∃ fs, h l = some (oJ tg 6 fs) := by
  obtain ⟨md, a, e1, -⟩ := a
  exact ⟨_, e1⟩
theorem tag_ne {p q t u : Nat} {x y : (Nat × List ab_V) ⊕ (Nat × List Int) ⊕ (Nat × List (Option Nat))} (hp : h p = some (t, x)) (hq : h q = some (u, y)) (hn : t ≠ u) : p ≠ q := by
  intro e
  rw [e, hq] at hp
  cases hp
  exact hn rfl
theorem rt_inj {e i f j : Nat} (hi : i < 40) (hj : j < 40) (h : rt e i 0 = rt f j 0) : e = f ∧ i = j := by unfold rt at h; omega
/-- two rows are one iff they are at one place of one edition -/
theorem row_eq (C : CR G h xa na la σ) (hw : WF σ) {e i f j : Nat} (he : e < 3) (hi : i < nr σ e) (hf : f < 3) (hj : j < nr σ f) : xa (rt e i 0) = xa (rt f j 0) ↔ (e = f ∧ i = j) := by
  constructor
  · intro z
    have h1 := cr_row C e i he hi
    have h2 := cr_row C f j hf hj
    rw [z, h2] at h1
    have h3 : rt f j 0 = rt e i 0 := congrArg Prod.fst (Option.some.inj h1)
    have b1 := hw.2.2.2.2.2.1 e he
    have b2 := hw.2.2.2.2.2.1 f hf
    have := rt_inj (by unfold nr at hj; omega) (by unfold nr at hi; omega) h3
    omega
  · rintro ⟨rfl, rfl⟩; rfl
theorem row_eqc (C : CR G h xa na la σ) (hw : WF σ) {e i j : Nat} (he : e < 3) (hi : i < nr σ e) (hj : j < nr σ e) : xa (rt e i 0) = xa (rt e j 0) ↔ gd (σ.2 7) (40 * e + i) = gd (σ.2 7) (40 * e + j) := by
  rw [row_eq C hw he hi he hj]
  constructor
  · rintro ⟨-, rfl⟩; rfl
  · intro z; exact ⟨rfl, hw.2.2.2.2.2.2.2.1 e i j he hi hj z⟩
theorem ed_eq (C : CR G h xa na la σ) {e f : Nat} (he : e < 3) (hf : f < 3) : xa (5 + e) = xa (5 + f) ↔ e = f := by
  constructor
  · intro z
    have h1 := cr_ed C e he
    rw [z, cr_ed C f hf] at h1
    have h3 : 5 + f = 5 + e := congrArg Prod.fst (Option.some.inj h1)
    omega
  · rintro rfl; rfl
end CRacc
def rwa (xa : Nat → Nat) (e : Nat) (o : Option Nat) : Option Nat := o.map fun i => xa (rt e i 0)
theorem lix_none {p : Nat → Bool} {n : Nat} (h : ∀ k, k < n → p k = false) : lix p n = none := by
  induction n with
  | zero => rfl
  | succ n ih => rw [lix_f (h n (by omega))]; exact ih (fun k hk => h k (by omega))
theorem lix_only {p : Nat → Bool} {n k : Nat} (hk : k < n) (hp : p k = true) (hu : ∀ j, j < n → p j = true → j = k) : lix p n = some k := by
  induction n with
  | zero => omega
  | succ n ih =>
    by_cases e : n = k
    · subst e; exact lix_t hp
    · rw [lix_f]
      · exact ih (by omega) (fun j hj => hu j (by omega))
      · cases hq : p n with
        | false => rfl
        | true => exact absurd (hu n (by omega) hq) e
section EvR
variable {G : gt_T} {M : mt_T} {F L C S : Nat} {pc a0 b0 j0 : Nat} {z0 : Int} {ls : List (Option ab_V)} {st : List ab_V} {h : ab_H} {Φ : Option ab_V → ab_H → Prop} {Θ : Nat → ab_H → Prop}
theorem ev_rnn (d : ri_at M (pc, 3, 46, a0, b0, j0, z0)) {xa : Nat → Nat} {e : Nat} {o : Option Nat} (kt : ∀ i, o = some i → ev G M F L C S a0 ls st h Φ Θ) (kf : o = none → ev G M F L C S (pc + 3) ls st h Φ Θ) : ev G M F L C S pc ls (vR (rwa xa e o) :: st) h Φ Θ := by
  refine ev_ifnn d (fun q => ?_) (fun q => ?_)
  · cases o with
    | none => exact absurd rfl q
    | some i => exact kt i rfl
  · cases o with
    | none => exact kf rfl
    | some i => cases q
theorem ev_rn (d : ri_at M (pc, 3, 45, a0, b0, j0, z0)) {xa : Nat → Nat} {e : Nat} {o : Option Nat} (kt : o = none → ev G M F L C S a0 ls st h Φ Θ) (kf : ∀ i, o = some i → ev G M F L C S (pc + 3) ls st h Φ Θ) : ev G M F L C S pc ls (vR (rwa xa e o) :: st) h Φ Θ := by
  refine ev_ifn d (fun q => ?_) (fun q => ?_)
  · cases o with
    | none => exact kt rfl
    | some i => cases q
  · cases o with
    | none => exact absurd rfl q
    | some i => exact kf i rfl
end EvR
