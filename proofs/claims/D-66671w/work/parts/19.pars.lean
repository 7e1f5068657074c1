/-! READING A TEXT in plain words: T the signs, n how many; a word is the list of its letters; a row is (code, dashes, words) -/
abbrev rw_T : Type := Int × Int × List (List Int)
def rc (R : List rw_T) (i : Nat) : Int := (R.getD i (0, 0, [])).1
def rd (R : List rw_T) (i : Nat) : Int := (R.getD i (0, 0, [])).2.1
def rws (R : List rw_T) (i : Nat) : List (List Int) := (R.getD i (0, 0, [])).2.2
def lt (T : Nat → Int) (p k : Nat) : List Int := (List.range k).map fun j => T (p + j) - 96
def enc (b : Int) (w : List Int) : Int := w.foldl (fun v x => b * v + x) 0
def cAt (T : Nat → Int) (n q : Nat) : Int := if q < n then T q else 0
theorem pw_enc (b : Int) (T : Nat → Int) (p k : Nat) : pw b 96 0 T p k = enc b (lt T p k) := by
  induction k with
  | zero => rfl
  | succ k ih =>
    unfold pw
    rw [ih]
    simp only [enc, lt, List.range_succ, List.map_append, List.foldl_append, List.map_cons, List.map_nil, List.foldl_cons, List.foldl_nil]
    omega
/-- words with points between; the number is how many there may be -/
def pwc (T : Nat → Int) (n : Nat) : Nat → Nat → List (List Int) → Nat × Option (List (List Int))
  | 0, p, _ => (p, none)
  | f + 1, p, ws => if rn T 2 p (n - p) = 0 then (p, none) else if 8 < rn T 2 p (n - p) then (p + 8, none)
    else if cAt T n (p + rn T 2 p (n - p)) = 46 ∧ 0 < f then pwc T n f (p + rn T 2 p (n - p) + 1) (ws ++ [lt T p (rn T 2 p (n - p))])
    else (p + rn T 2 p (n - p), some (ws ++ [lt T p (rn T 2 p (n - p))]))
theorem pwc_0 {T : Nat → Int} {n f p : Nat} {ws : List (List Int)} (h : rn T 2 p (n - p) = 0) : pwc T n (f + 1) p ws = (p, none) := by rw [pwc, if_pos h]
theorem pwc_9 {T : Nat → Int} {n f p k : Nat} {ws : List (List Int)} (h : rn T 2 p (n - p) = k) (h8 : 8 < k) : pwc T n (f + 1) p ws = (p + 8, none) := by subst h; rw [pwc, if_neg (by omega), if_pos h8]
theorem pwc_c {T : Nat → Int} {n f p k : Nat} {ws : List (List Int)} (h : rn T 2 p (n - p) = k) (h0 : 0 < k) (h8 : k ≤ 8) (hc : cAt T n (p + k) = 46) (hf : 0 < f) : pwc T n (f + 1) p ws = pwc T n f (p + k + 1) (ws ++ [lt T p k]) := by
  subst h; rw [pwc, if_neg (by omega), if_neg (by omega), if_pos ⟨hc, hf⟩]
theorem pwc_s {T : Nat → Int} {n f p k : Nat} {ws : List (List Int)} (h : rn T 2 p (n - p) = k) (h0 : 0 < k) (h8 : k ≤ 8) (hc : ¬ (cAt T n (p + k) = 46 ∧ 0 < f)) : pwc T n (f + 1) p ws = (p + k, some (ws ++ [lt T p k])) := by
  subst h; rw [pwc, if_neg (by omega), if_neg (by omega), if_neg hc]
def pwd (T : Nat → Int) (n most : Nat) (en : Int) (p : Nat) : Nat × Option (List (List Int)) := match pwc T n most p [] with
  | (q, none) => (q, none)
  | (q, some ws) => if cAt T n q = en then (q, some ws) else (q, none)
theorem pwd_n {T : Nat → Int} {n most : Nat} {en : Int} {p q : Nat} (h : pwc T n most p [] = (q, none)) : pwd T n most en p = (q, none) := by unfold pwd; rw [h]
theorem pwd_t {T : Nat → Int} {n most : Nat} {en : Int} {p q : Nat} {ws : List (List Int)} (h : pwc T n most p [] = (q, some ws)) (hc : cAt T n q = en) : pwd T n most en p = (q, some ws) := by unfold pwd; rw [h]; simp [hc]
theorem pwd_f {T : Nat → Int} {n most : Nat} {en : Int} {p q : Nat} {ws : List (List Int)} (h : pwc T n most p [] = (q, some ws)) (hc : cAt T n q ≠ en) : pwd T n most en p = (q, none) := by unfold pwd; rw [h]; simp [hc]
/-- the code of the row that a row of m dashes is below -/
def upx (R : List rw_T) (m : Nat) : Option Nat := if m = 0 then none else lix (fun j => rd R j == (m : Int) - 1) R.length
def upc (R : List rw_T) (m : Nat) (c : Int) : Int := match upx R m with
  | none => c
  | some j => rc R j
def pcC (R : List rw_T) (d m k : Nat) (c : Int) : (Int × Nat) ⊕ (Nat × Nat × Int) := if (m = 0 ∧ k ≠ 2) ∨ (0 < m ∧ bgn c (upc R m c) = false) then .inl (3, d) else if R.length ≠ 0 ∧ bhd c (rc R (R.length - 1)) = false then .inl (4, d) else .inr (m, k, c)
def pcB (T : Nat → Int) (R : List rw_T) (d m k : Nat) : (Int × Nat) ⊕ (Nat × Nat × Int) := if k = 0 then .inl (1, d) else if 10 < k then .inl (1, d + 10) else if k % 2 = 1 then .inl (1, d + k) else pcC R d m k (pw 10 48 1 T d k)
def pcA (T : Nat → Int) (n : Nat) (R : List rw_T) (p m : Nat) : (Int × Nat) ⊕ (Nat × Nat × Int) := if m = 0 ∧ ¬ (p < n ∧ inb (T p) 48 57 = true) then .inl (1, p) else if (if R.length = 0 then 0 else rd R (R.length - 1) + 1) < (m : Int) then .inl (2, p) else if R.length = 40 then .inl (5, p)
  else if 4 < m then .inl (1, p + 4) else pcB T R (p + m) m (rn T 1 (p + m) (n - (p + m)))
/-- a row's dashes and code -/
def pcod (T : Nat → Int) (n : Nat) (R : List rw_T) (p : Nat) : (Int × Nat) ⊕ (Nat × Nat × Int) := pcA T n R p (rn T 0 p (n - p))
def prow (T : Nat → Int) (n : Nat) (R : List rw_T) (p : Nat) : (Int × Nat) ⊕ (rw_T × Nat) := match pcod T n R p with
  | .inl x => .inl x
  | .inr (m, k, c) => match pwd T n 4 59 (p + m + k) with
    | (q, none) => .inl (1, q)
    | (q, some ws) => .inr ((c, (m : Int), ws), q + 1)
def prws (T : Nat → Int) (n : Nat) : Nat → Nat → List rw_T → (Int × Nat) ⊕ List rw_T
  | 0, _, R => .inr R
  | f + 1, p, R => match prow T n R p with
    | .inl x => .inl x
    | .inr (r, q) => if q < n then prws T n f q (R ++ [r]) else .inr (R ++ [r])
def prs (T : Nat → Int) (n : Nat) : (Int × Nat) ⊕ List rw_T := prws T n 41 0 []
theorem rc_app (R : List rw_T) (r : rw_T) (i : Nat) : rc (R ++ [r]) i = if i < R.length then rc R i else if i = R.length then r.1 else 0 := by
  unfold rc
  by_cases h : i < R.length
  · rw [if_pos h]; simp [List.getD_eq_getElem?_getD, List.getElem?_append_left h]
  · rw [if_neg h]
    by_cases e : i = R.length
    · subst e; simp
    · rw [if_neg e]; rw [List.getD_eq_getElem?_getD, List.getElem?_eq_none (by simp; omega)]; rfl
theorem rd_app (R : List rw_T) (r : rw_T) (i : Nat) : rd (R ++ [r]) i = if i < R.length then rd R i else if i = R.length then r.2.1 else 0 := by
  unfold rd
  by_cases h : i < R.length
  · rw [if_pos h]; simp [List.getD_eq_getElem?_getD, List.getElem?_append_left h]
  · rw [if_neg h]
    by_cases e : i = R.length
    · subst e; simp
    · rw [if_neg e]; rw [List.getD_eq_getElem?_getD, List.getElem?_eq_none (by simp; omega)]; rfl
theorem rws_app (R : List rw_T) (r : rw_T) (i : Nat) : rws (R ++ [r]) i = if i < R.length then rws R i else if i = R.length then r.2.2 else [] := by
  unfold rws
  by_cases h : i < R.length
  · rw [if_pos h]; simp [List.getD_eq_getElem?_getD, List.getElem?_append_left h]
  · rw [if_neg h]
    by_cases e : i = R.length
    · subst e; simp
    · rw [if_neg e]; rw [List.getD_eq_getElem?_getD, List.getElem?_eq_none (by simp; omega)]; rfl
theorem rn_all {T : Nat → Int} {kd : Int} : ∀ (n p j : Nat), j < rn T kd p n → rkd kd (T (p + j)) = true
  | 0, p, j, h => by simp [rn] at h
  | n + 1, p, j, h => by
    by_cases e : rkd kd (T p) = true
    · rw [rn_t e] at h
      cases j with
      | zero => exact e
      | succ j => rw [show p + (j + 1) = p + 1 + j by omega]; exact rn_all n (p + 1) j (by omega)
    · rw [rn_f (by simpa using e)] at h; omega
theorem rn_lets {T : Nat → Int} {n p j : Nat} (h : j < rn T 2 p n) : 97 ≤ T (p + j) ∧ T (p + j) ≤ 122 := inb_t (by have := rn_all n p j h; simpa [rkd] using this)
theorem rn_digs {T : Nat → Int} {n p j : Nat} (h : j < rn T 1 p n) : 48 ≤ T (p + j) ∧ T (p + j) ≤ 57 := inb_t (by have := rn_all n p j h; simpa [rkd] using this)
theorem sgx {σ τ : sg_T} (h1 : ∀ j, σ.1 j = τ.1 j) (h2 : ∀ j, σ.2 j = τ.2 j) : σ = τ := Prod.ext (funext h1) (funext h2)
theorem upc_u {R : List rw_T} {m : Nat} {c : Int} (h : upx R m = none) : upc R m c = c := by unfold upc; rw [h]
theorem upc_s {R : List rw_T} {m j : Nat} {c : Int} (h : upx R m = some j) : upc R m c = rc R j := by unfold upc; rw [h]
/-- the rows that are read so far, behind 120 -/
def SCR (σ : sg_T) (R : List rw_T) : Prop := gd (σ.2 6) 3 = (R.length : Int) ∧ R.length ≤ 40 ∧ ∀ i, i < R.length → gd (σ.2 7) (120 + i) = rc R i ∧ gd (σ.2 8) (120 + i) = rd R i ∧ gd (σ.2 9) (120 + i) = ((rws R i).length : Int) ∧ ((rws R i).length ≤ 4) ∧ (∀ j, j < 4 → gd (σ.2 10) (480 + 4 * i + j) = enc 32 ((rws R i).getD j [])) ∧ 0 < rc R i ∧ 0 ≤ rd R i ∧ rd R i ≤ 4
/-- what the reading leaves -/
def frd (σ τ : sg_T) : Prop := (∀ j, j ≠ 4 → j ≠ 5 → j ≠ 25 → τ.1 j = σ.1 j) ∧ (∀ k, k ≠ 6 → k ≠ 7 → k ≠ 8 → k ≠ 9 → k ≠ 10 → k ≠ 24 → τ.2 k = σ.2 k) ∧ (∀ i, i < 3 → gd (τ.2 6) i = gd (σ.2 6) i) ∧ (∀ i, i < 120 → gd (τ.2 7) i = gd (σ.2 7) i ∧ gd (τ.2 8) i = gd (σ.2 8) i ∧ gd (τ.2 9) i = gd (σ.2 9) i) ∧ (∀ i, i < 480 → gd (τ.2 10) i = gd (σ.2 10) i)
theorem frd_rf (σ : sg_T) : frd σ σ := ⟨fun _ _ _ _ => rfl, fun _ _ _ _ _ _ _ => rfl, fun _ _ => rfl, fun _ _ => ⟨rfl, rfl, rfl⟩, fun _ _ => rfl⟩
theorem frd_tr {σ τ υ : sg_T} (a : frd σ τ) (b : frd τ υ) : frd σ υ :=
  ⟨fun j x y z => (b.1 j x y z).trans (a.1 j x y z), fun k x1 x2 x3 x4 x5 x6 => (b.2.1 k x1 x2 x3 x4 x5 x6).trans (a.2.1 k x1 x2 x3 x4 x5 x6), fun i hi => (b.2.2.1 i hi).trans (a.2.2.1 i hi),
   fun i hi => ⟨(b.2.2.2.1 i hi).1.trans (a.2.2.2.1 i hi).1, (b.2.2.2.1 i hi).2.1.trans (a.2.2.2.1 i hi).2.1, (b.2.2.2.1 i hi).2.2.trans (a.2.2.2.1 i hi).2.2⟩, fun i hi => (b.2.2.2.2 i hi).trans (a.2.2.2.2 i hi)⟩
theorem frd_S {σ : sg_T} {j : Nat} {z : Int} (hj : j = 4 ∨ j = 5 ∨ j = 25) : frd σ (sS σ j z) :=
  ⟨fun i h4 h5 h25 => by simp only [sS]; rw [if_neg (by omega)], fun _ _ _ _ _ _ _ => rfl, fun _ _ => rfl, fun _ _ => ⟨rfl, rfl, rfl⟩, fun _ _ => rfl⟩
theorem gd_set_ne {xs : List Int} {k j : Nat} (z : Int) (h : j ≠ k) : gd (xs.set k z) j = gd xs j := by
  unfold gd
  rw [List.getD_eq_getElem?_getD, List.getD_eq_getElem?_getD, List.getElem?_set_ne (Ne.symm h)]
theorem gd_set_eq {xs : List Int} {k : Nat} (z : Int) (h : k < xs.length) : gd (xs.set k z) k = z := by
  rw [gd_set z h, if_pos rfl]
theorem sA_ne (σ : sg_T) {k j : Nat} (xs : List Int) (h : j ≠ k) : (sA σ k xs).2 j = σ.2 j := if_neg h
theorem sA_eq (σ : sg_T) (k : Nat) (xs : List Int) : (sA σ k xs).2 k = xs := if_pos rfl
theorem frd_A24 {σ : sg_T} {A : List Int} : frd σ (sA σ 24 A) :=
  ⟨fun _ _ _ _ => rfl, fun k _ _ _ _ _ h => sA_ne _ _ h, fun _ _ => rfl, fun _ _ => ⟨rfl, rfl, rfl⟩, fun _ _ => rfl⟩
theorem frd_A6 {σ : sg_T} {z : Int} : frd σ (sA σ 6 ((σ.2 6).set 3 z)) :=
  ⟨fun _ _ _ _ => rfl, fun k h _ _ _ _ _ => sA_ne _ _ h, fun i hi => by rw [sA_eq]; exact gd_set_ne _ (by omega), fun _ _ => ⟨rfl, rfl, rfl⟩, fun _ _ => rfl⟩
theorem frd_A7 {σ : sg_T} {z : Int} {i : Nat} (hi : 120 ≤ i) : frd σ (sA σ 7 ((σ.2 7).set i z)) :=
  ⟨fun _ _ _ _ => rfl, fun k _ h _ _ _ _ => sA_ne _ _ h, fun _ _ => rfl, fun j hj => ⟨by rw [sA_eq]; exact gd_set_ne _ (by omega), rfl, rfl⟩, fun _ _ => rfl⟩
theorem frd_A8 {σ : sg_T} {z : Int} {i : Nat} (hi : 120 ≤ i) : frd σ (sA σ 8 ((σ.2 8).set i z)) :=
  ⟨fun _ _ _ _ => rfl, fun k _ _ h _ _ _ => sA_ne _ _ h, fun _ _ => rfl, fun j hj => ⟨rfl, by rw [sA_eq]; exact gd_set_ne _ (by omega), rfl⟩, fun _ _ => rfl⟩
theorem frd_A9 {σ : sg_T} {z : Int} {i : Nat} (hi : 120 ≤ i) : frd σ (sA σ 9 ((σ.2 9).set i z)) :=
  ⟨fun _ _ _ _ => rfl, fun k _ _ _ h _ _ => sA_ne _ _ h, fun _ _ => rfl, fun j hj => ⟨rfl, rfl, by rw [sA_eq]; exact gd_set_ne _ (by omega)⟩, fun _ _ => rfl⟩
theorem frd_A10 {σ : sg_T} {z : Int} {i : Nat} (hi : 480 ≤ i) : frd σ (sA σ 10 ((σ.2 10).set i z)) :=
  ⟨fun _ _ _ _ => rfl, fun k _ _ _ _ h _ => sA_ne _ _ h, fun _ _ => rfl, fun j hj => ⟨rfl, rfl, rfl⟩, fun j hj => by rw [sA_eq]; exact gd_set_ne _ (by omega)⟩
theorem abv_R {σ : sg_T} {R : List rw_T} (hs : SCR σ R) (hl : (σ.2 8).length = 160) (hR : R.length < 40) (m : Nat) : abv ((σ.2 8).set (120 + R.length) (m : Int)) 120 (120 + R.length) = match upx R m with
  | none => -1
  | some j => ((120 + j : Nat) : Int) := by
  have e0 : gd ((σ.2 8).set (120 + R.length) (m : Int)) (120 + R.length) = (m : Int) := gd_set_eq _ (by omega)
  unfold upx
  by_cases hm : m = 0
  · rw [if_pos hm, abv_0 (by rw [e0, hm]; rfl)]
  · rw [if_neg hm]
    have e1 : lix (fun j => gd ((σ.2 8).set (120 + R.length) (m : Int)) (120 + j) == gd ((σ.2 8).set (120 + R.length) (m : Int)) (120 + R.length) - 1) (120 + R.length - 120) = lix (fun j => rd R j == (m : Int) - 1) R.length := by
      rw [show 120 + R.length - 120 = R.length by omega]
      refine lix_congr (fun j hj => ?_)
      rw [e0, gd_set_ne _ (by omega), (hs.2.2 j hj).2.1]
    cases hx : lix (fun j => rd R j == (m : Int) - 1) R.length with
    | none => rw [abv_n (e1.trans hx)]
    | some j => rw [abv_s (by rw [e0]; omega) (e1.trans hx)]
theorem upx_lt {R : List rw_T} {m j : Nat} (h : upx R m = some j) : j < R.length ∧ rd R j = (m : Int) - 1 := by
  unfold upx at h
  split at h
  · cases h
  · have := lix_lt h; exact ⟨this.1, by simpa using this.2⟩
