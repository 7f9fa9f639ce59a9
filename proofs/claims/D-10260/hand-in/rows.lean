section
/-- an entry: revision, key, value, put, made, version -/
abbrev rk_E : Type := Nat × Nat × Nat × Bool × Nat × Nat
def rk_rv (x : rk_E) : Nat := x.1
def rk_ky (x : rk_E) : Nat := x.2.1
def rk_vl (x : rk_E) : Nat := x.2.2.1
def rk_pt (x : rk_E) : Bool := x.2.2.2.1
def rk_md (x : rk_E) : Nat := x.2.2.2.2.1
def rk_vs (x : rk_E) : Nat := x.2.2.2.2.2
def rk_mk (r k v : Nat) (p : Bool) (m s : Nat) : rk_E := (r, k, v, p, m, s)
/-- the last j < n with q j -/
def rk_ls (q : Nat → Bool) : Nat → Option Nat
  | 0 => none
  | n + 1 => if q n = true then some n else rk_ls q n
/-- how many j < n with q j -/
def rk_ct (q : Nat → Bool) : Nat → Nat
  | 0 => 0
  | n + 1 => rk_ct q n + (if q n = true then 1 else 0)
theorem rk_ls_some {q : Nat → Bool} : ∀ {n j : Nat}, rk_ls q n = some j → j < n ∧ q j = true ∧ ∀ i, j < i → i < n → q i = false := by
  intro n
  induction n with
  | zero =>
    intro j h
    exact absurd h (by simp [rk_ls])
  | succ n ih =>
    intro j h
    unfold rk_ls at h
    by_cases hq : q n = true
    · rw [if_pos hq] at h
      injection h with h
      subst h
      exact ⟨by omega, hq, fun i h1 h2 => absurd h1 (by omega)⟩
    · rw [if_neg hq] at h
      obtain ⟨h1, h2, h3⟩ := ih h
      refine ⟨by omega, h2, fun i hi hi2 => ?_⟩
      by_cases e : i = n
      · rw [e]
        exact eq_false_of_ne_true hq
      · exact h3 i hi (by omega)
theorem rk_ls_none {q : Nat → Bool} : ∀ {n : Nat}, rk_ls q n = none → ∀ i, i < n → q i = false := by
  intro n
  induction n with
  | zero =>
    intro h i hi
    exact absurd hi (by omega)
  | succ n ih =>
    intro h i hi
    unfold rk_ls at h
    by_cases hq : q n = true
    · rw [if_pos hq] at h
      exact absurd h (by simp)
    · rw [if_neg hq] at h
      by_cases e : i = n
      · rw [e]
        exact eq_false_of_ne_true hq
      · exact ih h i (by omega)
theorem rk_ls_of {q : Nat → Bool} {n j : Nat} (hj : j < n) (hq : q j = true) (h : ∀ i, j < i → i < n → q i = false) : rk_ls q n = some j := by
  cases e : rk_ls q n with
  | none =>
    have := rk_ls_none e j hj
    rw [hq] at this
    exact absurd this (by simp)
  | some i =>
    obtain ⟨h1, h2, h3⟩ := rk_ls_some e
    by_cases hlt : i < j
    · have := h3 j hlt hj
      rw [hq] at this
      exact absurd this (by simp)
    · by_cases heq : i = j
      · rw [heq]
      · have := h i (by omega) h1
        rw [h2] at this
        exact absurd this (by simp)
theorem rk_ls_no {q : Nat → Bool} {n : Nat} (h : ∀ i, i < n → q i = false) : rk_ls q n = none := by
  cases e : rk_ls q n with
  | none => rfl
  | some i =>
    obtain ⟨h1, h2, h3⟩ := rk_ls_some e
    have := h i h1
    rw [h2] at this
    exact absurd this (by simp)
theorem rk_ls_congr {q q' : Nat → Bool} {n : Nat} (h : ∀ i, i < n → q i = q' i) : rk_ls q n = rk_ls q' n := by
  induction n with
  | zero => rfl
  | succ n ih =>
    unfold rk_ls
    rw [h n (by omega), ih (fun i hi => h i (by omega))]
theorem rk_ls_hit {q r : Nat → Bool} {n j : Nat} (h : rk_ls q n = some j) (hr : r j = true) : rk_ls (fun i => q i && r i) n = some j := by
  obtain ⟨h1, h2, h3⟩ := rk_ls_some h
  refine rk_ls_of h1 ?_ (fun i hi hi2 => ?_)
  · show (q j && r j) = true
    rw [h2, hr]
    rfl
  · show (q i && r i) = false
    rw [h3 i hi hi2]
    rfl
theorem rk_ls_step {q r : Nat → Bool} : ∀ {n j : Nat}, rk_ls q n = some j → r j = false → rk_ls (fun i => q i && r i) n = rk_ls (fun i => q i && r i) j := by
  intro n
  induction n with
  | zero =>
    intro j h _
    exact absurd h (by simp [rk_ls])
  | succ n ih =>
    intro j h hr
    unfold rk_ls at h
    by_cases hq : q n = true
    · rw [if_pos hq] at h
      injection h with h
      subst h
      show (if (q n && r n) = true then some n else rk_ls (fun i => q i && r i) n) = _
      rw [hr, Bool.and_false]
      exact if_neg (by simp)
    · rw [if_neg hq] at h
      show (if (q n && r n) = true then some n else rk_ls (fun i => q i && r i) n) = _
      rw [eq_false_of_ne_true hq, Bool.false_and, if_neg (by simp)]
      exact ih h hr
theorem rk_ls_miss {q r : Nat → Bool} {n : Nat} (h : rk_ls q n = none) : rk_ls (fun i => q i && r i) n = none := by
  refine rk_ls_no (fun i hi => ?_)
  show (q i && r i) = false
  rw [rk_ls_none h i hi]
  rfl
theorem rk_ct_congr {q q' : Nat → Bool} {n : Nat} (h : ∀ i, i < n → q' i = q i) : rk_ct q' n = rk_ct q n := by
  induction n with
  | zero => rfl
  | succ n ih =>
    unfold rk_ct
    rw [h n (by omega), ih (fun i hi => h i (by omega))]
theorem rk_ct_le (q : Nat → Bool) (n : Nat) : rk_ct q n ≤ n := by
  induction n with
  | zero => exact Nat.le_refl 0
  | succ n ih =>
    unfold rk_ct
    split <;> omega
theorem rk_ct_mono {q : Nat → Bool} {n m : Nat} (h : n ≤ m) : rk_ct q n ≤ rk_ct q m := by
  induction m with
  | zero =>
    have : n = 0 := by omega
    rw [this]
    exact Nat.le_refl _
  | succ m ih =>
    by_cases e : n = m + 1
    · rw [e]
      exact Nat.le_refl _
    · have := ih (by omega)
      show rk_ct q n ≤ rk_ct q m + (if q m = true then 1 else 0)
      omega
theorem rk_ct_t {q : Nat → Bool} {n : Nat} (h : q n = true) : rk_ct q (n + 1) = rk_ct q n + 1 := by
  show rk_ct q n + (if q n = true then 1 else 0) = _
  rw [if_pos h]
theorem rk_ct_f {q : Nat → Bool} {n : Nat} (h : q n = false) : rk_ct q (n + 1) = rk_ct q n := by
  show rk_ct q n + (if q n = true then 1 else 0) = _
  rw [if_neg (by rw [h]; simp)]
  rfl
theorem rk_ct_lt {q : Nat → Bool} {c n : Nat} (h : c < n) (hq : q c = true) : rk_ct q c < rk_ct q n := by
  have h1 := rk_ct_t hq
  have h2 : rk_ct q (c + 1) ≤ rk_ct q n := rk_ct_mono h
  omega
theorem rk_ct_up {q q' : Nat → Bool} {n k : Nat} (h : ∀ i, i < n → i ≠ k → q' i = q i) : rk_ct q' n ≤ rk_ct q n + 1 ∧ (n ≤ k → rk_ct q' n = rk_ct q n) := by
  induction n with
  | zero => exact ⟨Nat.zero_le _, fun _ => rfl⟩
  | succ n ih =>
    obtain ⟨h1, h2⟩ := ih (fun i hi hk => h i (by omega) hk)
    by_cases e : n = k
    · have h3 := h2 (by omega)
      refine ⟨?_, fun z => absurd z (by omega)⟩
      unfold rk_ct
      split <;> split <;> omega
    · have h3 := h n (by omega) e
      refine ⟨?_, fun z => ?_⟩
      · unfold rk_ct
        rw [h3]
        split <;> omega
      · unfold rk_ct
        rw [h3, h2 (by omega)]
theorem rk_ct_dn {q q' : Nat → Bool} {n k : Nat} (hq : q k = true) (hq' : q' k = false) (h : ∀ i, i < n → i ≠ k → q' i = q i) : (k < n → rk_ct q' n + 1 = rk_ct q n) ∧ (n ≤ k → rk_ct q' n = rk_ct q n) := by
  induction n with
  | zero => exact ⟨fun z => absurd z (by omega), fun _ => rfl⟩
  | succ n ih =>
    obtain ⟨h1, h2⟩ := ih (fun i hi hk => h i (by omega) hk)
    by_cases e : n = k
    · have h3 := h2 (by omega)
      refine ⟨fun _ => ?_, fun z => absurd z (by omega)⟩
      rw [rk_ct_f (by rw [e]; exact hq'), rk_ct_t (by rw [e]; exact hq), h3]
    · have h3 := h n (by omega) e
      refine ⟨fun z => ?_, fun z => ?_⟩
      · have h4 := h1 (by omega)
        unfold rk_ct
        rw [h3]
        omega
      · unfold rk_ct
        rw [h3, h2 (by omega)]
theorem rk_ct_imp {q q' : Nat → Bool} {n : Nat} (h : ∀ i, i < n → q i = true → q' i = true) : rk_ct q n ≤ rk_ct q' n := by
  induction n with
  | zero => exact Nat.le_refl 0
  | succ n ih =>
    have h1 := ih (fun i hi => h i (by omega))
    cases hq : q n with
    | false =>
      rw [rk_ct_f hq]
      have := rk_ct_mono (q := q') (show n ≤ n + 1 by omega)
      omega
    | true =>
      rw [rk_ct_t hq, rk_ct_t (h n (by omega) hq)]
      omega
theorem rk_ct_add {q q' q'' : Nat → Bool} {n : Nat} (h : ∀ i, i < n → q'' i = (q i || q' i)) (hd : ∀ i, i < n → ¬ (q i = true ∧ q' i = true)) : rk_ct q'' n = rk_ct q n + rk_ct q' n := by
  induction n with
  | zero => rfl
  | succ n ih =>
    have h1 := ih (fun i hi => h i (by omega)) (fun i hi => hd i (by omega))
    have h2 := h n (by omega)
    have h3 := hd n (by omega)
    cases hq : q n with
    | false =>
      cases hq' : q' n with
      | false =>
        rw [rk_ct_f hq, rk_ct_f hq', rk_ct_f (by rw [h2, hq, hq']; rfl), h1]
      | true =>
        rw [rk_ct_f hq, rk_ct_t hq', rk_ct_t (by rw [h2, hq, hq']; rfl), h1]
        omega
    | true =>
      cases hq' : q' n with
      | false =>
        rw [rk_ct_t hq, rk_ct_f hq', rk_ct_t (by rw [h2, hq, hq']; rfl), h1]
        omega
      | true => exact absurd ⟨hq, hq'⟩ h3
theorem rk_ct_sur {q : Nat → Bool} {j n : Nat} (h : j < rk_ct q n) : ∃ c, c < n ∧ q c = true ∧ rk_ct q c = j := by
  induction n with
  | zero => exact absurd h (by simp [rk_ct])
  | succ n ih =>
    cases hq : q n with
    | false =>
      rw [rk_ct_f hq] at h
      obtain ⟨c, h1, h2, h3⟩ := ih h
      exact ⟨c, by omega, h2, h3⟩
    | true =>
      rw [rk_ct_t hq] at h
      by_cases e : j = rk_ct q n
      · exact ⟨n, by omega, hq, e.symm⟩
      · obtain ⟨c, h1, h2, h3⟩ := ih (by omega)
        exact ⟨c, by omega, h2, h3⟩
/-- the j-th one of those with q -/
def rk_se (q : Nat → Bool) : Nat → Nat → Nat
  | 0, _ => 0
  | n + 1, j => if q n = true ∧ rk_ct q n = j then n else rk_se q n j
theorem rk_se_ct {q : Nat → Bool} {c n : Nat} (h : c < n) (hq : q c = true) : rk_se q n (rk_ct q c) = c := by
  induction n with
  | zero => exact absurd h (by omega)
  | succ n ih =>
    unfold rk_se
    by_cases e : c = n
    · subst e
      exact if_pos ⟨hq, rfl⟩
    · have h1 := rk_ct_lt (show c < n by omega) hq
      rw [if_neg (fun z => absurd z.2 (by omega))]
      exact ih (by omega)
/-- the last one with q among those that are kept -/
theorem rk_ls_se {q kp : Nat → Bool} {C : Nat} : ∀ {n : Nat}, n ≤ C → (∀ i j, i < j → j < n → q i = true → q j = true → kp i = true → kp j = true) → rk_ls (fun j => q (rk_se kp C j)) (rk_ct kp n) = (rk_ls q n).bind (fun j => if kp j = true then some (rk_ct kp j) else none) := by
  intro n
  induction n with
  | zero => intro _ _; rfl
  | succ n ih =>
    intro hn hu
    have h1 := ih (by omega) (fun i j hi hj => hu i j hi (by omega))
    cases hk : kp n with
    | true =>
      rw [rk_ct_t hk]
      show (if q (rk_se kp C (rk_ct kp n)) = true then some (rk_ct kp n) else rk_ls (fun j => q (rk_se kp C j)) (rk_ct kp n)) = (if q n = true then some n else rk_ls q n).bind _
      rw [rk_se_ct (show n < C by omega) hk]
      by_cases hq : q n = true
      · rw [if_pos hq, if_pos hq]
        show _ = (if kp n = true then some (rk_ct kp n) else none)
        rw [if_pos hk]
      · rw [if_neg hq, if_neg hq]
        exact h1
    | false =>
      rw [rk_ct_f hk, h1]
      show _ = (if q n = true then some n else rk_ls q n).bind _
      by_cases hq : q n = true
      · rw [if_pos hq]
        show _ = (if kp n = true then some (rk_ct kp n) else none)
        rw [if_neg (by rw [hk]; simp)]
        cases e : rk_ls q n with
        | none => rfl
        | some i =>
          obtain ⟨g1, g2, _⟩ := rk_ls_some e
          show (if kp i = true then some (rk_ct kp i) else none) = none
          refine if_neg (fun z => ?_)
          have := hu i n g1 (by omega) g2 hq z
          rw [hk] at this
          exact absurd this (by simp)
      · rw [if_neg hq]
end
section
def rk_bI (b : Bool) : Int32 := if b = true then 1 else 0
def rk_en (o : Option Nat) : Int32 := match o with
  | none => -1
  | some j => nI j
def rk_qk (e : Nat → rk_E) (k : Nat) : Nat → Bool := fun j => decide (rk_ky (e j) = k)
def rk_qr (e : Nat → rk_E) (R : Nat) : Nat → Bool := fun j => decide (rk_rv (e j) ≤ R)
def rk_qa (e : Nat → rk_E) (k R : Nat) : Nat → Bool := fun j => rk_qk e k j && rk_qr e R j
def rk_V (P : Nat) (x : rk_E) : Prop := 1 ≤ rk_rv x ∧ rk_rv x ≤ P ∧ rk_ky x ≤ 7 ∧ rk_vl x ≤ 15 ∧ (rk_pt x = false → rk_vl x = 0) ∧ (rk_pt x = true → 1 ≤ rk_md x ∧ rk_md x ≤ rk_rv x ∧ 1 ≤ rk_vs x ∧ rk_vs x ≤ rk_rv x)
def rk_lt (x y : rk_E) : Prop := rk_rv x < rk_rv y ∨ (rk_rv x = rk_rv y ∧ rk_ky x < rk_ky y)
def rk_W (e : Nat → rk_E) (C P : Nat) : Prop := (∀ j, j < C → rk_V P (e j)) ∧ (∀ i j, i < j → j < C → rk_lt (e i) (e j))
/-- the entry that was put, if it was -/
def rk_pk (e : Nat → rk_E) (o : Option Nat) : Option rk_E := match o with
  | none => none
  | some j => if rk_pt (e j) = true then some (e j) else none
def rk_cu (e : Nat → rk_E) (k n : Nat) : Option rk_E := rk_pk e (rk_ls (rk_qk e k) n)
def rk_at (e : Nat → rk_E) (k R n : Nat) : Option rk_E := rk_pk e (rk_ls (rk_qa e k R) n)
def rk_ex (e : Nat → rk_E) (k n : Nat) : Bool := (rk_cu e k n).isSome
def rk_X (e : Nat → rk_E) (C : Nat) : Nat := rk_ct (fun k => rk_ex e k C) 16
def rk_ow (o : Option rk_E) : Nat := match o with
  | none => 31
  | some x => rk_vl x
def rk_ap (e : Nat → rk_E) (C : Nat) (x : rk_E) : Nat → rk_E := fun j => if j = C then x else e j
theorem rk_ap_n {e : Nat → rk_E} {C : Nat} {x : rk_E} : rk_ap e C x C = x := if_pos rfl
theorem rk_ap_o {e : Nat → rk_E} {C j : Nat} {x : rk_E} (h : j ≠ C) : rk_ap e C x j = e j := if_neg h
theorem rk_pk_some {e : Nat → rk_E} {q : Nat → Bool} {n : Nat} {x : rk_E} (h : rk_pk e (rk_ls q n) = some x) : ∃ j, j < n ∧ rk_ls q n = some j ∧ x = e j ∧ rk_pt x = true ∧ q j = true := by
  cases hl : rk_ls q n with
  | none =>
    rw [hl] at h
    exact absurd h (by simp [rk_pk])
  | some j =>
    rw [hl] at h
    have h' : (if rk_pt (e j) = true then some (e j) else none) = some x := h
    by_cases hp : rk_pt (e j) = true
    · rw [if_pos hp] at h'
      injection h' with h'
      obtain ⟨h1, h2, _⟩ := rk_ls_some hl
      exact ⟨j, h1, rfl, h'.symm, by rw [← h']; exact hp, h2⟩
    · rw [if_neg hp] at h'
      exact absurd h' (by simp)
theorem rk_ap_ls {e : Nat → rk_E} {C n k : Nat} {x : rk_E} (h : n ≤ C) : rk_ls (rk_qk (rk_ap e C x) k) n = rk_ls (rk_qk e k) n := by
  refine rk_ls_congr (fun i hi => ?_)
  show decide (rk_ky (rk_ap e C x i) = k) = decide (rk_ky (e i) = k)
  rw [rk_ap_o (by omega)]
theorem rk_ap_ls1 {e : Nat → rk_E} {C k : Nat} {x : rk_E} : rk_ls (rk_qk (rk_ap e C x) k) (C + 1) = if rk_ky x = k then some C else rk_ls (rk_qk e k) C := by
  show (if decide (rk_ky (rk_ap e C x C) = k) = true then some C else rk_ls (rk_qk (rk_ap e C x) k) C) = _
  rw [rk_ap_n, rk_ap_ls (Nat.le_refl C)]
  by_cases h : rk_ky x = k
  · rw [if_pos h, if_pos (by simp [h])]
  · rw [if_neg h, if_neg (by simp [h])]
theorem rk_pk_congr {e e' : Nat → rk_E} {q : Nat → Bool} {n : Nat} (h : ∀ j, j < n → e' j = e j) : rk_pk e' (rk_ls q n) = rk_pk e (rk_ls q n) := by
  cases hl : rk_ls q n with
  | none => rfl
  | some j =>
    obtain ⟨h1, _, _⟩ := rk_ls_some hl
    show (if rk_pt (e' j) = true then some (e' j) else none) = (if rk_pt (e j) = true then some (e j) else none)
    rw [h j h1]
theorem rk_ap_cu {e : Nat → rk_E} {C n k : Nat} {x : rk_E} (h : n ≤ C) : rk_cu (rk_ap e C x) k n = rk_cu e k n := by
  unfold rk_cu
  rw [rk_ap_ls h]
  exact rk_pk_congr (fun j hj => rk_ap_o (by omega))
theorem rk_ap_cu1 {e : Nat → rk_E} {C k : Nat} {x : rk_E} : rk_cu (rk_ap e C x) k (C + 1) = if rk_ky x = k then (if rk_pt x = true then some x else none) else rk_cu e k C := by
  unfold rk_cu
  rw [rk_ap_ls1]
  by_cases h : rk_ky x = k
  · rw [if_pos h, if_pos h]
    show (if rk_pt (rk_ap e C x C) = true then some (rk_ap e C x C) else none) = _
    rw [rk_ap_n]
  · rw [if_neg h, if_neg h]
    exact rk_pk_congr (fun j hj => rk_ap_o (by omega))
theorem rk_ap_ex {e : Nat → rk_E} {C k : Nat} {x : rk_E} : rk_ex (rk_ap e C x) k (C + 1) = if rk_ky x = k then rk_pt x else rk_ex e k C := by
  unfold rk_ex
  rw [rk_ap_cu1]
  by_cases h : rk_ky x = k
  · rw [if_pos h, if_pos h]
    cases hp : rk_pt x <;> rfl
  · rw [if_neg h, if_neg h]
theorem rk_X_put {e : Nat → rk_E} {C : Nat} {x : rk_E} : rk_X (rk_ap e C x) (C + 1) ≤ rk_X e C + 1 := by
  unfold rk_X
  refine (rk_ct_up (k := rk_ky x) (fun i _ hk => ?_)).1
  rw [rk_ap_ex, if_neg (fun z => hk z.symm)]
theorem rk_X_del {e : Nat → rk_E} {C : Nat} {x : rk_E} (hk : rk_ky x < 16) (hx : rk_ex e (rk_ky x) C = true) (hp : rk_pt x = false) : rk_X (rk_ap e C x) (C + 1) + 1 = rk_X e C := by
  unfold rk_X
  refine (rk_ct_dn (k := rk_ky x) hx ?_ (fun i _ hk => ?_)).1 hk
  · rw [rk_ap_ex, if_pos rfl]
    exact hp
  · rw [rk_ap_ex, if_neg (fun z => hk z.symm)]
theorem rk_ap_W {e : Nat → rk_E} {C P P' : Nat} {x : rk_E} (h : rk_W e C P) (hP : P ≤ P') (hx : rk_V P' x) (hl : ∀ j, j < C → rk_lt (e j) x) : rk_W (rk_ap e C x) (C + 1) P' := by
  refine ⟨fun j hj => ?_, fun i j hi hj => ?_⟩
  · by_cases ej : j = C
    · rw [ej, rk_ap_n]
      exact hx
    · rw [rk_ap_o ej]
      obtain ⟨h1, h2, h3⟩ := h.1 j (by omega)
      exact ⟨h1, by omega, h3⟩
  · by_cases ej : j = C
    · rw [ej, rk_ap_n, rk_ap_o (by omega)]
      exact hl i (by omega)
    · rw [rk_ap_o ej, rk_ap_o (by omega)]
      exact h.2 i j hi (by omega)
theorem rk_W_rv {e : Nat → rk_E} {C P i j : Nat} (h : rk_W e C P) (hi : i ≤ j) (hj : j < C) : rk_rv (e i) ≤ rk_rv (e j) := by
  by_cases z : i = j
  · rw [z]
    exact Nat.le_refl _
  · rcases h.2 i j (by omega) hj with g | g
    · omega
    · omega
theorem rk_at_P {e : Nat → rk_E} {C P R k : Nat} (h : rk_W e C P) (hR : P ≤ R) : rk_at e k R C = rk_cu e k C := by
  unfold rk_at rk_cu
  rw [show rk_ls (rk_qa e k R) C = rk_ls (rk_qk e k) C from rk_ls_congr (fun i hi => by
    show (rk_qk e k i && decide (rk_rv (e i) ≤ R)) = rk_qk e k i
    have h2 := (h.1 i hi).2.1
    rw [show decide (rk_rv (e i) ≤ R) = true from by simp; omega, Bool.and_true])]
/-- the made and the version of a new entry -/
def rk_nm (o : Option rk_E) (P : Nat) : Nat := match o with
  | none => P
  | some y => rk_md y
def rk_ns (o : Option rk_E) : Nat := match o with
  | none => 1
  | some y => rk_vs y + 1
def rk_nw (e : Nat → rk_E) (C P k v : Nat) (p : Bool) : rk_E := rk_mk P k v p (rk_nm (rk_cu e k C) P) (rk_ns (rk_cu e k C))
theorem rk_nw_V {e : Nat → rk_E} {C P k v : Nat} (h : rk_W e C P) (hk : k ≤ 7) (hv : v ≤ 15) : rk_V (P + 1) (rk_nw e C (P + 1) k v true) := by
  refine ⟨show 1 ≤ P + 1 by omega, show P + 1 ≤ P + 1 by omega, hk, hv, fun z => absurd z (by simp [rk_nw, rk_mk, rk_pt]), fun _ => ?_⟩
  show 1 ≤ rk_nm (rk_cu e k C) (P + 1) ∧ rk_nm (rk_cu e k C) (P + 1) ≤ P + 1 ∧ 1 ≤ rk_ns (rk_cu e k C) ∧ rk_ns (rk_cu e k C) ≤ P + 1
  cases hc : rk_cu e k C with
  | none =>
    show 1 ≤ P + 1 ∧ P + 1 ≤ P + 1 ∧ 1 ≤ 1 ∧ 1 ≤ P + 1
    omega
  | some y =>
    obtain ⟨j, h1, h2, h3, h4, _⟩ := rk_pk_some hc
    obtain ⟨g1, g2, _, _, _, g6⟩ := h.1 j h1
    rw [← h3] at g1 g2 g6
    obtain ⟨f1, f2, f3, f4⟩ := g6 h4
    show 1 ≤ rk_md y ∧ rk_md y ≤ P + 1 ∧ 1 ≤ rk_vs y + 1 ∧ rk_vs y + 1 ≤ P + 1
    omega
theorem rk_nw_V0 {e : Nat → rk_E} {C P k : Nat} (hP : 1 ≤ P) (hk : k ≤ 7) : rk_V P (rk_nw e C P k 0 false) :=
  ⟨hP, Nat.le_refl _, hk, Nat.zero_le _, fun _ => rfl, fun z => absurd z (by simp [rk_nw, rk_mk, rk_pt])⟩
/-! forgetting -/
def rk_kp (e : Nat → rk_E) (C R : Nat) : Nat → Bool := fun c => decide (R < rk_rv (e c)) || (decide (rk_ls (rk_qa e (rk_ky (e c)) R) C = some c) && rk_pt (e c))
def rk_cp (e : Nat → rk_E) (C R : Nat) : Nat → rk_E := fun j => e (rk_se (rk_kp e C R) C j)
theorem rk_kp_up {e : Nat → rk_E} {C P R i j : Nat} (h : rk_W e C P) (hi : i < j) (hj : j < C) (hk : rk_ky (e i) = rk_ky (e j)) (h1 : rk_kp e C R i = true) : rk_kp e C R j = true := by
  have hr := rk_W_rv h (Nat.le_of_lt hi) hj
  have g : R < rk_rv (e j) := by
    rcases Nat.lt_or_ge R (rk_rv (e j)) with z | z
    · exact z
    · exfalso
      unfold rk_kp at h1
      rw [show decide (R < rk_rv (e i)) = false from by simp; omega, Bool.false_or, Bool.and_eq_true] at h1
      have h2 := of_decide_eq_true h1.1
      obtain ⟨_, _, h3⟩ := rk_ls_some h2
      have h4 := h3 j hi hj
      unfold rk_qa rk_qk rk_qr at h4
      rw [hk] at h4
      simp at h4
      omega
  unfold rk_kp
  rw [show decide (R < rk_rv (e j)) = true from by simp; omega, Bool.true_or]
theorem rk_cp_c {e : Nat → rk_E} {C R c : Nat} (hc : c < C) (hk : rk_kp e C R c = true) : rk_cp e C R (rk_ct (rk_kp e C R) c) = e c := by
  unfold rk_cp
  rw [rk_se_ct hc hk]
theorem rk_cp_W {e : Nat → rk_E} {C P R : Nat} (h : rk_W e C P) : rk_W (rk_cp e C R) (rk_ct (rk_kp e C R) C) P := by
  refine ⟨fun j hj => ?_, fun i j hi hj => ?_⟩
  · obtain ⟨c, h1, h2, h3⟩ := rk_ct_sur hj
    rw [← h3, rk_cp_c h1 h2]
    exact h.1 c h1
  · obtain ⟨c, h1, h2, h3⟩ := rk_ct_sur hj
    obtain ⟨d, g1, g2, g3⟩ := rk_ct_sur (show i < rk_ct (rk_kp e C R) C by omega)
    have hdc : d < c := by
      rcases Nat.lt_or_ge d c with z | z
      · exact z
      · have := rk_ct_mono (q := rk_kp e C R) z
        omega
    rw [← h3, ← g3, rk_cp_c h1 h2, rk_cp_c g1 g2]
    exact h.2 d c hdc h1
/-- the renumbered place -/
def rk_rn (kp : Nat → Bool) (o : Option Nat) : Option Nat := o.bind (fun j => if kp j = true then some (rk_ct kp j) else none)
theorem rk_cp_ls {e : Nat → rk_E} {C P R k n : Nat} (h : rk_W e C P) (hn : n ≤ C) : rk_ls (rk_qk (rk_cp e C R) k) (rk_ct (rk_kp e C R) n) = rk_rn (rk_kp e C R) (rk_ls (rk_qk e k) n) := by
  refine rk_ls_se (q := rk_qk e k) (kp := rk_kp e C R) hn (fun i j hi hj h1 h2 h3 => ?_)
  have e1 : rk_ky (e i) = k := of_decide_eq_true h1
  have e2 : rk_ky (e j) = k := of_decide_eq_true h2
  exact rk_kp_up h hi (by omega) (by rw [e1, e2]) h3
theorem rk_cp_lsa {e : Nat → rk_E} {C P R R' k : Nat} (h : rk_W e C P) : rk_ls (rk_qa (rk_cp e C R) k R') (rk_ct (rk_kp e C R) C) = rk_rn (rk_kp e C R) (rk_ls (rk_qa e k R') C) := by
  refine rk_ls_se (q := rk_qa e k R') (kp := rk_kp e C R) (Nat.le_refl C) (fun i j hi hj h1 h2 h3 => ?_)
  have e1 : rk_ky (e i) = k := of_decide_eq_true (Bool.and_eq_true_iff.mp h1).1
  have e2 : rk_ky (e j) = k := of_decide_eq_true (Bool.and_eq_true_iff.mp h2).1
  exact rk_kp_up h hi hj (by rw [e1, e2]) h3
theorem rk_cp_at {e : Nat → rk_E} {C P R R' k : Nat} (h : rk_W e C P) (hR : R ≤ R') : rk_at (rk_cp e C R) k R' (rk_ct (rk_kp e C R) C) = rk_at e k R' C := by
  unfold rk_at
  rw [rk_cp_lsa h]
  cases hl : rk_ls (rk_qa e k R') C with
  | none => rfl
  | some j =>
    obtain ⟨h1, h2, h3⟩ := rk_ls_some hl
    have k1 : rk_ky (e j) = k := of_decide_eq_true (Bool.and_eq_true_iff.mp h2).1
    show rk_pk (rk_cp e C R) (if rk_kp e C R j = true then some (rk_ct (rk_kp e C R) j) else none) = (if rk_pt (e j) = true then some (e j) else none)
    by_cases hk : rk_kp e C R j = true
    · rw [if_pos hk]
      show (if rk_pt (rk_cp e C R (rk_ct (rk_kp e C R) j)) = true then some (rk_cp e C R (rk_ct (rk_kp e C R) j)) else none) = _
      rw [rk_cp_c h1 hk]
    · rw [if_neg hk]
      show none = _
      symm
      refine if_neg (fun hp => hk ?_)
      unfold rk_kp
      by_cases hr : R < rk_rv (e j)
      · rw [show decide (R < rk_rv (e j)) = true from by simp; omega, Bool.true_or]
      · rw [hp, Bool.and_true, show decide (rk_ls (rk_qa e (rk_ky (e j)) R) C = some j) = true from ?_, Bool.or_true]
        refine decide_eq_true (rk_ls_of h1 ?_ (fun i hi hi2 => ?_))
        · unfold rk_qa rk_qk rk_qr
          simp
          omega
        · have h4 := h3 i hi hi2
          unfold rk_qa rk_qk rk_qr at h4 ⊢
          rw [k1]
          simp at h4 ⊢
          intro z
          have := h4 z
          omega
theorem rk_cp_cu {e : Nat → rk_E} {C P R k : Nat} (h : rk_W e C P) (hR : R ≤ P) : rk_cu (rk_cp e C R) k (rk_ct (rk_kp e C R) C) = rk_cu e k C := by
  rw [← rk_at_P (rk_cp_W h) (Nat.le_refl P), ← rk_at_P h (Nat.le_refl P)]
  exact rk_cp_at h hR
theorem rk_cp_X {e : Nat → rk_E} {C P R : Nat} (h : rk_W e C P) (hR : R ≤ P) : rk_X (rk_cp e C R) (rk_ct (rk_kp e C R) C) = rk_X e C := by
  unfold rk_X
  refine rk_ct_congr (fun k _ => ?_)
  unfold rk_ex
  rw [rk_cp_cu h hR]
end
section
/-- an entry is what the arrays hold at its place -/
def rk_K (x : rk_E) (y1 y2 y3 y4 y5 y6 : Int32) : Prop := y1 = nI (rk_rv x) ∧ y2 = nI (rk_ky x) ∧ y3 = nI (rk_vl x) ∧ y4 = rk_bI (rk_pt x) ∧ y5 = nI (rk_md x) ∧ y6 = nI (rk_vs x)
def rk_A (e : Nat → rk_E) (C : Nat) (a1 a2 a3 a4 a5 a6 a7 a8 : Nat → Int32) : Prop := (∀ j, j < C → rk_K (e j) (a1 j) (a2 j) (a3 j) (a4 j) (a5 j) (a6 j)) ∧ (∀ j, j < C → a7 j = rk_en (rk_ls (rk_qk e (rk_ky (e j))) j)) ∧ (∀ k, k < 16 → a8 k = rk_en (rk_ls (rk_qk e k) C))
def rk_oI (g : rk_E → Nat) (o : Option rk_E) : Int32 := match o with
  | none => -1000000003
  | some x => nI (g x)
theorem rk_m1 {j : Nat} (h : j < 2 ^ 31) : ¬ nI j = -1 := by
  intro z
  have h1 := congrArg Int32.toInt z
  rw [nI_toInt h] at h1
  have h2 : (-1 : Int32).toInt = -1 := by decide
  rw [h2] at h1
  omega
theorem rk_en_cl {j : Nat} (h : j < 2 ^ 31) : (rk_en (some j)).toNatClampNeg = j := nI_clamp h
theorem rk_br {A B : Prop} {b : Bool} (g : b = false → A) (h : b = true → B) : (rk_bI b = 0 → A) ∧ (¬ rk_bI b = 0 → B) := by
  cases b with
  | false => exact ⟨fun _ => g rfl, fun z => absurd rfl z⟩
  | true => exact ⟨fun z => absurd z (by decide), fun _ => h rfl⟩
theorem rk_bI_nar (b : Bool) : vp_nar .boolean (rk_bI b) = rk_bI b := by
  cases b <;> rfl
theorem rk_cu_no {e : Nat → rk_E} {k C : Nat} (h : rk_ex e k C = false) : rk_cu e k C = none := by
  unfold rk_ex at h
  cases hc : rk_cu e k C with
  | none => rfl
  | some x =>
    rw [hc] at h
    exact absurd h (by simp)
theorem rk_cu_of {e : Nat → rk_E} {k C : Nat} (h : rk_ex e k C = true) : ∃ j, j < C ∧ rk_ls (rk_qk e k) C = some j ∧ rk_cu e k C = some (e j) ∧ rk_pt (e j) = true ∧ rk_ky (e j) = k := by
  unfold rk_ex at h
  cases hc : rk_cu e k C with
  | none =>
    rw [hc] at h
    exact absurd h (by simp)
  | some x =>
    obtain ⟨j, h1, h2, h3, h4, h5⟩ := rk_pk_some hc
    exact ⟨j, h1, h2, by rw [h3], by rw [← h3]; exact h4, of_decide_eq_true h5⟩
theorem rk_pk_is {e : Nat → rk_E} {j : Nat} : (rk_pk e (some j)).isSome = rk_pt (e j) := by
  show (if rk_pt (e j) = true then some (e j) else none).isSome = _
  cases rk_pt (e j) <;> rfl
theorem rk_pk_oI {e : Nat → rk_E} {j : Nat} {g : rk_E → Nat} : rk_oI g (rk_pk e (some j)) = if rk_pt (e j) = true then nI (g (e j)) else -1000000003 := by
  show rk_oI g (if rk_pt (e j) = true then some (e j) else none) = _
  cases rk_pt (e j) <;> rfl
section
variable {c o p f nw : Int32} {a1 a2 a3 a4 a5 a6 a7 a8 a9 a10 a11 a12 a13 a14 a15 a16 a17 a18 a19 a20 a21 a22 a23 : Nat → Int32} {e : Nat → rk_E} {C P F : Nat}
theorem rk_bk {post : Int32 → Prop} {k : Nat} (hk : k < 16) (H : post 0) : wpX_badKey post (c, o, p, f, nw, a1, a2, a3, a4, a5, a6, a7, a8, a9, a10, a11, a12, a13, a14, a15, a16, a17, a18, a19, a20, a21, a22, a23) (nI k) :=
  pk_lt k 0 (fun z => absurd z (by omega)) (fun _ => pk_lt k 16 (fun _ => H) (fun z => absurd z (by omega)))
theorem rk_bw {post : Int32 → Prop} {k : Nat} (hk : k < 4) (H : post 0) : wpX_badWatch post (c, o, p, f, nw, a1, a2, a3, a4, a5, a6, a7, a8, a9, a10, a11, a12, a13, a14, a15, a16, a17, a18, a19, a20, a21, a22, a23) (nI k) :=
  pk_lt k 0 (fun z => absurd z (by omega)) (fun _ => pk_lt k 4 (fun _ => H) (fun z => absurd z (by omega)))
theorem rk_bl {post : Int32 → Prop} {k : Nat} (hk : k < 6) (H : post 0) : wpX_badLease post (c, o, p, f, nw, a1, a2, a3, a4, a5, a6, a7, a8, a9, a10, a11, a12, a13, a14, a15, a16, a17, a18, a19, a20, a21, a22, a23) (nI k) :=
  pk_lt k 0 (fun z => absurd z (by omega)) (fun _ => pk_lt k 6 (fun _ => H) (fun z => absurd z (by omega)))
theorem rk_exists {post : Int32 → Prop} (hA : rk_A e C a1 a2 a3 a4 a5 a6 a7 a8) (hC : C ≤ 140) {k : Nat} (hk : k < 16) (H : post (rk_bI (rk_ex e k C))) : wpX_exists post (c, o, p, f, nw, a1, a2, a3, a4, a5, a6, a7, a8, a9, a10, a11, a12, a13, a14, a15, a16, a17, a18, a19, a20, a21, a22, a23) (nI k) := by
  unfold wpX_exists
  dsimp only
  rw [nI_clamp (show k < 2 ^ 31 by omega), hA.2.2 k hk]
  refine ⟨pk_in k 16 hk, ?_⟩
  unfold rk_ex rk_cu at H
  cases hl : rk_ls (rk_qk e k) C with
  | none =>
    rw [hl] at H
    exact br_t rfl H
  | some j =>
    rw [hl, rk_pk_is] at H
    obtain ⟨h1, h2, h3⟩ := rk_ls_some hl
    rw [rk_en_cl (show j < 2 ^ 31 by omega), (hA.1 j h1).2.2.2.1]
    exact br_f (rk_m1 (by omega)) ⟨pk_in k 16 hk, pk_in j 140 (by omega), rk_br (fun z => by rw [z] at H; exact H) (fun z => by rw [z] at H; exact H)⟩
theorem rk_set {post : Int32 → Prop} (hA : rk_A e C a1 a2 a3 a4 a5 a6 a7 a8) (hC : C ≤ 140) {k : Nat} (hk : k < 16) (H : post (rk_oI rk_rv (rk_cu e k C))) : wpX_set post (c, o, p, f, nw, a1, a2, a3, a4, a5, a6, a7, a8, a9, a10, a11, a12, a13, a14, a15, a16, a17, a18, a19, a20, a21, a22, a23) (nI k) := by
  unfold wpX_set
  dsimp only
  refine rk_bk hk (br_t rfl (rk_exists hA hC hk (rk_br (fun z => ?_) (fun z => ?_))))
  · rw [rk_cu_no z] at H
    exact H
  · obtain ⟨j, hj, hl, hc, _⟩ := rk_cu_of z
    rw [hc] at H
    rw [nI_clamp (show k < 2 ^ 31 by omega), hA.2.2 k hk, hl, rk_en_cl (show j < 2 ^ 31 by omega), (hA.1 j hj).1]
    exact ⟨pk_in k 16 hk, pk_in j 140 (by omega), H⟩
theorem rk_made {post : Int32 → Prop} (hA : rk_A e C a1 a2 a3 a4 a5 a6 a7 a8) (hC : C ≤ 140) {k : Nat} (hk : k < 16) (H : post (rk_oI rk_md (rk_cu e k C))) : wpX_made post (c, o, p, f, nw, a1, a2, a3, a4, a5, a6, a7, a8, a9, a10, a11, a12, a13, a14, a15, a16, a17, a18, a19, a20, a21, a22, a23) (nI k) := by
  unfold wpX_made
  dsimp only
  refine rk_bk hk (br_t rfl (rk_exists hA hC hk (rk_br (fun z => ?_) (fun z => ?_))))
  · rw [rk_cu_no z] at H
    exact H
  · obtain ⟨j, hj, hl, hc, _⟩ := rk_cu_of z
    rw [hc] at H
    rw [nI_clamp (show k < 2 ^ 31 by omega), hA.2.2 k hk, hl, rk_en_cl (show j < 2 ^ 31 by omega), (hA.1 j hj).2.2.2.2.1]
    exact ⟨pk_in k 16 hk, pk_in j 140 (by omega), H⟩
theorem rk_version {post : Int32 → Prop} (hA : rk_A e C a1 a2 a3 a4 a5 a6 a7 a8) (hC : C ≤ 140) {k : Nat} (hk : k < 16) (H : post (rk_oI rk_vs (rk_cu e k C))) : wpX_version post (c, o, p, f, nw, a1, a2, a3, a4, a5, a6, a7, a8, a9, a10, a11, a12, a13, a14, a15, a16, a17, a18, a19, a20, a21, a22, a23) (nI k) := by
  unfold wpX_version
  dsimp only
  refine rk_bk hk (br_t rfl (rk_exists hA hC hk (rk_br (fun z => ?_) (fun z => ?_))))
  · rw [rk_cu_no z] at H
    exact H
  · obtain ⟨j, hj, hl, hc, _⟩ := rk_cu_of z
    rw [hc] at H
    rw [nI_clamp (show k < 2 ^ 31 by omega), hA.2.2 k hk, hl, rk_en_cl (show j < 2 ^ 31 by omega), (hA.1 j hj).2.2.2.2.2]
    exact ⟨pk_in k 16 hk, pk_in j 140 (by omega), H⟩
theorem rk_leaseOf {post : Int32 → Prop} (hA : rk_A e C a1 a2 a3 a4 a5 a6 a7 a8) (hC : C ≤ 140) {k : Nat} (hk : k < 16) (hn : rk_ex e k C = false) (H : post (-1000000003)) : wpX_leaseOf post (c, o, p, f, nw, a1, a2, a3, a4, a5, a6, a7, a8, a9, a10, a11, a12, a13, a14, a15, a16, a17, a18, a19, a20, a21, a22, a23) (nI k) := by
  unfold wpX_leaseOf
  dsimp only
  refine rk_bk hk (br_t rfl (rk_exists hA hC hk (rk_br (fun z => H) (fun z => ?_))))
  rw [hn] at z
  exact absurd z (by simp)
/-! the walk back along a key's changes -/
theorem rk_ch10 {post : Int32 → Prop} {k R : Nat} (hA : rk_A e C a1 a2 a3 a4 a5 a6 a7 a8) (hW : rk_W e C P) (hC : C ≤ 130) (hP : P ≤ 200) (hR : R < 2 ^ 31) (H : post (rk_en (rk_ls (rk_qa e k R) C))) :
    ∀ (fu m i : Nat), m < fu → m ≤ C → i + m ≤ 139 → rk_ls (rk_qa e k R) C = rk_ls (rk_qa e k R) m → wX_changeAt_10 post (nI R) c o p f nw a1 a2 a3 a4 a5 a6 a7 a8 a9 a10 a11 a12 a13 a14 a15 a16 a17 a18 a19 a20 a21 a22 a23 fu (rk_en (rk_ls (rk_qk e k) m)) (nI i) := by
  intro fu
  induction fu with
  | zero =>
    intro m i h
    exact absurd h (by omega)
  | succ fu ih =>
    intro m i hm hmC hi hl
    refine pk_le 140 i (fun z => absurd z (by omega)) (fun _ => ?_)
    cases hk : rk_ls (rk_qk e k) m with
    | none =>
      have h1 : rk_ls (rk_qa e k R) m = none := rk_ls_miss hk
      rw [hl, h1] at H
      exact br_t rfl H
    | some j =>
      obtain ⟨h1, h2, h3⟩ := rk_ls_some hk
      have hv := hW.1 j (by omega)
      rw [rk_en_cl (show j < 2 ^ 31 by omega), (hA.1 j (by omega)).1, hA.2.1 j (by omega)]
      refine br_f (rk_m1 (by omega)) ⟨pk_in j 140 (by omega), pk_le (rk_rv (e j)) R (fun z => ?_) (fun z => ⟨pk_in j 140 (by omega), ?_⟩) rfl rfl (by have := hv.2.1; omega) hR⟩
      · have h4 : rk_ls (rk_qa e k R) m = some j := rk_ls_hit hk (decide_eq_true z)
        rw [hl, h4] at H
        exact H
      · have h4 : rk_ls (rk_qa e k R) m = rk_ls (rk_qa e k R) j := rk_ls_step hk (decide_eq_false (by omega))
        have h5 : rk_ky (e j) = k := of_decide_eq_true h2
        rw [h5]
        exact nm_e (nm_r (nI_1 i) (ih j (i + 1) (by omega) (by omega) (by omega) (hl.trans h4)))
theorem rk_changeAt {post : Int32 → Prop} {k R : Nat} (hA : rk_A e C a1 a2 a3 a4 a5 a6 a7 a8) (hW : rk_W e C P) (hC : C ≤ 130) (hP : P ≤ 200) (hR : R < 2 ^ 31) (hk : k < 16) (H : post (rk_en (rk_ls (rk_qa e k R) C))) : wpX_changeAt post (c, o, p, f, nw, a1, a2, a3, a4, a5, a6, a7, a8, a9, a10, a11, a12, a13, a14, a15, a16, a17, a18, a19, a20, a21, a22, a23) (nI k) (nI R) := by
  unfold wpX_changeAt
  dsimp only
  rw [nI_clamp (show k < 2 ^ 31 by omega), hA.2.2 k hk]
  exact ⟨pk_in k 16 hk, nm_e ⟨C + 1, rk_ch10 hA hW hC hP hR H (C + 1) C 0 (by omega) (by omega) (by omega) rfl⟩⟩
theorem rk_existed {post : Int32 → Prop} {k R : Nat} (hA : rk_A e C a1 a2 a3 a4 a5 a6 a7 a8) (hW : rk_W e C P) (hC : C ≤ 130) (hP : P ≤ 200) (hR : R < 2 ^ 31) (hk : k < 16) (H : post (rk_bI (rk_at e k R C).isSome)) : wpX_existed post (c, o, p, f, nw, a1, a2, a3, a4, a5, a6, a7, a8, a9, a10, a11, a12, a13, a14, a15, a16, a17, a18, a19, a20, a21, a22, a23) (nI k) (nI R) := by
  unfold wpX_existed
  dsimp only
  refine rk_changeAt hA hW hC hP hR hk ?_
  unfold rk_at at H
  cases hl : rk_ls (rk_qa e k R) C with
  | none =>
    rw [hl] at H
    exact br_t rfl H
  | some j =>
    rw [hl, rk_pk_is] at H
    obtain ⟨h1, h2, h3⟩ := rk_ls_some hl
    rw [rk_en_cl (show j < 2 ^ 31 by omega), (hA.1 j h1).2.2.2.1]
    exact br_f (rk_m1 (by omega)) ⟨pk_in j 140 (by omega), rk_br (fun z => by rw [z] at H; exact H) (fun z => by rw [z] at H; exact H)⟩
/-- what a question's revision means: none: it is forgotten -/
def rk_Q (F P : Nat) (r : Int32) (o : Option Nat) : Prop := match o with
  | none => ¬ r = -1 ∧ ¬ nI F ≤ r
  | some R => R ≤ P ∧ F ≤ R ∧ ((r = -1 ∧ R = P) ∨ r = nI R)
theorem rk_refS {post : Int32 → Prop} {r : Int32} {R : Nat} (hP : P ≤ 200) (h : rk_Q F P r (some R)) (H : post 0) : wpX_refused post (c, o, nI P, nI F, nw, a1, a2, a3, a4, a5, a6, a7, a8, a9, a10, a11, a12, a13, a14, a15, a16, a17, a18, a19, a20, a21, a22, a23) r := by
  obtain ⟨h1, h2, h3⟩ := h
  rcases h3 with ⟨h3, h4⟩ | h3
  · subst h3
    exact br_t rfl (br_t (Int32.le_trans (show (-1 : Int32) ≤ 0 by decide) (nI_pos' (by omega))) H)
  · subst h3
    exact br_f (rk_m1 (by omega)) (br_t (nI_le h2 (by omega)) (br_t (nI_le h1 (by omega)) H))
theorem rk_refN {post : Int32 → Prop} {r : Int32} (h : rk_Q F P r none) (H : post (-1000000004)) : wpX_refused post (c, o, nI P, nI F, nw, a1, a2, a3, a4, a5, a6, a7, a8, a9, a10, a11, a12, a13, a14, a15, a16, a17, a18, a19, a20, a21, a22, a23) r :=
  br_f h.1 (br_f h.2 H)
theorem rk_meant {post : Int32 → Prop} {r : Int32} {R : Nat} (hP : P ≤ 200) (h : rk_Q F P r (some R)) (H : post (nI R)) : wpX_meant post (c, o, nI P, nI F, nw, a1, a2, a3, a4, a5, a6, a7, a8, a9, a10, a11, a12, a13, a14, a15, a16, a17, a18, a19, a20, a21, a22, a23) r := by
  obtain ⟨h1, h2, h3⟩ := h
  rcases h3 with ⟨h3, h4⟩ | h3
  · subst h3 h4
    exact br_t rfl H
  · subst h3
    exact br_f (rk_m1 (by omega)) H
def rk_aV (e : Nat → rk_E) (C k : Nat) (o : Option Nat) : Int32 := match o with
  | none => -1000000004
  | some R => rk_oI rk_vl (rk_at e k R C)
theorem rk_value {post : Int32 → Prop} {r : Int32} {o' : Option Nat} {k : Nat} (hA : rk_A e C a1 a2 a3 a4 a5 a6 a7 a8) (hW : rk_W e C P) (hC : C ≤ 130) (hP : P ≤ 200) (hk : k < 16) (hQ : rk_Q F P r o') (H : post (rk_aV e C k o')) : wpX_value post (c, o, nI P, nI F, nw, a1, a2, a3, a4, a5, a6, a7, a8, a9, a10, a11, a12, a13, a14, a15, a16, a17, a18, a19, a20, a21, a22, a23) (nI k) r := by
  unfold wpX_value
  dsimp only
  refine rk_bk hk (br_t rfl ?_)
  cases o' with
  | none => exact rk_refN hQ (br_f (by decide) H)
  | some R =>
    refine rk_refS hP hQ (br_t (by decide) (rk_meant hP hQ (rk_changeAt hA hW hC hP (by have := hQ.1; omega) hk ?_)))
    have H' : post (rk_oI rk_vl (rk_pk e (rk_ls (rk_qa e k R) C))) := H
    cases hl : rk_ls (rk_qa e k R) C with
    | none =>
      rw [hl] at H'
      exact br_t rfl H'
    | some j =>
      rw [hl, rk_pk_oI] at H'
      obtain ⟨h1, h2, h3⟩ := rk_ls_some hl
      rw [rk_en_cl (show j < 2 ^ 31 by omega), (hA.1 j h1).2.2.2.1, (hA.1 j h1).2.2.1]
      exact br_f (rk_m1 (by omega)) ⟨pk_in j 140 (by omega), rk_br (fun z => by rw [z] at H'; exact H') (fun z => ⟨pk_in j 140 (by omega), by rw [z] at H'; exact H'⟩)⟩
/-- there at a revision -/
def rk_th (e : Nat → rk_E) (C R : Nat) : Nat → Bool := fun k => (rk_at e k R C).isSome
def rk_aC (e : Nat → rk_E) (C : Nat) (o : Option Nat) : Int32 := match o with
  | none => -1000000004
  | some R => nI (rk_ct (rk_th e C R) 16)
theorem rk_count40 {post : Int32 → Prop} {r : Int32} {R : Nat} (hA : rk_A e C a1 a2 a3 a4 a5 a6 a7 a8) (hW : rk_W e C P) (hC : C ≤ 130) (hP : P ≤ 200) (hQ : rk_Q F P r (some R)) (H : post (nI (rk_ct (rk_th e C R) 16))) :
    ∀ (fu i : Nat), 16 - i < fu → i ≤ 16 → wX_count_40 post 15 r c o (nI P) (nI F) nw a1 a2 a3 a4 a5 a6 a7 a8 a9 a10 a11 a12 a13 a14 a15 a16 a17 a18 a19 a20 a21 a22 a23 fu (nI (rk_ct (rk_th e C R) i)) (nI i) := by
  intro fu
  induction fu with
  | zero =>
    intro i h
    exact absurd h (by omega)
  | succ fu ih =>
    intro i hm hi
    refine pk_lt 15 i (fun z => ?_) (fun z => rk_meant hP hQ (rk_existed hA hW hC hP (by have := hQ.1; omega) (show i < 16 by omega) (rk_br (fun z' => nm_r (nI_1 i) ?_) (fun z' => nm_r (nI_1 _) (nm_r (nI_1 i) ?_)))))
    · have : i = 16 := by omega
      rw [this]
      exact H
    · have h1 := ih (i + 1) (by omega) (by omega)
      rw [rk_ct_f (q := rk_th e C R) z'] at h1
      exact h1
    · have h1 := ih (i + 1) (by omega) (by omega)
      rw [rk_ct_t (q := rk_th e C R) z'] at h1
      exact h1
theorem rk_count {post : Int32 → Prop} {r : Int32} {o' : Option Nat} (hA : rk_A e C a1 a2 a3 a4 a5 a6 a7 a8) (hW : rk_W e C P) (hC : C ≤ 130) (hP : P ≤ 200) (hQ : rk_Q F P r o') (H : post (rk_aC e C o')) : wpX_count post (c, o, nI P, nI F, nw, a1, a2, a3, a4, a5, a6, a7, a8, a9, a10, a11, a12, a13, a14, a15, a16, a17, a18, a19, a20, a21, a22, a23) 0 15 r := by
  unfold wpX_count
  dsimp only
  refine rk_bk (k := 0) (by omega) (br_t rfl (rk_bk (k := 15) (by omega) (br_t rfl ?_)))
  cases o' with
  | none => exact rk_refN hQ (br_f (by decide) H)
  | some R => exact rk_refS hP hQ (br_t (by decide) ⟨17, rk_count40 hA hW hC hP hQ H 17 0 (by omega) (by omega)⟩)
/-- the first one from i on -/
def rk_fk (q : Nat → Bool) : Nat → Nat → Int32
  | 0, _ => -1000000003
  | n + 1, i => if q i = true then nI i else rk_fk q n (i + 1)
def rk_aK (e : Nat → rk_E) (C : Nat) (o : Option Nat) : Int32 := match o with
  | none => -1000000004
  | some R => rk_fk (rk_th e C R) 16 0
theorem rk_keyAt41 {post : Int32 → Prop} {r : Int32} {R : Nat} (hA : rk_A e C a1 a2 a3 a4 a5 a6 a7 a8) (hW : rk_W e C P) (hC : C ≤ 130) (hP : P ≤ 200) (hQ : rk_Q F P r (some R)) (H : post (rk_fk (rk_th e C R) 16 0)) :
    ∀ (fu i : Nat), 16 - i < fu → i ≤ 16 → rk_fk (rk_th e C R) 16 0 = rk_fk (rk_th e C R) (16 - i) i → wX_keyAt_41 post 15 0 r c o (nI P) (nI F) nw a1 a2 a3 a4 a5 a6 a7 a8 a9 a10 a11 a12 a13 a14 a15 a16 a17 a18 a19 a20 a21 a22 a23 fu 0 (nI i) := by
  intro fu
  induction fu with
  | zero =>
    intro i h
    exact absurd h (by omega)
  | succ fu ih =>
    intro i hm hi he
    refine pk_lt 15 i (fun z => ?_) (fun z => rk_meant hP hQ (rk_existed hA hW hC hP (by have := hQ.1; omega) (show i < 16 by omega) (rk_br (fun z' => nm_r (nI_1 i) ?_) (fun z' => br_t rfl ?_))))
    · have : i = 16 := by omega
      subst this
      rw [he] at H
      exact H
    · refine ih (i + 1) (by omega) (by omega) ?_
      rw [he, show 16 - i = (16 - (i + 1)) + 1 by omega]
      show (if rk_th e C R i = true then nI i else rk_fk (rk_th e C R) (16 - (i + 1)) (i + 1)) = _
      exact if_neg (by unfold rk_th; rw [z']; simp)
    · rw [he, show 16 - i = (16 - (i + 1)) + 1 by omega] at H
      have H' : post (if rk_th e C R i = true then nI i else rk_fk (rk_th e C R) (16 - (i + 1)) (i + 1)) := H
      rw [if_pos (show rk_th e C R i = true from z')] at H'
      exact H'
theorem rk_keyAt {post : Int32 → Prop} {r : Int32} {o' : Option Nat} (hA : rk_A e C a1 a2 a3 a4 a5 a6 a7 a8) (hW : rk_W e C P) (hC : C ≤ 130) (hP : P ≤ 200) (hQ : rk_Q F P r o') (H : post (rk_aK e C o')) : wpX_keyAt post (c, o, nI P, nI F, nw, a1, a2, a3, a4, a5, a6, a7, a8, a9, a10, a11, a12, a13, a14, a15, a16, a17, a18, a19, a20, a21, a22, a23) 0 15 0 r := by
  unfold wpX_keyAt
  dsimp only
  refine rk_bk (k := 0) (by omega) (br_t rfl (rk_bk (k := 15) (by omega) (br_t rfl ?_)))
  cases o' with
  | none => exact rk_refN hQ (br_f (by decide) H)
  | some R => exact rk_refS hP hQ (br_t (by decide) ⟨17, rk_keyAt41 hA hW hC hP hQ H 17 0 (by omega) (by omega) rfl⟩)
end
end
section
theorem rk_nb (b : Bool) : narrow .boolean (.int (rk_bI b)) = .int (rk_bI b) := by
  cases b <;> rfl
section
variable {c o p f nw : Int32} {a1 a2 a3 a4 a5 a6 a7 a8 a9 a10 a11 a12 a13 a14 a15 a16 a17 a18 a19 a20 a21 a22 a23 : Nat → Int32} {e : Nat → rk_E} {C P F : Nat}
theorem rk_wantA {post : Int32 → Prop} {w j : Nat} (hw : w < 4) (hj : j < 140) (h0 : post 0) (h1 : post 1) : wpX_isWanted post (c, o, p, f, nw, a1, a2, a3, a4, a5, a6, a7, a8, a9, a10, a11, a12, a13, a14, a15, a16, a17, a18, a19, a20, a21, a22, a23) (nI w) (nI j) := by
  unfold wpX_isWanted
  dsimp only
  exact ⟨pk_in j 140 hj, pk_in w 4 hw, br_c (fun _ => h0) (fun _ => ⟨pk_in j 140 hj, pk_in w 4 hw, br_c (fun _ => h0) (fun _ => ⟨pk_in j 140 hj, pk_in w 4 hw, br_c (fun _ => h0) (fun _ => h1)⟩)⟩)⟩
/-- the law's own watch wants every change -/
def rk_W0 (a14 a15 a16 a17 a18 : Nat → Int32) : Prop := a14 0 = 1 ∧ a15 0 = 0 ∧ a16 0 = 0 ∧ a17 0 = 15 ∧ a18 0 = 1
theorem rk_want0 {post : Int32 → Prop} {j : Nat} (h0 : rk_W0 a14 a15 a16 a17 a18) (hA : rk_A e C a1 a2 a3 a4 a5 a6 a7 a8) (hW : rk_W e C P) (hC : C ≤ 140) (hP : P ≤ 200) (hj : j < C) (H : post 1) : wpX_isWanted post (c, o, p, f, nw, a1, a2, a3, a4, a5, a6, a7, a8, a9, a10, a11, a12, a13, a14, a15, a16, a17, a18, a19, a20, a21, a22, a23) 0 (nI j) := by
  obtain ⟨_, _, w1, w2, w3⟩ := h0
  obtain ⟨v1, v2, v3, _⟩ := hW.1 j hj
  obtain ⟨k1, k2, _⟩ := hA.1 j hj
  unfold wpX_isWanted
  dsimp only
  rw [nI_clamp (show j < 2 ^ 31 by omega), sb_cl0, w1, w2, w3, k1, k2]
  exact ⟨pk_in j 140 (by omega), pk_in 0 4 (by omega), br_f (nI_pos (by omega)) ⟨pk_in j 140 (by omega), pk_in 0 4 (by omega), pk_lt 15 (rk_ky (e j)) (fun z => absurd z (by omega)) (fun _ => ⟨pk_in j 140 (by omega), pk_in 0 4 (by omega), pk_lt (rk_rv (e j)) 1 (fun z => absurd z (by omega)) (fun _ => H)⟩)⟩⟩
theorem rk_wait55 {post : Int32 → Prop} {pl : Nat} (h0 : rk_W0 a14 a15 a16 a17 a18) (hA : rk_A e C a1 a2 a3 a4 a5 a6 a7 a8) (hW : rk_W e C P) (hC : C ≤ 130) (hP : P ≤ 200) (H : post (nI (C - pl))) :
    ∀ (fu i : Nat), C - i < fu → pl ≤ i → i ≤ C → wX_waiting_55 post 0 (nI C) o p f nw a1 a2 a3 a4 a5 a6 a7 a8 a9 a10 a11 a12 a13 a14 a15 a16 a17 a18 a19 a20 a21 a22 a23 fu (nI (i - pl)) (nI i) := by
  intro fu
  induction fu with
  | zero =>
    intro i h
    exact absurd h (by omega)
  | succ fu ih =>
    intro i hm hi hiC
    refine pk_le C i (fun z => ?_) (fun z => rk_want0 h0 hA hW (by omega) hP z (br_f (by decide) (nm_r (nI_1 _) (nm_r (nI_1 i) ?_))))
    · have : i = C := by omega
      rw [this]
      exact H
    · have h1 := ih (i + 1) (by omega) (by omega) (by omega)
      rw [show i + 1 - pl = i - pl + 1 by omega] at h1
      exact h1
theorem rk_waiting {post : Int32 → Prop} {pl : Nat} (h0 : rk_W0 a14 a15 a16 a17 a18) (hA : rk_A e C a1 a2 a3 a4 a5 a6 a7 a8) (hW : rk_W e C P) (hC : C ≤ 130) (hP : P ≤ 200) (hp : a19 0 = nI pl) (hpl : pl ≤ C) (H : post (nI (C - pl))) : wpX_waiting post (nI C, o, p, f, nw, a1, a2, a3, a4, a5, a6, a7, a8, a9, a10, a11, a12, a13, a14, a15, a16, a17, a18, a19, a20, a21, a22, a23) 0 := by
  unfold wpX_waiting
  dsimp only
  refine rk_bw (k := 0) (by omega) (br_t rfl ⟨pk_in 0 4 (by omega), ?_⟩)
  rw [sb_cl0, h0.1, h0.2.1, hp]
  refine br_f (by decide) ⟨pk_in 0 4 (by omega), br_t rfl ⟨pk_in 0 4 (by omega), nm_e ⟨C + 1, ?_⟩⟩⟩
  have h1 : wX_waiting_55 post 0 (nI C) o p f nw a1 a2 a3 a4 a5 a6 a7 a8 a9 a10 a11 a12 a13 a14 a15 a16 a17 a18 a19 a20 a21 a22 a23 (C + 1) (nI (pl - pl)) (nI pl) := rk_wait55 (post := post) h0 hA hW hC hP H (C + 1) pl (by omega) (by omega) hpl
  rw [Nat.sub_self] at h1
  exact h1
theorem rk_handA {post : Int32 → Prop} {x : Nat} (hx : x < 3) (H : ∀ y, post y) : wpX_handed post (c, o, p, f, nw, a1, a2, a3, a4, a5, a6, a7, a8, a9, a10, a11, a12, a13, a14, a15, a16, a17, a18, a19, a20, a21, a22, a23) 0 (nI x) := by
  unfold wpX_handed
  dsimp only
  refine rk_bw (k := 0) (by omega) (br_t rfl ?_)
  refine pk_lt x 0 (fun z => absurd z (by omega)) (fun _ => pk_le x 2 (fun _ => ⟨pk_in 0 4 (by omega), br_c (fun _ => H _) (fun _ => ⟨pk_in 0 4 (by omega), br_c (fun _ => H _) (fun _ => br_c (fun _ => ⟨pk_in 0 4 (by omega), H _⟩) (fun _ => br_c (fun _ => ⟨pk_in 0 4 (by omega), H _⟩) (fun _ => ⟨pk_in 0 4 (by omega), H _⟩)))⟩)⟩) (fun z => absurd z (by omega)))
theorem rk_hand0 {post : Int32 → Prop} (h0 : a14 0 = 1) (h1 : a20 0 = 1) (H : post (a21 0)) : wpX_handed post (c, o, p, f, nw, a1, a2, a3, a4, a5, a6, a7, a8, a9, a10, a11, a12, a13, a14, a15, a16, a17, a18, a19, a20, a21, a22, a23) 0 0 := by
  unfold wpX_handed
  dsimp only
  rw [sb_cl0, h0, h1]
  exact rk_bw (k := 0) (by omega) (br_t rfl (br_f (by decide) (br_t (by decide) ⟨pk_in 0 4 (by omega), br_f (by decide) ⟨pk_in 0 4 (by omega), br_f (by decide) (br_t rfl ⟨pk_in 0 4 (by omega), H⟩)⟩⟩)))
theorem rk_hand1 {post : Int32 → Prop} (h0 : a14 0 = 1) (h1 : a20 0 = 1) (H : post (a22 0)) : wpX_handed post (c, o, p, f, nw, a1, a2, a3, a4, a5, a6, a7, a8, a9, a10, a11, a12, a13, a14, a15, a16, a17, a18, a19, a20, a21, a22, a23) 0 1 := by
  unfold wpX_handed
  dsimp only
  rw [sb_cl0, h0, h1]
  exact rk_bw (k := 0) (by omega) (br_t rfl (br_f (by decide) (br_t (by decide) ⟨pk_in 0 4 (by omega), br_f (by decide) ⟨pk_in 0 4 (by omega), br_f (by decide) (br_f (by decide) (br_t rfl ⟨pk_in 0 4 (by omega), H⟩))⟩⟩)))
theorem rk_hand2 {post : Int32 → Prop} (h0 : a14 0 = 1) (h1 : a20 0 = 1) (H : post (a23 0)) : wpX_handed post (c, o, p, f, nw, a1, a2, a3, a4, a5, a6, a7, a8, a9, a10, a11, a12, a13, a14, a15, a16, a17, a18, a19, a20, a21, a22, a23) 0 2 := by
  unfold wpX_handed
  dsimp only
  rw [sb_cl0, h0, h1]
  exact rk_bw (k := 0) (by omega) (br_t rfl (br_f (by decide) (br_t (by decide) ⟨pk_in 0 4 (by omega), br_f (by decide) ⟨pk_in 0 4 (by omega), br_f (by decide) (br_f (by decide) (br_f (by decide) ⟨pk_in 0 4 (by omega), H⟩))⟩⟩)))
theorem rk_miss10 {post : Int32 → Prop} {w : Nat} {x2 : Int32} (hw : w < 4) (hC : C ≤ 130) (H : ∀ b : Bool, post (rk_bI b)) :
    ∀ (fu i : Nat) (b : Bool), C - i < fu → i ≤ 140 → wX_missesOne_10 post (nI w) x2 (nI C) o p f nw a1 a2 a3 a4 a5 a6 a7 a8 a9 a10 a11 a12 a13 a14 a15 a16 a17 a18 a19 a20 a21 a22 a23 fu (rk_bI b) (nI i) := by
  intro fu
  induction fu with
  | zero =>
    intro i b h
    exact absurd h (by omega)
  | succ fu ih =>
    intro i b hm hi
    refine pk_le C i (fun _ => ⟨rk_nb b, H b⟩) (fun z => rk_br (fun _ => ⟨pk_in i 140 (by omega), br_c (fun _ => nm_r (nI_1 i) (ih (i + 1) false (by omega) (by omega))) (fun _ => rk_wantA hw (by omega) (br_t rfl (nm_r (nI_1 i) (ih (i + 1) false (by omega) (by omega)))) (br_f (by decide) (nm_r (nI_1 i) (ih (i + 1) true (by omega) (by omega)))))⟩) (fun _ => nm_r (nI_1 i) (ih (i + 1) true (by omega) (by omega))))
theorem rk_missesA {post : Int32 → Prop} {w m : Nat} {r : Int32} (hw : w < 4) (hC : C ≤ 130) (hp : a19 w = nI m) (hm : m ≤ 140) (H : ∀ b : Bool, post (rk_bI b)) : wpX_missesOne post (nI C, o, p, f, nw, a1, a2, a3, a4, a5, a6, a7, a8, a9, a10, a11, a12, a13, a14, a15, a16, a17, a18, a19, a20, a21, a22, a23) (nI w) r := by
  unfold wpX_missesOne
  dsimp only
  rw [nI_clamp (show w < 2 ^ 31 by omega), hp]
  exact ⟨pk_in w 4 hw, nm_e ⟨C + 1, rk_miss10 hw hC H (C + 1) m false (by omega) hm⟩⟩
theorem rk_misses0 {post : Int32 → Prop} {r : Int32} (hC : C ≤ 130) (hp : a19 0 = nI C) (H : post 0) : wpX_missesOne post (nI C, o, p, f, nw, a1, a2, a3, a4, a5, a6, a7, a8, a9, a10, a11, a12, a13, a14, a15, a16, a17, a18, a19, a20, a21, a22, a23) 0 r := by
  unfold wpX_missesOne
  dsimp only
  rw [sb_cl0, hp]
  exact ⟨pk_in 0 4 (by omega), nm_e ⟨1, pk_le C C (fun _ => ⟨rk_nb false, H⟩) (fun z => absurd z (by omega))⟩⟩
def rk_q10 (a10 : Nat → Int32) : Nat → Bool := fun j => decide (¬ a10 j = -1)
theorem rk_first4 {post : Int32 → Prop} {m : Nat} (hm : m ≤ 140) (H : post (nI (rk_ct (rk_q10 a10) m))) :
    ∀ (fu i : Nat), m - i < fu → i ≤ m → wX_firstFrom_4 post (nI m) c o p f nw a1 a2 a3 a4 a5 a6 a7 a8 a9 a10 a11 a12 a13 a14 a15 a16 a17 a18 a19 a20 a21 a22 a23 fu (nI (rk_ct (rk_q10 a10) i)) (nI i) := by
  intro fu
  induction fu with
  | zero =>
    intro i h
    exact absurd h (by omega)
  | succ fu ih =>
    intro i hf hi
    refine pk_le m i (fun z => ?_) (fun z => ⟨pk_in i 140 (by omega), ?_⟩)
    · have : i = m := by omega
      rw [this]
      exact H
    · have h1 := ih (i + 1) (by omega) (by omega)
      rw [nI_clamp (show i < 2 ^ 31 by omega)]
      refine br_c (fun g => nm_r (nI_1 i) ?_) (fun g => nm_r (nI_1 _) (nm_r (nI_1 i) ?_))
      · rw [rk_ct_f (q := rk_q10 a10) (decide_eq_false (fun z => z g))] at h1
        exact h1
      · rw [rk_ct_t (q := rk_q10 a10) (decide_eq_true g)] at h1
        exact h1
theorem rk_firstFrom {post : Int32 → Prop} {m : Nat} (hm : m ≤ 140) (H : post (nI (rk_ct (rk_q10 a10) m))) : wpX_firstFrom post (c, o, p, f, nw, a1, a2, a3, a4, a5, a6, a7, a8, a9, a10, a11, a12, a13, a14, a15, a16, a17, a18, a19, a20, a21, a22, a23) (nI m) :=
  ⟨m + 1, rk_first4 hm H (m + 1) 0 (by omega) (by omega)⟩
def rk_q9 (a9 : Nat → Int32) (l : Int32) : Nat → Bool := fun k => decide (a9 k = l)
theorem rk_under4 {post : Int32 → Prop} {l : Int32} (H : post (nI (rk_ct (rk_q9 a9 l) 16))) :
    ∀ (fu i : Nat), 16 - i < fu → i ≤ 16 → wX_keysUnder_4 post l c o p f nw a1 a2 a3 a4 a5 a6 a7 a8 a9 a10 a11 a12 a13 a14 a15 a16 a17 a18 a19 a20 a21 a22 a23 fu (nI (rk_ct (rk_q9 a9 l) i)) (nI i) := by
  intro fu
  induction fu with
  | zero =>
    intro i h
    exact absurd h (by omega)
  | succ fu ih =>
    intro i hf hi
    refine pk_le 16 i (fun z => ?_) (fun z => ⟨pk_in i 16 (by omega), ?_⟩)
    · have : i = 16 := by omega
      rw [this]
      exact H
    · have h1 := ih (i + 1) (by omega) (by omega)
      rw [nI_clamp (show i < 2 ^ 31 by omega)]
      refine br_c (fun g => nm_r (nI_1 _) (nm_r (nI_1 i) ?_)) (fun g => nm_r (nI_1 i) ?_)
      · rw [rk_ct_t (q := rk_q9 a9 l) (decide_eq_true g)] at h1
        exact h1
      · rw [rk_ct_f (q := rk_q9 a9 l) (decide_eq_false g)] at h1
        exact h1
theorem rk_keysUnder {post : Int32 → Prop} {l : Int32} (H : post (nI (rk_ct (rk_q9 a9 l) 16))) : wpX_keysUnder post (c, o, p, f, nw, a1, a2, a3, a4, a5, a6, a7, a8, a9, a10, a11, a12, a13, a14, a15, a16, a17, a18, a19, a20, a21, a22, a23) l :=
  ⟨17, rk_under4 H 17 0 (by omega) (by omega)⟩
theorem rk_keysOf {post : Int32 → Prop} {l : Nat} (hl : l < 6) (H0 : post 0) (H : post (nI (rk_ct (rk_q9 a9 (nI l)) 16))) : wpX_keysOf post (c, o, p, f, nw, a1, a2, a3, a4, a5, a6, a7, a8, a9, a10, a11, a12, a13, a14, a15, a16, a17, a18, a19, a20, a21, a22, a23) (nI l) := by
  unfold wpX_keysOf
  dsimp only
  exact rk_bl hl (br_t rfl ⟨pk_in l 6 hl, br_c (fun _ => H0) (fun _ => rk_keysUnder H)⟩)
theorem rk_fte4 {post : Int32 → Prop} (H0 : post (-1)) (H : ∀ l, l < 6 → post (nI l)) :
    ∀ (fu i : Nat) (x : Int32), 6 - i < fu → i ≤ 6 → (x = -1 ∨ ∃ l, l < 6 ∧ x = nI l) → wX_firstToEnd_4 post c o p f nw a1 a2 a3 a4 a5 a6 a7 a8 a9 a10 a11 a12 a13 a14 a15 a16 a17 a18 a19 a20 a21 a22 a23 fu x (nI i) := by
  intro fu
  induction fu with
  | zero =>
    intro i x h
    exact absurd h (by omega)
  | succ fu ih =>
    intro i x hf hi hx
    refine pk_le 6 i (fun z => ?_) (fun z => ⟨pk_in i 6 (by omega), br_c (fun _ => nm_r (nI_1 i) (ih (i + 1) x (by omega) (by omega) hx)) (fun _ => br_c (fun _ => nm_r (nI_1 i) (ih (i + 1) (nI i) (by omega) (by omega) (Or.inr ⟨i, by omega, rfl⟩))) (fun g => ⟨pk_in i 6 (by omega), ?_, br_c (fun _ => nm_r (nI_1 i) (ih (i + 1) x (by omega) (by omega) hx)) (fun _ => nm_r (nI_1 i) (ih (i + 1) (nI i) (by omega) (by omega) (Or.inr ⟨i, by omega, rfl⟩)))⟩))⟩)
    · rcases hx with hx | ⟨l, hl, hx⟩
      · rw [hx]
        exact H0
      · rw [hx]
        exact H l hl
    · rcases hx with hx | ⟨l, hl, hx⟩
      · exact absurd hx g
      · rw [hx]
        exact pk_in l 6 hl
theorem rk_firstToEnd {post : Int32 → Prop} (H0 : post (-1)) (H : ∀ l, l < 6 → post (nI l)) : wpX_firstToEnd post (c, o, p, f, nw, a1, a2, a3, a4, a5, a6, a7, a8, a9, a10, a11, a12, a13, a14, a15, a16, a17, a18, a19, a20, a21, a22, a23) :=
  ⟨7, rk_fte4 H0 H 7 0 (-1) (by omega) (by omega) (Or.inl rfl)⟩
/-! which changes are kept -/
theorem rk_kept30 {post : Int32 → Prop} {k R j0 : Nat} (hA : rk_A e C a1 a2 a3 a4 a5 a6 a7 a8) (hW : rk_W e C P) (hC : C ≤ 130) (hP : P ≤ 200) (hR : R < 2 ^ 31) (H : wX_isKept_70 post (nI j0) (rk_en (rk_ls (rk_qa e k R) C)) c o p f nw a1 a2 a3 a4 a5 a6 a7 a8 a9 a10 a11 a12 a13 a14 a15 a16 a17 a18 a19 a20 a21 a22 a23) :
    ∀ (fu m i : Nat), m < fu → m ≤ C → i + m ≤ 139 → rk_ls (rk_qa e k R) C = rk_ls (rk_qa e k R) m → wX_isKept_30 post (nI j0) (nI R) c o p f nw a1 a2 a3 a4 a5 a6 a7 a8 a9 a10 a11 a12 a13 a14 a15 a16 a17 a18 a19 a20 a21 a22 a23 fu (rk_en (rk_ls (rk_qk e k) m)) (nI i) := by
  intro fu
  induction fu with
  | zero =>
    intro m i h
    exact absurd h (by omega)
  | succ fu ih =>
    intro m i hm hmC hi hl
    refine pk_le 140 i (fun z => absurd z (by omega)) (fun _ => ?_)
    cases hk : rk_ls (rk_qk e k) m with
    | none =>
      have h1 : rk_ls (rk_qa e k R) m = none := rk_ls_miss hk
      rw [hl, h1] at H
      exact br_t rfl H
    | some j =>
      obtain ⟨h1, h2, h3⟩ := rk_ls_some hk
      have hv := hW.1 j (by omega)
      rw [rk_en_cl (show j < 2 ^ 31 by omega), (hA.1 j (by omega)).1, hA.2.1 j (by omega)]
      refine br_f (rk_m1 (by omega)) ⟨pk_in j 140 (by omega), pk_le (rk_rv (e j)) R (fun z => ?_) (fun z => ⟨pk_in j 140 (by omega), ?_⟩) rfl rfl (by have := hv.2.1; omega) hR⟩
      · have h4 : rk_ls (rk_qa e k R) m = some j := rk_ls_hit hk (decide_eq_true z)
        rw [hl, h4] at H
        exact H
      · have h4 : rk_ls (rk_qa e k R) m = rk_ls (rk_qa e k R) j := rk_ls_step hk (decide_eq_false (by omega))
        have h5 : rk_ky (e j) = k := of_decide_eq_true h2
        rw [h5]
        exact nm_e (nm_r (nI_1 i) (ih j (i + 1) (by omega) (by omega) (by omega) (hl.trans h4)))
theorem rk_isKept {post : Int32 → Prop} {R j : Nat} (hA : rk_A e C a1 a2 a3 a4 a5 a6 a7 a8) (hW : rk_W e C P) (hC : C ≤ 130) (hP : P ≤ 200) (hR : R < 2 ^ 31) (hj : j < C) (H : post (rk_bI (rk_kp e C R j))) : wpX_isKept post (c, o, p, f, nw, a1, a2, a3, a4, a5, a6, a7, a8, a9, a10, a11, a12, a13, a14, a15, a16, a17, a18, a19, a20, a21, a22, a23) (nI j) (nI R) := by
  unfold wpX_isKept
  dsimp only
  obtain ⟨v1, v2, v3, _⟩ := hW.1 j hj
  obtain ⟨k1, k2, k3, k4, _⟩ := hA.1 j hj
  rw [nI_clamp (show j < 2 ^ 31 by omega), k1, k2]
  refine ⟨pk_in j 140 (by omega), pk_le (rk_rv (e j)) R (fun z => ⟨pk_in j 140 (by omega), nm_e ⟨pk_in (rk_ky (e j)) 16 (by omega), ?_⟩⟩) (fun z => ?_) rfl rfl (by omega) hR⟩
  · rw [nI_clamp (show rk_ky (e j) < 2 ^ 31 by omega), hA.2.2 (rk_ky (e j)) (by omega)]
    refine nm_e ⟨C + 1, rk_kept30 hA hW hC hP hR ?_ (C + 1) C 0 (by omega) (by omega) (by omega) rfl⟩
    unfold rk_kp at H
    rw [decide_eq_false (show ¬ R < rk_rv (e j) by omega), Bool.false_or] at H
    unfold wX_isKept_70
    rw [nI_clamp (show j < 2 ^ 31 by omega), k4]
    cases hl : rk_ls (rk_qa e (rk_ky (e j)) R) C with
    | none =>
      rw [hl] at H
      exact br_f (fun z => rk_m1 (show j < 2 ^ 31 by omega) z.symm) H
    | some i =>
      rw [hl] at H
      have hi := (rk_ls_some hl).1
      refine pk_eq i j (fun z => ?_) (fun z => ?_)
      · rw [z] at H
        rw [decide_eq_true (rfl : some j = some j), Bool.true_and] at H
        exact ⟨pk_in j 140 (by omega), rk_br (fun z => by rw [z] at H; exact H) (fun z => by rw [z] at H; exact H)⟩
      · rw [decide_eq_false (show ¬ some i = some j from fun t => z (Option.some.inj t)), Bool.false_and] at H
        exact H
  · unfold rk_kp at H
    rw [decide_eq_true z, Bool.true_or] at H
    exact H
end
end
section
section
variable {c o p f nw : Int32} {a1 a2 a3 a4 a5 a6 a7 a8 a9 a10 a11 a12 a13 a14 a15 a16 a17 a18 a19 a20 a21 a22 a23 : Nat → Int32} {e : Nat → rk_E} {C P F : Nat}
theorem rk_A_note {k v : Nat} {b : Bool} (hA : rk_A e C a1 a2 a3 a4 a5 a6 a7 a8) (hk : k < 16) : rk_A (rk_ap e C (rk_nw e C P k v b)) (C + 1) (upd a1 C (nI P)) (upd a2 C (nI k)) (upd a3 C (nI v)) (upd a4 C (rk_bI b)) (upd a5 C (nI (rk_nm (rk_cu e k C) P))) (upd a6 C (nI (rk_ns (rk_cu e k C)))) (upd a7 C (rk_en (rk_ls (rk_qk e k) C))) (upd a8 k (nI C)) := by
  obtain ⟨h1, h2, h3⟩ := hA
  refine ⟨fun j hj => ?_, fun j hj => ?_, fun i hi => ?_⟩
  · by_cases z : j = C
    · subst z
      rw [rk_ap_n, pk_us, pk_us, pk_us, pk_us, pk_us, pk_us]
      exact ⟨rfl, rfl, rfl, rfl, rfl, rfl⟩
    · rw [rk_ap_o z, pk_un z, pk_un z, pk_un z, pk_un z, pk_un z, pk_un z]
      exact h1 j (by omega)
  · by_cases z : j = C
    · subst z
      rw [rk_ap_n, pk_us, rk_ap_ls (Nat.le_refl _)]
      rfl
    · rw [rk_ap_o z, pk_un z, rk_ap_ls (show j ≤ C by omega)]
      exact h2 j (by omega)
  · rw [rk_ap_ls1]
    by_cases z : i = k
    · subst z
      rw [pk_us, if_pos (show rk_ky (rk_nw e C P i v b) = i from rfl)]
      rfl
    · rw [pk_un z, if_neg (show ¬ rk_ky (rk_nw e C P k v b) = i from fun t => z t.symm)]
      exact h3 i hi
theorem rk_note63 {post : St1 → Prop} {k v : Nat} (hC : C < 140) (hk : k < 16) (h5 : ∀ j, rk_ls (rk_qk e k) C = some j → a5 j = nI (rk_md (e j)) ∧ a6 j = nI (rk_vs (e j)))
    (H : post (nI (C + 1), o, nI P, f, nw, a1, a2, upd a3 C (nI v), a4, upd a5 C (nI (rk_nm (rk_cu e k C) P)), upd a6 C (nI (rk_ns (rk_cu e k C))), upd a7 C (rk_en (rk_ls (rk_qk e k) C)), upd a8 k (nI C), a9, a10, a11, a12, a13, a14, a15, a16, a17, a18, a19, a20, a21, a22, a23)) :
    wX_note_63 post (nI k) (rk_en (rk_ls (rk_qk e k) C)) (rk_bI (rk_ex e k C)) (nI C) (nI v) (nI C) (nI C) o (nI P) f nw a1 a2 a3 a4 a5 a6 a7 a8 a9 a10 a11 a12 a13 a14 a15 a16 a17 a18 a19 a20 a21 a22 a23 := by
  unfold wX_note_63
  rw [nI_clamp (show C < 2 ^ 31 by omega)]
  refine ⟨pk_in C 140 hC, nm_e (rk_br (fun z => ?_) (fun z => ?_))⟩
  · rw [rk_cu_no z] at H
    unfold wX_note_89
    rw [nI_clamp (show C < 2 ^ 31 by omega)]
    refine ⟨pk_in C 140 hC, nm_e (br_t (by rw [z]; rfl) ?_)⟩
    unfold wX_note_114
    rw [nI_clamp (show C < 2 ^ 31 by omega), nI_clamp (show k < 2 ^ 31 by omega)]
    exact ⟨pk_in C 140 hC, nm_e ⟨pk_in C 140 hC, nm_e ⟨pk_in k 16 hk, nm_e (nm_r (nI_1 C) H)⟩⟩⟩
  · obtain ⟨j, hj, hl, hc, _⟩ := rk_cu_of z
    obtain ⟨g5, g6⟩ := h5 j hl
    rw [hc, hl] at H
    rw [hl, rk_en_cl (show j < 2 ^ 31 by omega), g5]
    refine ⟨pk_in j 140 (by omega), ?_⟩
    unfold wX_note_89
    rw [nI_clamp (show C < 2 ^ 31 by omega), rk_en_cl (show j < 2 ^ 31 by omega), g6, nI_1]
    refine ⟨pk_in C 140 hC, nm_e (br_f (by rw [z]; decide) ⟨pk_in j 140 (by omega), ?_⟩)⟩
    unfold wX_note_114
    rw [nI_clamp (show C < 2 ^ 31 by omega), nI_clamp (show k < 2 ^ 31 by omega)]
    exact ⟨pk_in C 140 hC, nm_e ⟨pk_in C 140 hC, nm_e ⟨pk_in k 16 hk, nm_e (nm_r (nI_1 C) H)⟩⟩⟩
theorem rk_note {post : St1 → Prop} {k v : Nat} {b : Bool} {x : Int32} (hA : rk_A e C a1 a2 a3 a4 a5 a6 a7 a8) (hC : C < 140) (hk : k < 16) (hb0 : b = false → v = 0) (hb1 : b = true → x = nI v)
    (H : ∀ (a1' a2' a3' a4' a5' a6' a7' a8' : Nat → Int32), rk_A (rk_ap e C (rk_nw e C P k v b)) (C + 1) a1' a2' a3' a4' a5' a6' a7' a8' → post (nI (C + 1), o, nI P, f, nw, a1', a2', a3', a4', a5', a6', a7', a8', a9, a10, a11, a12, a13, a14, a15, a16, a17, a18, a19, a20, a21, a22, a23)) :
    wpX_note post (nI C, o, nI P, f, nw, a1, a2, a3, a4, a5, a6, a7, a8, a9, a10, a11, a12, a13, a14, a15, a16, a17, a18, a19, a20, a21, a22, a23) (nI k) (rk_bI b) x := by
  have h5 : ∀ j, rk_ls (rk_qk e k) C = some j → a5 j = nI (rk_md (e j)) ∧ a6 j = nI (rk_vs (e j)) := fun j hj => ⟨(hA.1 j (rk_ls_some hj).1).2.2.2.2.1, (hA.1 j (rk_ls_some hj).1).2.2.2.2.2⟩
  have H' := H _ _ _ _ _ _ _ _ (rk_A_note (P := P) (v := v) (b := b) hA hk)
  unfold wpX_note
  dsimp only
  rw [nI_clamp (show k < 2 ^ 31 by omega), nI_clamp (show C < 2 ^ 31 by omega), rk_bI_nar]
  refine ⟨pk_in k 16 hk, nm_r (hA.2.2 k hk) (rk_exists hA (by omega) hk ⟨pk_in C 140 hC, nm_e ⟨pk_in C 140 hC, nm_e ⟨pk_in C 140 hC, nm_e (rk_br (fun z => ?_) (fun z => ?_))⟩⟩⟩)⟩
  · have hv := hb0 z
    rw [hv] at H'
    exact rk_note63 (v := 0) hC hk h5 H'
  · rw [hb1 z]
    exact rk_note63 hC hk h5 H'
theorem rk_eraseNow {post : St1 → Prop} {k : Nat} (hA : rk_A e C a1 a2 a3 a4 a5 a6 a7 a8) (hC : C < 140) (hk : k < 16)
    (H : ∀ (a1' a2' a3' a4' a5' a6' a7' a8' : Nat → Int32), rk_A (rk_ap e C (rk_nw e C P k 0 false)) (C + 1) a1' a2' a3' a4' a5' a6' a7' a8' → post (nI (C + 1), o, nI P, f, nw, a1', a2', a3', a4', a5', a6', a7', a8', upd a9 k (-1), a10, a11, a12, a13, a14, a15, a16, a17, a18, a19, a20, a21, a22, a23)) :
    wpX_eraseNow post (nI C, o, nI P, f, nw, a1, a2, a3, a4, a5, a6, a7, a8, a9, a10, a11, a12, a13, a14, a15, a16, a17, a18, a19, a20, a21, a22, a23) (nI k) := by
  unfold wpX_eraseNow
  dsimp only
  refine rk_note (b := false) (v := 0) hA hC hk (fun _ => rfl) (fun z => absurd z (by simp)) (fun a1' a2' a3' a4' a5' a6' a7' a8' h => ?_)
  dsimp only
  rw [nI_clamp (show k < 2 ^ 31 by omega)]
  exact ⟨pk_in k 16 hk, nm_e (H _ _ _ _ _ _ _ _ h)⟩
theorem rk_putNow {post : Int32 → St1 → Prop} {k v : Nat} {l : Int32} (hA : rk_A e C a1 a2 a3 a4 a5 a6 a7 a8) (hC : C < 140) (hk : k < 16)
    (H : ∀ (a1' a2' a3' a4' a5' a6' a7' a8' : Nat → Int32), rk_A (rk_ap e C (rk_nw e C (P + 1) k v true)) (C + 1) a1' a2' a3' a4' a5' a6' a7' a8' → post (nI (P + 1)) (nI (C + 1), o, nI (P + 1), f, nw, a1', a2', a3', a4', a5', a6', a7', a8', upd a9 k l, a10, a11, a12, a13, a14, a15, a16, a17, a18, a19, a20, a21, a22, a23)) :
    wpX_putNow post (nI C, o, nI P, f, nw, a1, a2, a3, a4, a5, a6, a7, a8, a9, a10, a11, a12, a13, a14, a15, a16, a17, a18, a19, a20, a21, a22, a23) (nI k) (nI v) l := by
  unfold wpX_putNow
  dsimp only
  refine nm_r (nI_1 P) (rk_note (b := true) (v := v) hA hC hk (fun z => absurd z (by simp)) (fun _ => rfl) (fun a1' a2' a3' a4' a5' a6' a7' a8' h => ?_))
  dsimp only
  rw [nI_clamp (show k < 2 ^ 31 by omega)]
  exact ⟨pk_in k 16 hk, nm_e (H _ _ _ _ _ _ _ _ h)⟩
end
end
section
def rk_L (e : Nat → rk_E) (C : Nat) (a9 : Nat → Int32) : Prop := ∀ k, k < 16 → a9 k = -1 ∨ rk_ex e k C = true
def rk_T (pl : Nat) (a14 a15 a16 a17 a18 a19 : Nat → Int32) : Prop := rk_W0 a14 a15 a16 a17 a18 ∧ a19 0 = nI pl ∧ ∀ w, w < 4 → ∃ m, m ≤ 140 ∧ a19 w = nI m
def rk_D (D : Nat → Nat) (e : Nat → rk_E) (pl : Nat) : Prop := ∀ k, k < 8 → rk_ow (rk_cu e k pl) = D k
def rk_H (D : Nat → Nat) (e : Nat → rk_E) (C P F O pl : Nat) (a1 a2 a3 a4 a5 a6 a7 a8 a9 a14 a15 a16 a17 a18 a19 : Nat → Int32) : Prop := (F ≤ P ∧ O ≤ pl ∧ pl ≤ C) ∧ rk_A e C a1 a2 a3 a4 a5 a6 a7 a8 ∧ rk_W e C P ∧ rk_L e C a9 ∧ rk_T pl a14 a15 a16 a17 a18 a19 ∧ rk_D D e pl
def rk_J (D : Nat → Nat) (e : Nat → rk_E) (C P F O pl B : Nat) (a1 a2 a3 a4 a5 a6 a7 a8 a9 a14 a15 a16 a17 a18 a19 : Nat → Int32) : Prop := (C + rk_X e C ≤ B ∧ P + rk_X e C ≤ B) ∧ rk_H D e C P F O pl a1 a2 a3 a4 a5 a6 a7 a8 a9 a14 a15 a16 a17 a18 a19
/-- the state between two calls -/
def rk_I (D : Nat → Nat) (B : Nat) (u : St1) : Prop := ∃ (e : Nat → rk_E) (C P F O pl : Nat) (nw : Int32) (a1 a2 a3 a4 a5 a6 a7 a8 a9 a10 a11 a12 a13 a14 a15 a16 a17 a18 a19 a20 a21 a22 a23 : Nat → Int32), u = (nI C, nI O, nI P, nI F, nw, a1, a2, a3, a4, a5, a6, a7, a8, a9, a10, a11, a12, a13, a14, a15, a16, a17, a18, a19, a20, a21, a22, a23) ∧ rk_J D e C P F O pl B a1 a2 a3 a4 a5 a6 a7 a8 a9 a14 a15 a16 a17 a18 a19
def rk_G (D : Nat → Nat) (e : Nat → rk_E) (C P F O pl B i : Nat) (a1 a2 a3 a4 a5 a6 a7 a8 a9 a14 a15 a16 a17 a18 a19 : Nat → Int32) : Prop := (C + rk_X e C ≤ B ∧ P + rk_X e C ≤ B + 1 ∧ 1 ≤ P) ∧ (∀ j, j < C → rk_rv (e j) < P ∨ (rk_rv (e j) = P ∧ rk_ky (e j) < i)) ∧ rk_H D e C P F O pl a1 a2 a3 a4 a5 a6 a7 a8 a9 a14 a15 a16 a17 a18 a19
section
variable {c o p f nw : Int32} {a1 a2 a3 a4 a5 a6 a7 a8 a9 a10 a11 a12 a13 a14 a15 a16 a17 a18 a19 a20 a21 a22 a23 : Nat → Int32} {D : Nat → Nat} {e : Nat → rk_E} {C P F O pl B : Nat}
theorem rk_I_mk (h : rk_J D e C P F O pl B a1 a2 a3 a4 a5 a6 a7 a8 a9 a14 a15 a16 a17 a18 a19) : rk_I D B (nI C, nI O, nI P, nI F, nw, a1, a2, a3, a4, a5, a6, a7, a8, a9, a10, a11, a12, a13, a14, a15, a16, a17, a18, a19, a20, a21, a22, a23) :=
  ⟨e, C, P, F, O, pl, nw, a1, a2, a3, a4, a5, a6, a7, a8, a9, a10, a11, a12, a13, a14, a15, a16, a17, a18, a19, a20, a21, a22, a23, rfl, h⟩
theorem rk_I_le {B' : Nat} {u : St1} (h : rk_I D B u) (hB : B ≤ B') : rk_I D B' u := by
  obtain ⟨e, C, P, F, O, pl, nw, a1, a2, a3, a4, a5, a6, a7, a8, a9, a10, a11, a12, a13, a14, a15, a16, a17, a18, a19, a20, a21, a22, a23, hu, hb, hH⟩ := h
  exact ⟨e, C, P, F, O, pl, nw, a1, a2, a3, a4, a5, a6, a7, a8, a9, a10, a11, a12, a13, a14, a15, a16, a17, a18, a19, a20, a21, a22, a23, hu, ⟨by omega, by omega⟩, hH⟩
theorem rk_J_put {k v : Nat} {l : Int32} {a1' a2' a3' a4' a5' a6' a7' a8' : Nat → Int32} (h : rk_J D e C P F O pl B a1 a2 a3 a4 a5 a6 a7 a8 a9 a14 a15 a16 a17 a18 a19) (hk : k ≤ 7) (hv : v ≤ 15) (hA' : rk_A (rk_ap e C (rk_nw e C (P + 1) k v true)) (C + 1) a1' a2' a3' a4' a5' a6' a7' a8') :
    rk_J D (rk_ap e C (rk_nw e C (P + 1) k v true)) (C + 1) (P + 1) F O pl (B + 2) a1' a2' a3' a4' a5' a6' a7' a8' (upd a9 k l) a14 a15 a16 a17 a18 a19 := by
  obtain ⟨⟨b1, b2⟩, ⟨f1, f2, f3⟩, hA, hW, hL, hT, hD⟩ := h
  have hX := rk_X_put (e := e) (C := C) (x := rk_nw e C (P + 1) k v true)
  refine ⟨⟨by omega, by omega⟩, ⟨by omega, f2, by omega⟩, hA', rk_ap_W hW (by omega) (rk_nw_V hW hk hv) (fun j hj => Or.inl ?_), fun i hi => ?_, hT, fun i hi => ?_⟩
  · show rk_rv (e j) < P + 1
    have := (hW.1 j hj).2.1
    omega
  · rw [rk_ap_ex]
    by_cases z : i = k
    · rw [if_pos (show rk_ky (rk_nw e C (P + 1) k v true) = i from z.symm)]
      exact Or.inr rfl
    · rw [if_neg (show ¬ rk_ky (rk_nw e C (P + 1) k v true) = i from fun t => z t.symm), pk_un z]
      exact hL i hi
  · rw [rk_ap_cu f3]
    exact hD i hi
theorem rk_G_0 (h : rk_J D e C P F O pl B a1 a2 a3 a4 a5 a6 a7 a8 a9 a14 a15 a16 a17 a18 a19) : rk_G D e C (P + 1) F O pl B 0 a1 a2 a3 a4 a5 a6 a7 a8 a9 a14 a15 a16 a17 a18 a19 := by
  obtain ⟨⟨b1, b2⟩, ⟨f1, f2, f3⟩, hA, hW, hL, hT, hD⟩ := h
  refine ⟨⟨b1, by omega, by omega⟩, fun j hj => Or.inl ?_, ⟨by omega, f2, f3⟩, hA, ⟨fun j hj => ?_, hW.2⟩, hL, hT, hD⟩
  · have := (hW.1 j hj).2.1
    omega
  · obtain ⟨h1, h2, h3⟩ := hW.1 j hj
    exact ⟨h1, by omega, h3⟩
theorem rk_G_up {i i' : Nat} (h : rk_G D e C P F O pl B i a1 a2 a3 a4 a5 a6 a7 a8 a9 a14 a15 a16 a17 a18 a19) (hi : i ≤ i') : rk_G D e C P F O pl B i' a1 a2 a3 a4 a5 a6 a7 a8 a9 a14 a15 a16 a17 a18 a19 :=
  ⟨h.1, fun j hj => by rcases h.2.1 j hj with g | g; exact Or.inl g; exact Or.inr ⟨g.1, by omega⟩, h.2.2⟩
theorem rk_G_J {i : Nat} (h : rk_G D e C P F O pl B i a1 a2 a3 a4 a5 a6 a7 a8 a9 a14 a15 a16 a17 a18 a19) (hb : P + rk_X e C ≤ B) : rk_J D e C P F O pl B a1 a2 a3 a4 a5 a6 a7 a8 a9 a14 a15 a16 a17 a18 a19 :=
  ⟨⟨h.1.1, hb⟩, h.2.2⟩
theorem rk_G_er {i : Nat} {a1' a2' a3' a4' a5' a6' a7' a8' : Nat → Int32} (h : rk_G D e C P F O pl B i a1 a2 a3 a4 a5 a6 a7 a8 a9 a14 a15 a16 a17 a18 a19) (hx : rk_ex e i C = true) (hA' : rk_A (rk_ap e C (rk_nw e C P i 0 false)) (C + 1) a1' a2' a3' a4' a5' a6' a7' a8') :
    rk_G D (rk_ap e C (rk_nw e C P i 0 false)) (C + 1) P F O pl B (i + 1) a1' a2' a3' a4' a5' a6' a7' a8' (upd a9 i (-1)) a14 a15 a16 a17 a18 a19 ∧ P + rk_X (rk_ap e C (rk_nw e C P i 0 false)) (C + 1) ≤ B := by
  obtain ⟨⟨b1, b2, b3⟩, hl, ⟨f1, f2, f3⟩, hA, hW, hL, hT, hD⟩ := h
  obtain ⟨j0, g1, _, _, _, g5⟩ := rk_cu_of hx
  have hi : i ≤ 7 := by
    have := (hW.1 j0 g1).2.2.1
    omega
  have hX := rk_X_del (e := e) (C := C) (x := rk_nw e C P i 0 false) (show i < 16 by omega) hx rfl
  refine ⟨⟨⟨by omega, by omega, b3⟩, fun j hj => ?_, ⟨f1, f2, by omega⟩, hA', rk_ap_W hW (Nat.le_refl P) (rk_nw_V0 b3 hi) (fun j hj => hl j hj), fun k hk => ?_, hT, fun k hk => ?_⟩, by omega⟩
  · by_cases z : j = C
    · rw [z, rk_ap_n]
      exact Or.inr ⟨rfl, show i < i + 1 by omega⟩
    · rw [rk_ap_o z]
      rcases hl j (by omega) with g | g
      · exact Or.inl g
      · exact Or.inr ⟨g.1, by omega⟩
  · by_cases z : k = i
    · rw [z, pk_us]
      exact Or.inl rfl
    · rw [rk_ap_ex, if_neg (show ¬ rk_ky (rk_nw e C P i 0 false) = k from fun t => z t.symm), pk_un z]
      exact hL k hk
  · rw [rk_ap_cu f3]
    exact hD k hk
theorem rk_T_up {w : Nat} {x14 x15 x16 x17 x18 : Int32} {m : Nat} (h : rk_T pl a14 a15 a16 a17 a18 a19) (hw : w ≠ 0) (hm : m ≤ 140) : rk_T pl (upd a14 w x14) (upd a15 w x15) (upd a16 w x16) (upd a17 w x17) (upd a18 w x18) (upd a19 w (nI m)) := by
  obtain ⟨⟨h1, h2, h3, h4, h5⟩, h6, h7⟩ := h
  have hw' : 0 ≠ w := fun z => hw z.symm
  refine ⟨⟨by rw [pk_un hw']; exact h1, by rw [pk_un hw']; exact h2, by rw [pk_un hw']; exact h3, by rw [pk_un hw']; exact h4, by rw [pk_un hw']; exact h5⟩, by rw [pk_un hw']; exact h6, fun v hv => ?_⟩
  by_cases z : v = w
  · rw [z, pk_us]
    exact ⟨m, hm, rfl⟩
  · rw [pk_un z]
    exact h7 v hv
theorem rk_T_14 {w : Nat} {x14 : Int32} (h : rk_T pl a14 a15 a16 a17 a18 a19) (hw : w ≠ 0) : rk_T pl (upd a14 w x14) a15 a16 a17 a18 a19 := by
  obtain ⟨⟨h1, h2⟩, h6, h7⟩ := h
  exact ⟨⟨by rw [pk_un (fun z => hw z.symm)]; exact h1, h2⟩, h6, h7⟩
theorem rk_T_19 {w m : Nat} (h : rk_T pl a14 a15 a16 a17 a18 a19) (hw : w ≠ 0) (hm : m ≤ 140) : rk_T pl a14 a15 a16 a17 a18 (upd a19 w (nI m)) := by
  obtain ⟨h1, h6, h7⟩ := h
  refine ⟨h1, by rw [pk_un (fun z => hw z.symm)]; exact h6, fun v hv => ?_⟩
  by_cases z : v = w
  · rw [z, pk_us]
    exact ⟨m, hm, rfl⟩
  · rw [pk_un z]
    exact h7 v hv
theorem rk_J_T {b14 b15 b16 b17 b18 b19 : Nat → Int32} (h : rk_J D e C P F O pl B a1 a2 a3 a4 a5 a6 a7 a8 a9 a14 a15 a16 a17 a18 a19) (hT : rk_T pl b14 b15 b16 b17 b18 b19) : rk_J D e C P F O pl B a1 a2 a3 a4 a5 a6 a7 a8 a9 b14 b15 b16 b17 b18 b19 :=
  ⟨h.1, h.2.1, h.2.2.1, h.2.2.2.1, h.2.2.2.2.1, hT, h.2.2.2.2.2.2⟩
end
end
section
section
variable {c o p f nw : Int32} {a1 a2 a3 a4 a5 a6 a7 a8 a9 a10 a11 a12 a13 a14 a15 a16 a17 a18 a19 a20 a21 a22 a23 : Nat → Int32} {D : Nat → Nat} {e : Nat → rk_E} {C P F O pl B : Nat}
/-! put and swap -/
theorem rk_put41 {post : Int32 → St1 → Prop} {k v : Nat} {l : Int32} (h : rk_J D e C P F O pl B a1 a2 a3 a4 a5 a6 a7 a8 a9 a14 a15 a16 a17 a18 a19) (hB : B + 2 ≤ 130) (hk : k ≤ 7) (hv : v ≤ 15) (H : ∀ r u', rk_I D (B + 2) u' → post r u') : wX_put_41 post (nI k) (nI v) l (nI C) (nI O) (nI P) (nI F) nw a1 a2 a3 a4 a5 a6 a7 a8 a9 a10 a11 a12 a13 a14 a15 a16 a17 a18 a19 a20 a21 a22 a23 := by
  have hb := h.1.1
  unfold wX_put_41 wpX_rememberedNow
  dsimp only
  exact br_c (fun _ => rk_putNow h.2.2.1 (by omega) (by omega) (fun a1' a2' a3' a4' a5' a6' a7' a8' hA' => H _ _ (rk_I_mk (rk_J_put h hk hv hA')))) (fun _ => H _ _ (rk_I_le (rk_I_mk h) (by omega)))
theorem rk_put24 {post : Int32 → St1 → Prop} {k v : Nat} {l : Int32} (h : rk_J D e C P F O pl B a1 a2 a3 a4 a5 a6 a7 a8 a9 a14 a15 a16 a17 a18 a19) (hB : B + 2 ≤ 130) (hk : k ≤ 7) (hv : v ≤ 15) (hl : l = -1 ∨ ∃ j, j < 6 ∧ l = nI j) (H : ∀ r u', rk_I D (B + 2) u' → post r u') : wX_put_24 post (nI k) (nI v) l (nI C) (nI O) (nI P) (nI F) nw a1 a2 a3 a4 a5 a6 a7 a8 a9 a10 a11 a12 a13 a14 a15 a16 a17 a18 a19 a20 a21 a22 a23 := by
  unfold wX_put_24
  refine br_c (fun _ => rk_put41 h hB hk hv H) (fun z => ⟨?_, br_c (fun _ => H _ _ (rk_I_le (rk_I_mk h) (by omega))) (fun _ => rk_put41 h hB hk hv H)⟩)
  rcases hl with hl | ⟨j, hj, hl⟩
  · exact absurd hl z
  · rw [hl]
    exact pk_in j 6 hj
theorem rk_put {post : Int32 → St1 → Prop} {u : St1} {k v : Nat} {l : Int32} (h : rk_I D B u) (hB : B + 2 ≤ 130) (hk : k ≤ 7) (hv : v ≤ 15) (hl : l = -1 ∨ ∃ j, j < 6 ∧ l = nI j) (H : ∀ r u', rk_I D (B + 2) u' → post r u') : wpX_put post u (nI k) (nI v) l := by
  obtain ⟨e, C, P, F, O, pl, nw, a1, a2, a3, a4, a5, a6, a7, a8, a9, a10, a11, a12, a13, a14, a15, a16, a17, a18, a19, a20, a21, a22, a23, rfl, h⟩ := h
  unfold wpX_put
  dsimp only
  refine rk_bk (by omega) (br_t rfl (br_c (fun _ => rk_put24 h hB hk hv hl H) (fun z => ?_)))
  rcases hl with hl | ⟨j, hj, hl⟩
  · exact absurd hl z
  · rw [hl]
    exact rk_bl hj (br_t rfl (rk_put24 h hB hk hv (Or.inr ⟨j, hj, rfl⟩) H))
theorem rk_swap80 {post : Int32 → St1 → Prop} {k v : Nat} {l : Int32} (h : rk_J D e C P F O pl B a1 a2 a3 a4 a5 a6 a7 a8 a9 a14 a15 a16 a17 a18 a19) (hB : B + 2 ≤ 130) (hk : k ≤ 7) (hv : v ≤ 15) (H : ∀ r u', rk_I D (B + 2) u' → post r u') : wX_swap_80 post l (nI v) (nI k) (nI C) (nI O) (nI P) (nI F) nw a1 a2 a3 a4 a5 a6 a7 a8 a9 a10 a11 a12 a13 a14 a15 a16 a17 a18 a19 a20 a21 a22 a23 := by
  have hb := h.1.1
  unfold wX_swap_80
  exact rk_putNow h.2.2.1 (by omega) (by omega) (fun a1' a2' a3' a4' a5' a6' a7' a8' hA' => H _ _ (rk_I_mk (rk_J_put h hk hv hA')))
theorem rk_swap34 {post : Int32 → St1 → Prop} {k v : Nat} {r z0 : Int32} (h : rk_J D e C P F O pl B a1 a2 a3 a4 a5 a6 a7 a8 a9 a14 a15 a16 a17 a18 a19) (hB : B + 2 ≤ 130) (hk : k ≤ 7) (hv : v ≤ 15) (H : ∀ r u', rk_I D (B + 2) u' → post r u') : wX_swap_34 post (nI k) r (nI v) z0 (nI C) (nI O) (nI P) (nI F) nw a1 a2 a3 a4 a5 a6 a7 a8 a9 a10 a11 a12 a13 a14 a15 a16 a17 a18 a19 a20 a21 a22 a23 := by
  have hb := h.1.1
  unfold wX_swap_34 wpX_rememberedNow
  dsimp only
  exact br_c (fun _ => br_c (fun _ => rk_exists h.2.2.1 (by omega) (by omega) (rk_br (fun _ => rk_swap80 h hB hk hv H) (fun _ => ⟨pk_in k 16 (by omega), rk_swap80 h hB hk hv H⟩))) (fun _ => H _ _ (rk_I_le (rk_I_mk h) (by omega)))) (fun _ => H _ _ (rk_I_le (rk_I_mk h) (by omega)))
theorem rk_swap {post : Int32 → St1 → Prop} {u : St1} {k v : Nat} {r : Int32} (h : rk_I D B u) (hB : B + 2 ≤ 130) (hk : k ≤ 7) (hv : v ≤ 15) (H : ∀ r u', rk_I D (B + 2) u' → post r u') : wpX_swap post u (nI k) r (nI v) := by
  obtain ⟨e, C, P, F, O, pl, nw, a1, a2, a3, a4, a5, a6, a7, a8, a9, a10, a11, a12, a13, a14, a15, a16, a17, a18, a19, a20, a21, a22, a23, rfl, h⟩ := h
  have hb := h.1.1
  unfold wpX_swap
  dsimp only
  refine rk_bk (by omega) (br_t rfl (rk_exists h.2.2.1 (by omega) (by omega) (rk_br (fun _ => rk_swap34 h hB hk hv H) (fun z => ?_))))
  obtain ⟨j, hj, hl, _⟩ := rk_cu_of z
  refine ⟨pk_in k 16 (by omega), ?_, rk_swap34 h hB hk hv H⟩
  rw [nI_clamp (show k < 2 ^ 31 by omega), h.2.2.1.2.2 k (by omega), hl]
  exact pk_in j 140 (by omega)
/-! erase -/
theorem rk_er87 {post : Int32 → St1 → Prop} {b : Nat} {x3 : Int32} (hb : b ≤ 15) (hB : B ≤ 130) (H : ∀ u', rk_I D B u' → post x3 u') :
    ∀ (fu i : Nat) (e : Nat → rk_E) (C : Nat) (a1 a2 a3 a4 a5 a6 a7 a8 a9 : Nat → Int32), b + 1 - i < fu → i ≤ b + 1 → rk_G D e C P F O pl B i a1 a2 a3 a4 a5 a6 a7 a8 a9 a14 a15 a16 a17 a18 a19 → (P + rk_X e C ≤ B ∨ ∃ k, i ≤ k ∧ k ≤ b ∧ rk_ex e k C = true) → wX_erase_87 post (nI b) x3 fu (nI i) (nI C) (nI O) (nI P) (nI F) nw a1 a2 a3 a4 a5 a6 a7 a8 a9 a10 a11 a12 a13 a14 a15 a16 a17 a18 a19 a20 a21 a22 a23 := by
  intro fu
  induction fu with
  | zero =>
    intro i e C a1 a2 a3 a4 a5 a6 a7 a8 a9 h
    exact absurd h (by omega)
  | succ fu ih =>
    intro i e C a1 a2 a3 a4 a5 a6 a7 a8 a9 hf hi hG hx
    have hc := hG.1.1
    refine pk_lt b i (fun z => H _ (rk_I_mk (rk_G_J hG ?_))) (fun z => rk_exists hG.2.2.2.1 (by omega) (by omega) (rk_br (fun z' => nm_r (nI_1 i) (ih _ _ _ _ _ _ _ _ _ _ _ _ (by omega) (by omega) (rk_G_up hG (by omega)) ?_)) (fun z' => rk_eraseNow hG.2.2.2.1 (by omega) (by omega) (fun a1' a2' a3' a4' a5' a6' a7' a8' hA' => ?_))))
    · rcases hx with hx | ⟨k, h1, h2, _⟩
      · exact hx
      · exact absurd h1 (by omega)
    · rcases hx with hx | ⟨k, h1, h2, h3⟩
      · exact Or.inl hx
      · refine Or.inr ⟨k, ?_, h2, h3⟩
        by_cases t : k = i
        · rw [t, z'] at h3
          exact absurd h3 (by simp)
        · omega
    · obtain ⟨g1, g2⟩ := rk_G_er hG z' hA'
      exact nm_r (nI_1 i) (ih _ _ _ _ _ _ _ _ _ _ _ _ (by omega) (by omega) g1 (Or.inl g2))
theorem rk_er24 {post : Int32 → St1 → Prop} {a b : Nat} (h : rk_J D e C P F O pl B a1 a2 a3 a4 a5 a6 a7 a8 a9 a14 a15 a16 a17 a18 a19) (hB : B ≤ 130) (hb : b ≤ 15) (H : ∀ r u', rk_I D B u' → post r u') :
    ∀ (fu i m : Nat), b + 1 - i < fu → a ≤ i → i ≤ b + 1 → m ≤ i → (m = 0 ∨ ∃ k, a ≤ k ∧ k ≤ b ∧ rk_ex e k C = true) → wX_erase_24 post (nI a) (nI b) (nI C) (nI O) (nI P) (nI F) nw a1 a2 a3 a4 a5 a6 a7 a8 a9 a10 a11 a12 a13 a14 a15 a16 a17 a18 a19 a20 a21 a22 a23 fu (nI m) (nI i) := by
  have hc := h.1.1
  intro fu
  induction fu with
  | zero =>
    intro i m hf
    exact absurd hf (by omega)
  | succ fu ih =>
    intro i m hf ha hi hm hx
    refine pk_lt b i (fun z => pk_eq m 0 (fun _ => H _ _ (rk_I_mk h)) (fun z' => ?_)) (fun z => rk_exists h.2.2.1 (by omega) (by omega) (rk_br (fun z' => nm_r (nI_1 i) (ih _ _ (by omega) (by omega) (by omega) (by omega) hx)) (fun z' => nm_r (nI_1 m) (nm_r (nI_1 i) (ih _ _ (by omega) (by omega) (by omega) (by omega) (Or.inr ⟨i, ha, by omega, z'⟩))))))
    unfold wpX_rememberedNow
    dsimp only
    refine br_c (fun _ => nm_r (nI_1 P) ⟨b + 2, rk_er87 hb hB (H _) (b + 2) a e C a1 a2 a3 a4 a5 a6 a7 a8 a9 (by omega) (by omega) (rk_G_up (rk_G_0 h) (by omega)) (Or.inr ?_)⟩) (fun _ => H _ _ (rk_I_mk h))
    rcases hx with hx | hx
    · exact absurd hx z'
    · exact hx
theorem rk_erase {post : Int32 → St1 → Prop} {u : St1} {a b : Nat} (h : rk_I D B u) (hB : B ≤ 130) (ha : a ≤ b) (hb : b ≤ 15) (H : ∀ r u', rk_I D B u' → post r u') : wpX_erase post u (nI a) (nI b) := by
  obtain ⟨e, C, P, F, O, pl, nw, a1, a2, a3, a4, a5, a6, a7, a8, a9, a10, a11, a12, a13, a14, a15, a16, a17, a18, a19, a20, a21, a22, a23, rfl, h⟩ := h
  unfold wpX_erase
  dsimp only
  exact rk_bk (by omega) (br_t rfl (rk_bk (by omega) (br_t rfl ⟨b + 2, rk_er24 h hB hb H (b + 2) a 0 (by omega) (by omega) (by omega) (by omega) (Or.inl rfl)⟩)))
/-! leases -/
theorem rk_el29 {post : Int32 → St1 → Prop} {l : Nat} {x2 : Int32} (hl : l < 6) (hB : B ≤ 130) (H : ∀ u', rk_I D B u' → post x2 u') :
    ∀ (fu i : Nat) (e : Nat → rk_E) (C : Nat) (a1 a2 a3 a4 a5 a6 a7 a8 a9 : Nat → Int32), 16 - i < fu → i ≤ 16 → rk_G D e C P F O pl B i a1 a2 a3 a4 a5 a6 a7 a8 a9 a14 a15 a16 a17 a18 a19 → (P + rk_X e C ≤ B ∨ ∃ k, i ≤ k ∧ k < 16 ∧ a9 k = nI l) → wX_endLease_29 post (nI l) x2 fu (nI i) (nI C) (nI O) (nI P) (nI F) nw a1 a2 a3 a4 a5 a6 a7 a8 a9 a10 a11 a12 a13 a14 a15 a16 a17 a18 a19 a20 a21 a22 a23 := by
  intro fu
  induction fu with
  | zero =>
    intro i e C a1 a2 a3 a4 a5 a6 a7 a8 a9 h
    exact absurd h (by omega)
  | succ fu ih =>
    intro i e C a1 a2 a3 a4 a5 a6 a7 a8 a9 hf hi hG hx
    have hc := hG.1.1
    refine pk_le 16 i (fun z => H _ (rk_I_mk (rk_G_J hG ?_))) (fun z => ⟨pk_in i 16 z, ?_⟩)
    · rcases hx with hx | ⟨k, h1, h2, _⟩
      · exact hx
      · exact absurd h1 (by omega)
    · rw [nI_clamp (show i < 2 ^ 31 by omega)]
      refine br_c (fun z' => rk_eraseNow hG.2.2.2.1 (by omega) (by omega) (fun a1' a2' a3' a4' a5' a6' a7' a8' hA' => ?_)) (fun z' => nm_r (nI_1 i) (ih _ _ _ _ _ _ _ _ _ _ _ _ (by omega) (by omega) (rk_G_up hG (by omega)) ?_))
      · have hxi : rk_ex e i C = true := by
          rcases hG.2.2.2.2.2.1 i z with g | g
          · rw [z'] at g
            exact absurd g (rk_m1 (by omega))
          · exact g
        obtain ⟨g1, g2⟩ := rk_G_er hG hxi hA'
        exact nm_r (nI_1 i) (ih _ _ _ _ _ _ _ _ _ _ _ _ (by omega) (by omega) g1 (Or.inl g2))
      · rcases hx with hx | ⟨k, h1, h2, h3⟩
        · exact Or.inl hx
        · refine Or.inr ⟨k, ?_, h2, h3⟩
          by_cases t : k = i
          · rw [t] at h3
            exact absurd h3 z'
          · omega
theorem rk_endLease {post : Int32 → St1 → Prop} {u : St1} {l : Nat} (h : rk_I D B u) (hB : B ≤ 130) (hl : l < 6) (H : ∀ r u', rk_I D B u' → post r u') : wpX_endLease post u (nI l) := by
  obtain ⟨e, C, P, F, O, pl, nw, a1, a2, a3, a4, a5, a6, a7, a8, a9, a10, a11, a12, a13, a14, a15, a16, a17, a18, a19, a20, a21, a22, a23, rfl, h⟩ := h
  unfold wpX_endLease
  dsimp only
  refine rk_keysUnder ⟨pk_in l 6 hl, nm_e (pk_le (rk_ct (rk_q9 a9 (nI l)) 16) 0 (fun _ => H _ _ (rk_I_mk h)) (fun z => nm_r (nI_1 P) ⟨17, rk_el29 hl hB (H _) 17 0 e C a1 a2 a3 a4 a5 a6 a7 a8 a9 (by omega) (by omega) (rk_G_0 h) (Or.inr ?_)⟩) rfl rfl (by have := rk_ct_le (rk_q9 a9 (nI l)) 16; omega))⟩
  obtain ⟨k, h1, h2, _⟩ := rk_ct_sur z
  exact ⟨k, by omega, h1, of_decide_eq_true h2⟩
theorem rk_revoke {post : Int32 → St1 → Prop} {u : St1} {l : Nat} (h : rk_I D B u) (hB : B ≤ 130) (hl : l < 6) (H : ∀ r u', rk_I D B u' → post r u') : wpX_revoke post u (nI l) := by
  obtain ⟨e, C, P, F, O, pl, nw, a1, a2, a3, a4, a5, a6, a7, a8, a9, a10, a11, a12, a13, a14, a15, a16, a17, a18, a19, a20, a21, a22, a23, rfl, h⟩ := h
  unfold wpX_revoke
  dsimp only
  exact rk_bl hl (br_t rfl ⟨pk_in l 6 hl, br_c (fun _ => H _ _ (rk_I_mk h)) (fun _ => rk_endLease (rk_I_mk h) hB hl (fun r u' h' => H r u' h'))⟩)
theorem rk_adv33 {post : Int32 → St1 → Prop} (hB : B ≤ 130) (H : ∀ r u', rk_I D B u' → post r u') :
    ∀ (fu i : Nat) (x2 x3 : Int32) (c o p f nw : Int32) (a1 a2 a3 a4 a5 a6 a7 a8 a9 a10 a11 a12 a13 a14 a15 a16 a17 a18 a19 a20 a21 a22 a23 : Nat → Int32), 6 - i < fu → rk_I D B (c, o, p, f, nw, a1, a2, a3, a4, a5, a6, a7, a8, a9, a10, a11, a12, a13, a14, a15, a16, a17, a18, a19, a20, a21, a22, a23) → i ≤ 6 → (x3 = -1 ∨ ∃ l, l < 6 ∧ x3 = nI l) → wX_advance_33 post fu x2 x3 (nI i) c o p f nw a1 a2 a3 a4 a5 a6 a7 a8 a9 a10 a11 a12 a13 a14 a15 a16 a17 a18 a19 a20 a21 a22 a23 := by
  intro fu
  induction fu with
  | zero =>
    intro i x2 x3 c o p f nw a1 a2 a3 a4 a5 a6 a7 a8 a9 a10 a11 a12 a13 a14 a15 a16 a17 a18 a19 a20 a21 a22 a23 hf
    exact absurd hf (by omega)
  | succ fu ih =>
    intro i x2 x3 c o p f nw a1 a2 a3 a4 a5 a6 a7 a8 a9 a10 a11 a12 a13 a14 a15 a16 a17 a18 a19 a20 a21 a22 a23 hf hI hi hx
    refine pk_le 6 i (fun _ => H _ _ hI) (fun z => br_c (fun _ => H _ _ hI) (fun z' => ?_))
    rcases hx with hx | ⟨l, hl, hx⟩
    · exact absurd hx z'
    · rw [hx]
      refine ⟨pk_in l 6 hl, br_c (fun _ => H _ _ hI) (fun _ => rk_endLease hI hB hl (fun r u' hI' => ?_))⟩
      obtain ⟨c', o', p', f', nw', a1', a2', a3', a4', a5', a6', a7', a8', a9', a10', a11', a12', a13', a14', a15', a16', a17', a18', a19', a20', a21', a22', a23'⟩ := u'
      dsimp only
      exact nm_e (rk_firstToEnd (nm_r (nI_1 i) (ih _ _ _ _ _ _ _ _ _ _ _ _ _ _ _ _ _ _ _ _ _ _ _ _ _ _ _ _ _ _ _ (by omega) hI' (by omega) (Or.inl rfl))) (fun j hj => nm_r (nI_1 i) (ih _ _ _ _ _ _ _ _ _ _ _ _ _ _ _ _ _ _ _ _ _ _ _ _ _ _ _ _ _ _ _ (by omega) hI' (by omega) (Or.inr ⟨j, hj, rfl⟩))))
theorem rk_advance {post : Int32 → St1 → Prop} {u : St1} {x : Int32} (h : rk_I D B u) (hB : B ≤ 130) (H : ∀ r u', rk_I D B u' → post r u') : wpX_advance post u x := by
  obtain ⟨e, C, P, F, O, pl, nw, a1, a2, a3, a4, a5, a6, a7, a8, a9, a10, a11, a12, a13, a14, a15, a16, a17, a18, a19, a20, a21, a22, a23, rfl, h⟩ := h
  unfold wpX_advance
  dsimp only
  exact br_c (fun _ => H _ _ (rk_I_mk h)) (fun _ => br_c (fun _ => nm_e (rk_firstToEnd ⟨7, rk_adv33 hB H 7 0 _ _ _ _ _ _ _ _ _ _ _ _ _ _ _ _ _ _ _ _ _ _ _ _ _ _ _ _ _ _ (by omega) (rk_I_mk h) (by omega) (Or.inl rfl)⟩ (fun j hj => ⟨7, rk_adv33 hB H 7 0 _ _ _ _ _ _ _ _ _ _ _ _ _ _ _ _ _ _ _ _ _ _ _ _ _ _ _ _ _ _ (by omega) (rk_I_mk h) (by omega) (Or.inr ⟨j, hj, rfl⟩)⟩))) (fun _ => H _ _ (rk_I_mk h)))
theorem rk_grant {post : Int32 → St1 → Prop} {u : St1} {l : Nat} {x : Int32} (h : rk_I D B u) (hl : l < 6) (H : ∀ r u', rk_I D B u' → post r u') : wpX_grant post u (nI l) x := by
  obtain ⟨e, C, P, F, O, pl, nw, a1, a2, a3, a4, a5, a6, a7, a8, a9, a10, a11, a12, a13, a14, a15, a16, a17, a18, a19, a20, a21, a22, a23, rfl, h⟩ := h
  unfold wpX_grant
  dsimp only
  exact rk_bl hl (br_t rfl (br_c (fun _ => H _ _ (rk_I_mk h)) (fun _ => br_c (fun _ => ⟨pk_in l 6 hl, br_c (fun _ => ⟨pk_in l 6 hl, nm_e ⟨pk_in l 6 hl, nm_e ⟨pk_in l 6 hl, nm_e ⟨pk_in l 6 hl, H _ _ (rk_I_mk h)⟩⟩⟩⟩) (fun _ => H _ _ (rk_I_mk h))⟩) (fun _ => H _ _ (rk_I_mk h)))))
theorem rk_renew {post : Int32 → St1 → Prop} {u : St1} {l : Nat} (h : rk_I D B u) (hl : l < 6) (H : ∀ r u', rk_I D B u' → post r u') : wpX_renew post u (nI l) := by
  obtain ⟨e, C, P, F, O, pl, nw, a1, a2, a3, a4, a5, a6, a7, a8, a9, a10, a11, a12, a13, a14, a15, a16, a17, a18, a19, a20, a21, a22, a23, rfl, h⟩ := h
  unfold wpX_renew
  dsimp only
  exact rk_bl hl (br_t rfl ⟨pk_in l 6 hl, br_c (fun _ => H _ _ (rk_I_mk h)) (fun _ => ⟨pk_in l 6 hl, pk_in l 6 hl, nm_e ⟨pk_in l 6 hl, H _ _ (rk_I_mk h)⟩⟩)⟩)
/-! watches -/
theorem rk_wat57 {post : Int32 → St1 → Prop} {w : Nat} {x2 x3 x4 : Int32} (h : rk_J D e C P F O pl B a1 a2 a3 a4 a5 a6 a7 a8 a9 a14 a15 a16 a17 a18 a19) (hB : B ≤ 130) (hw : w < 4) (hw0 : w ≠ 0) (H : ∀ r u', rk_I D B u' → post r u') : wX_watch_57 post (nI w) x2 x3 x4 (nI C) (nI O) (nI P) (nI F) nw a1 a2 a3 a4 a5 a6 a7 a8 a9 a10 a11 a12 a13 a14 a15 a16 a17 a18 a19 a20 a21 a22 a23 := by
  have hc := h.1.1
  have hf := h.2.1
  unfold wX_watch_57
  rw [nI_clamp (show w < 2 ^ 31 by omega)]
  refine ⟨pk_in w 4 hw, nm_e ⟨pk_in w 4 hw, nm_e ⟨pk_in w 4 hw, nm_e ⟨pk_in w 4 hw, nm_e (br_c (fun _ => ?_) (fun _ => ?_))⟩⟩⟩⟩
  · unfold wX_watch_107
    rw [nI_clamp (show w < 2 ^ 31 by omega)]
    exact ⟨pk_in w 4 hw, nm_e ⟨pk_in w 4 hw, nm_e ⟨pk_in w 4 hw, nm_e (H _ _ (rk_I_mk (rk_J_T h (rk_T_up h.2.2.2.2.2.1 hw0 (by omega)))))⟩⟩⟩
  · unfold wX_watch_107
    rw [nI_clamp (show w < 2 ^ 31 by omega)]
    exact ⟨pk_in w 4 hw, nm_e ⟨pk_in w 4 hw, nm_e ⟨pk_in w 4 hw, nm_e (H _ _ (rk_I_mk (rk_J_T h (rk_T_up h.2.2.2.2.2.1 hw0 (by omega)))))⟩⟩⟩
theorem rk_watch {post : Int32 → St1 → Prop} {u : St1} {w a b : Nat} {r : Int32} (h : rk_I D B u) (hB : B ≤ 130) (hw : w < 4) (hw0 : w ≠ 0) (ha : a < 16) (hb : b < 16) (H : ∀ r u', rk_I D B u' → post r u') : wpX_watch post u (nI w) (nI a) (nI b) r := by
  obtain ⟨e, C, P, F, O, pl, nw, a1, a2, a3, a4, a5, a6, a7, a8, a9, a10, a11, a12, a13, a14, a15, a16, a17, a18, a19, a20, a21, a22, a23, rfl, h⟩ := h
  unfold wpX_watch
  dsimp only
  exact rk_bw hw (br_t rfl (rk_bk ha (br_t rfl (rk_bk hb (br_t rfl ⟨pk_in w 4 hw, br_c (fun _ => br_c (fun _ => rk_wat57 h hB hw hw0 H) (fun _ => br_c (fun _ => rk_wat57 h hB hw hw0 H) (fun _ => H _ _ (rk_I_mk h)))) (fun _ => H _ _ (rk_I_mk h))⟩)))))
theorem rk_unwatch {post : Int32 → St1 → Prop} {u : St1} {w : Nat} (h : rk_I D B u) (hw : w < 4) (hw0 : w ≠ 0) (H : ∀ r u', rk_I D B u' → post r u') : wpX_unwatch post u (nI w) := by
  obtain ⟨e, C, P, F, O, pl, nw, a1, a2, a3, a4, a5, a6, a7, a8, a9, a10, a11, a12, a13, a14, a15, a16, a17, a18, a19, a20, a21, a22, a23, rfl, h⟩ := h
  unfold wpX_unwatch
  dsimp only
  rw [nI_clamp (show w < 2 ^ 31 by omega)]
  have h' := rk_J_T h (rk_T_14 (x14 := 0) h.2.2.2.2.2.1 hw0)
  exact rk_bw hw (br_t rfl ⟨pk_in w 4 hw, br_c (fun _ => H _ _ (rk_I_mk h)) (fun _ => ⟨pk_in w 4 hw, nm_e ⟨pk_in w 4 hw, br_c (fun _ => H _ _ (rk_I_mk h')) (fun _ => H _ _ (rk_I_mk h'))⟩⟩)⟩)
theorem rk_next117 {post : Int32 → St1 → Prop} {w i : Nat} {z0 : Int32} (h : rk_J D e C P F O pl B a1 a2 a3 a4 a5 a6 a7 a8 a9 a14 a15 a16 a17 a18 a19) (hw : w < 4) (hi : i < 140) (H : ∀ r u', rk_I D B u' → post r u') : wX_next_117 post (nI w) (nI i) z0 (nI w) (nI C) (nI O) (nI P) (nI F) nw a1 a2 a3 a4 a5 a6 a7 a8 a9 a10 a11 a12 a13 a14 a15 a16 a17 a18 a19 a20 a21 a22 a23 := by
  unfold wX_next_117
  exact ⟨pk_in w 4 hw, nm_e ⟨pk_in i 140 hi, pk_in w 4 hw, nm_e ⟨pk_in i 140 hi, H _ _ (rk_I_mk h)⟩⟩⟩
theorem rk_next53 {post : Int32 → St1 → Prop} {w : Nat} (h : rk_J D e C P F O pl B a1 a2 a3 a4 a5 a6 a7 a8 a9 a14 a15 a16 a17 a18 a19) (hB : B ≤ 130) (hw : w < 4) (hw0 : w ≠ 0) (H : ∀ r u', rk_I D B u' → post r u') :
    ∀ (fu i : Nat), C - i < fu → i ≤ 140 → wX_next_53 post (nI w) (nI C) (nI O) (nI P) (nI F) nw a1 a2 a3 a4 a5 a6 a7 a8 a9 a10 a11 a12 a13 a14 a15 a16 a17 a18 a19 a20 a21 a22 a23 fu (nI i) := by
  have hc := h.1.1
  intro fu
  induction fu with
  | zero =>
    intro i hf
    exact absurd hf (by omega)
  | succ fu ih =>
    intro i hf hi
    refine pk_le C i (fun _ => ⟨pk_in w 4 hw, ?_⟩) (fun z => rk_wantA hw (by omega) (br_t rfl (nm_r (nI_1 i) (ih (i + 1) (by omega) (by omega)))) (br_f (by decide) ⟨pk_in w 4 hw, ?_⟩))
    · rw [nI_clamp (show w < 2 ^ 31 by omega)]
      exact nm_e (H _ _ (rk_I_mk (rk_J_T h (rk_T_19 h.2.2.2.2.2.1 hw0 (by omega)))))
    · rw [nI_clamp (show w < 2 ^ 31 by omega), nI_1]
      have h' := rk_J_T h (rk_T_19 (m := i + 1) h.2.2.2.2.2.1 hw0 (by omega))
      exact nm_e ⟨pk_in w 4 hw, nm_e ⟨pk_in i 140 (by omega), pk_in w 4 hw, nm_e ⟨pk_in i 140 (by omega), br_c (fun _ => rk_next117 h' hw (by omega) H) (fun _ => rk_next117 h' hw (by omega) H)⟩⟩⟩
theorem rk_next29 {post : Int32 → St1 → Prop} {w : Nat} (h : rk_J D e C P F O pl B a1 a2 a3 a4 a5 a6 a7 a8 a9 a14 a15 a16 a17 a18 a19) (hw : w < 4) (H : ∀ r u', rk_I D B u' → post r u') : wX_next_29 post (nI w) (nI C) (nI O) (nI P) (nI F) nw a1 a2 a3 a4 a5 a6 a7 a8 a9 a10 a11 a12 a13 a14 a15 a16 a17 a18 a19 a20 a21 a22 a23 := by
  unfold wX_next_29
  exact ⟨pk_in w 4 hw, br_c (fun _ => H _ _ (rk_I_mk h)) (fun _ => H _ _ (rk_I_mk h))⟩
theorem rk_next {post : Int32 → St1 → Prop} {u : St1} {w : Nat} (h : rk_I D B u) (hB : B ≤ 130) (hw : w < 4) (hw0 : w ≠ 0) (H : ∀ r u', rk_I D B u' → post r u') : wpX_next post u (nI w) := by
  obtain ⟨e, C, P, F, O, pl, nw, a1, a2, a3, a4, a5, a6, a7, a8, a9, a10, a11, a12, a13, a14, a15, a16, a17, a18, a19, a20, a21, a22, a23, rfl, h⟩ := h
  obtain ⟨m, hm, hp⟩ := h.2.2.2.2.2.1.2.2 w hw
  unfold wpX_next
  dsimp only
  rw [nI_clamp (show w < 2 ^ 31 by omega), hp]
  exact rk_bw hw (br_t rfl ⟨pk_in w 4 hw, br_c (fun _ => rk_next29 h hw H) (fun _ => ⟨pk_in w 4 hw, br_c (fun _ => ⟨pk_in w 4 hw, nm_e ⟨C + 1, rk_next53 h hB hw hw0 H (C + 1) m (by omega) hm⟩⟩) (fun _ => rk_next29 h hw H)⟩)⟩)
end
end
section
section
variable {c o p f nw : Int32} {a1 a2 a3 a4 a5 a6 a7 a8 a9 a10 a11 a12 a13 a14 a15 a16 a17 a18 a19 a20 a21 a22 a23 : Nat → Int32} {D : Nat → Nat} {e : Nat → rk_E} {C P F O pl B : Nat}
theorem rk_cp26 {post : Int32 → St1 → Prop} {R : Nat} (hA : rk_A e C a1 a2 a3 a4 a5 a6 a7 a8) (hW : rk_W e C P) (hC : C ≤ 130) (hP : P ≤ 200) (hR : R < 2 ^ 31)
    (Hx : ∀ (fu : Nat) (a10 : Nat → Int32), (∀ j, j < C → a10 j = rk_en (rk_rn (rk_kp e C R) (some j))) → wX_compact_26 post (nI R) (nI C) o p f nw (fu + 1) (nI (rk_ct (rk_kp e C R) C)) (nI C) a1 a2 a3 a4 a5 a6 a7 a8 a9 a10 a11 a12 a13 a14 a15 a16 a17 a18 a19 a20 a21 a22 a23) :
    ∀ (fu i : Nat) (a10 : Nat → Int32), C - i < fu → i ≤ C → (∀ j, j < i → a10 j = rk_en (rk_rn (rk_kp e C R) (some j))) → wX_compact_26 post (nI R) (nI C) o p f nw fu (nI (rk_ct (rk_kp e C R) i)) (nI i) a1 a2 a3 a4 a5 a6 a7 a8 a9 a10 a11 a12 a13 a14 a15 a16 a17 a18 a19 a20 a21 a22 a23 := by
  intro fu
  induction fu with
  | zero =>
    intro i a10 hf
    exact absurd hf (by omega)
  | succ fu ih =>
    intro i a10 hf hi h10
    by_cases z : i = C
    · subst z
      exact Hx fu a10 h10
    · have hiC : i < C := by omega
      refine pk_le C i (fun z => absurd z (by omega)) (fun _ => rk_isKept hA hW hC hP hR hiC (rk_br (fun z' => ?_) (fun z' => ?_)))
      · unfold wX_compact_57
        rw [nI_clamp (show i < 2 ^ 31 by omega)]
        refine ⟨pk_in i 140 (by omega), nm_e (br_t (by rw [z']; rfl) (nm_r (nI_1 i) ?_))⟩
        have h1 := ih (i + 1) (upd a10 i (-1)) (by omega) (by omega) (fun j hj => ?_)
        · rw [rk_ct_f z'] at h1
          exact h1
        · by_cases t : j = i
          · subst t
            rw [pk_us]
            show _ = rk_en (if rk_kp e C R j = true then some (rk_ct (rk_kp e C R) j) else none)
            rw [if_neg (by rw [z']; simp)]
            rfl
          · rw [pk_un t]
            exact h10 j (by omega)
      · unfold wX_compact_57
        rw [nI_clamp (show i < 2 ^ 31 by omega)]
        refine ⟨pk_in i 140 (by omega), nm_e (br_f (by rw [z']; decide) (nm_r (nI_1 _) (nm_r (nI_1 i) ?_)))⟩
        have h1 := ih (i + 1) (upd a10 i (nI (rk_ct (rk_kp e C R) i))) (by omega) (by omega) (fun j hj => ?_)
        · rw [rk_ct_t z'] at h1
          exact h1
        · by_cases t : j = i
          · subst t
            rw [pk_us]
            show _ = rk_en (if rk_kp e C R j = true then some (rk_ct (rk_kp e C R) j) else none)
            rw [if_pos z']
            rfl
          · rw [pk_un t]
            exact h10 j (by omega)
/-! the watches -/
theorem rk_T_1519 {w m : Nat} {x15 : Int32} (h : rk_T pl a14 a15 a16 a17 a18 a19) (hw : w ≠ 0) (hm : m ≤ 140) : rk_T pl a14 (upd a15 w x15) a16 a17 a18 (upd a19 w (nI m)) := by
  obtain ⟨⟨h1, h2, h3⟩, h6, h7⟩ := h
  have hw' : 0 ≠ w := fun z => hw z.symm
  refine ⟨⟨h1, by rw [pk_un hw']; exact h2, h3⟩, by rw [pk_un hw']; exact h6, fun v hv => ?_⟩
  by_cases z : v = w
  · rw [z, pk_us]
    exact ⟨m, hm, rfl⟩
  · rw [pk_un z]
    exact h7 v hv
theorem rk_mw2 {post : St1 → Prop} {r : Int32} (hC : C ≤ 130) (H : ∀ (a15 a19 : Nat → Int32), rk_T pl a14 a15 a16 a17 a18 a19 → post (nI C, o, p, f, nw, a1, a2, a3, a4, a5, a6, a7, a8, a9, a10, a11, a12, a13, a14, a15, a16, a17, a18, a19, a20, a21, a22, a23)) :
    ∀ (fu w : Nat) (a15 a19 : Nat → Int32), 4 - w < fu → 1 ≤ w → w ≤ 4 → rk_T pl a14 a15 a16 a17 a18 a19 → wX_moveWatches_2 post r (nI C) o p f nw fu (nI w) a1 a2 a3 a4 a5 a6 a7 a8 a9 a10 a11 a12 a13 a14 a15 a16 a17 a18 a19 a20 a21 a22 a23 := by
  intro fu
  induction fu with
  | zero =>
    intro w a15 a19 hf
    exact absurd hf (by omega)
  | succ fu ih =>
    intro w a15 a19 hf hw hw4 hT
    refine pk_le 4 w (fun _ => H _ _ hT) (fun z => ⟨pk_in w 4 z, br_c (fun _ => nm_r (nI_1 w) (ih _ _ _ (by omega) (by omega) (by omega) hT)) (fun _ => ⟨pk_in w 4 z, br_c (fun _ => ?_) (fun _ => nm_r (nI_1 w) (ih _ _ _ (by omega) (by omega) (by omega) hT))⟩)⟩)
    obtain ⟨m, hm, hp⟩ := hT.2.2 w z
    rw [nI_clamp (show w < 2 ^ 31 by omega), hp]
    have hct := rk_ct_le (rk_q10 a10) m
    exact rk_missesA z hC hp hm (fun b => ⟨pk_in w 4 z, nm_e ⟨pk_in w 4 z, rk_firstFrom hm ⟨pk_in w 4 z, nm_e (nm_r (nI_1 w) (ih _ _ _ (by omega) (by omega) (by omega) (rk_T_1519 hT (by omega) (by omega))))⟩⟩⟩)
theorem rk_moveWatches {post : St1 → Prop} {r : Int32} (hT : rk_T C a14 a15 a16 a17 a18 a19) (hC : C ≤ 130) (H : ∀ (a15 a19 : Nat → Int32), rk_T (rk_ct (rk_q10 a10) C) a14 a15 a16 a17 a18 a19 → post (nI C, o, p, f, nw, a1, a2, a3, a4, a5, a6, a7, a8, a9, a10, a11, a12, a13, a14, a15, a16, a17, a18, a19, a20, a21, a22, a23)) : wpX_moveWatches post (nI C, o, p, f, nw, a1, a2, a3, a4, a5, a6, a7, a8, a9, a10, a11, a12, a13, a14, a15, a16, a17, a18, a19, a20, a21, a22, a23) r := by
  have hct := rk_ct_le (rk_q10 a10) C
  obtain ⟨⟨h1, h2, h3⟩, h6, h7⟩ := hT
  unfold wpX_moveWatches
  refine ⟨5, pk_le 4 0 (fun z => absurd z (by omega)) (fun _ => ⟨pk_in 0 4 (by omega), ?_⟩)⟩
  rw [sb_cl0, h1, h2, h6]
  refine br_f (by decide) ⟨pk_in 0 4 (by omega), br_t rfl (rk_misses0 hC h6 ⟨pk_in 0 4 (by omega), nm_e ⟨pk_in 0 4 (by omega), rk_firstFrom (by omega) ⟨pk_in 0 4 (by omega), nm_e (nm_r (nI_1 0) (rk_mw2 hC H 4 1 _ _ (by omega) (by omega) (by omega) ⟨⟨h1, ?_, h3⟩, pk_us, fun v hv => ?_⟩))⟩⟩⟩)⟩
  · rw [pk_us]
    rfl
  · by_cases z : v = 0
    · rw [z, pk_us]
      exact ⟨_, by omega, rfl⟩
    · rw [pk_un z]
      exact h7 v hv
/-! renumbering and moving -/
theorem rk_renum {post : Int32 → Prop} {kp : Nat → Bool} {o' : Option Nat} (h10 : ∀ j, j < C → a10 j = rk_en (rk_rn kp (some j))) (hC : C ≤ 140) (ho : ∀ j, o' = some j → j < C) (H : post (rk_en (rk_rn kp o'))) : wpX_renumber post (c, o, p, f, nw, a1, a2, a3, a4, a5, a6, a7, a8, a9, a10, a11, a12, a13, a14, a15, a16, a17, a18, a19, a20, a21, a22, a23) (rk_en o') := by
  unfold wpX_renumber
  cases o' with
  | none => exact br_t rfl H
  | some j =>
    have hj := ho j rfl
    refine br_f (rk_m1 (by omega)) ⟨pk_in j 140 (by omega), ?_⟩
    rw [rk_en_cl (show j < 2 ^ 31 by omega), h10 j hj]
    exact H
theorem rk_cp84 {post : Int32 → St1 → Prop} {kp : Nat → Bool} {g : Nat → Option Nat} {x1 x2 : Int32} (h10 : ∀ j, j < C → a10 j = rk_en (rk_rn kp (some j))) (hC : C ≤ 140) (hg : ∀ k j, g k = some j → j < C)
    (Hx : ∀ (a8 : Nat → Int32), (∀ k, k < 16 → a8 k = rk_en (rk_rn kp (g k))) → ∃ fu, wX_compact_119 post x1 x2 fu 0 c 0 p f nw a1 a2 a3 a4 a5 a6 a7 a8 a9 a10 a11 a12 a13 a14 a15 a16 a17 a18 a19 a20 a21 a22 a23) :
    ∀ (fu i : Nat) (a8 : Nat → Int32), 16 - i < fu → i ≤ 16 → (∀ k, k < 16 → a8 k = rk_en (if k < i then rk_rn kp (g k) else g k)) → wX_compact_84 post x1 x2 c o p f nw fu (nI i) a1 a2 a3 a4 a5 a6 a7 a8 a9 a10 a11 a12 a13 a14 a15 a16 a17 a18 a19 a20 a21 a22 a23 := by
  intro fu
  induction fu with
  | zero =>
    intro i a8 hf
    exact absurd hf (by omega)
  | succ fu ih =>
    intro i a8 hf hi h8
    refine pk_le 16 i (fun z => Hx a8 (fun k hk => ?_)) (fun z => ⟨pk_in i 16 z, ?_⟩)
    · rw [h8 k hk, if_pos (by omega)]
    · rw [nI_clamp (show i < 2 ^ 31 by omega), h8 i z, if_neg (by omega)]
      refine rk_renum h10 hC (hg i) ⟨pk_in i 16 z, nm_e (nm_r (nI_1 i) (ih (i + 1) _ (by omega) (by omega) (fun k hk => ?_)))⟩
      by_cases t : k = i
      · rw [t, pk_us, if_pos (by omega)]
      · rw [pk_un t, h8 k hk]
        by_cases t2 : k < i
        · rw [if_pos t2, if_pos (by omega)]
        · rw [if_neg t2, if_neg (by omega)]
theorem rk_moveChange {post : St1 → Prop} {i t : Nat} {b : Bool} (hi : i < 140) (ht : t < 140) (hb : a4 i = rk_bI b) (H : post (c, o, p, f, nw, upd a1 t (a1 i), upd a2 t (a2 i), upd a3 t (a3 i), upd a4 t (a4 i), upd a5 t (a5 i), upd a6 t (a6 i), upd a7 t (a7 i), a8, a9, a10, a11, a12, a13, a14, a15, a16, a17, a18, a19, a20, a21, a22, a23)) : wpX_moveChange post (c, o, p, f, nw, a1, a2, a3, a4, a5, a6, a7, a8, a9, a10, a11, a12, a13, a14, a15, a16, a17, a18, a19, a20, a21, a22, a23) (nI i) (nI t) := by
  unfold wpX_moveChange
  dsimp only
  rw [nI_clamp (show i < 2 ^ 31 by omega), nI_clamp (show t < 2 ^ 31 by omega), show vp_nar .boolean (a4 i) = a4 i from by rw [hb, rk_bI_nar]]
  exact ⟨pk_in i 140 hi, pk_in t 140 ht, nm_e ⟨pk_in i 140 hi, pk_in t 140 ht, nm_e ⟨pk_in i 140 hi, pk_in t 140 ht, nm_e ⟨pk_in i 140 hi, pk_in t 140 ht, nm_e ⟨pk_in i 140 hi, pk_in t 140 ht, nm_e ⟨pk_in i 140 hi, pk_in t 140 ht, nm_e ⟨pk_in i 140 hi, pk_in t 140 ht, nm_e H⟩⟩⟩⟩⟩⟩⟩
/-- the changes moved so far -/
def rk_M (e : Nat → rk_E) (C : Nat) (kp : Nat → Bool) (i : Nat) (a1 a2 a3 a4 a5 a6 a7 : Nat → Int32) : Prop := (∀ j, i ≤ j → j < C → rk_K (e j) (a1 j) (a2 j) (a3 j) (a4 j) (a5 j) (a6 j) ∧ a7 j = rk_en (rk_ls (rk_qk e (rk_ky (e j))) j)) ∧ (∀ j, j < i → kp j = true → rk_K (e j) (a1 (rk_ct kp j)) (a2 (rk_ct kp j)) (a3 (rk_ct kp j)) (a4 (rk_ct kp j)) (a5 (rk_ct kp j)) (a6 (rk_ct kp j)) ∧ a7 (rk_ct kp j) = rk_en (rk_rn kp (rk_ls (rk_qk e (rk_ky (e j))) j)))
theorem rk_M_f {kp : Nat → Bool} {i : Nat} (h : rk_M e C kp i a1 a2 a3 a4 a5 a6 a7) (hk : kp i = false) : rk_M e C kp (i + 1) a1 a2 a3 a4 a5 a6 a7 := by
  refine ⟨fun j h1 h2 => h.1 j (by omega) h2, fun j h1 h2 => ?_⟩
  by_cases z : j = i
  · rw [z, hk] at h2
    exact absurd h2 (by simp)
  · exact h.2 j (by omega) h2
theorem rk_M_t {kp : Nat → Bool} {i : Nat} {x : Int32} (h : rk_M e C kp i a1 a2 a3 a4 a5 a6 a7) (hi : i < C) (hk : kp i = true) (hx : x = rk_en (rk_rn kp (rk_ls (rk_qk e (rk_ky (e i))) i))) :
    rk_M e C kp (i + 1) (upd a1 (rk_ct kp i) (a1 i)) (upd a2 (rk_ct kp i) (a2 i)) (upd a3 (rk_ct kp i) (a3 i)) (upd a4 (rk_ct kp i) (a4 i)) (upd a5 (rk_ct kp i) (a5 i)) (upd a6 (rk_ct kp i) (a6 i)) (upd (upd a7 i x) (rk_ct kp i) (upd a7 i x i)) := by
  have hct := rk_ct_le kp i
  refine ⟨fun j h1 h2 => ?_, fun j h1 h2 => ?_⟩
  · have z : j ≠ rk_ct kp i := by omega
    rw [pk_un z, pk_un z, pk_un z, pk_un z, pk_un z, pk_un z, pk_un z, pk_un (show j ≠ i by omega)]
    exact h.1 j (by omega) h2
  · by_cases z : j = i
    · subst z
      rw [pk_us, pk_us, pk_us, pk_us, pk_us, pk_us, pk_us, pk_us]
      exact ⟨(h.1 j (Nat.le_refl _) hi).1, hx⟩
    · have h3 : rk_ct kp j < rk_ct kp i := rk_ct_lt (by omega) h2
      have h4 := rk_ct_le kp j
      have z' : rk_ct kp j ≠ rk_ct kp i := by omega
      rw [pk_un z', pk_un z', pk_un z', pk_un z', pk_un z', pk_un z', pk_un z', pk_un (show rk_ct kp j ≠ i by omega)]
      exact h.2 j (by omega) h2
/-- the kept ones that are at or before R -/
def rk_qo (e : Nat → rk_E) (C R : Nat) : Nat → Bool := fun j => rk_kp e C R j && decide (rk_rv (e j) ≤ R)
theorem rk_cp119 {post : Int32 → St1 → Prop} {R : Nat} (hW : rk_W e C P) (hC : C ≤ 130) (hP : P ≤ 200) (hR : R < 2 ^ 31) (h10 : ∀ j, j < C → a10 j = rk_en (rk_rn (rk_kp e C R) (some j)))
    (H : ∀ (a1 a2 a3 a4 a5 a6 a7 : Nat → Int32), rk_M e C (rk_kp e C R) C a1 a2 a3 a4 a5 a6 a7 → post (nI (rk_ct (rk_kp e C R) C) - nI (rk_ct (rk_qo e C R) C)) (nI (rk_ct (rk_kp e C R) C), nI (rk_ct (rk_qo e C R) C), p, nI R, nw, a1, a2, a3, a4, a5, a6, a7, a8, a9, a10, a11, a12, a13, a14, a15, a16, a17, a18, a19, a20, a21, a22, a23)) :
    ∀ (fu i : Nat) (a1 a2 a3 a4 a5 a6 a7 : Nat → Int32), C - i < fu → i ≤ C → rk_M e C (rk_kp e C R) i a1 a2 a3 a4 a5 a6 a7 → wX_compact_119 post (nI R) (nI (rk_ct (rk_kp e C R) C)) fu (nI i) (nI C) (nI (rk_ct (rk_qo e C R) i)) p f nw a1 a2 a3 a4 a5 a6 a7 a8 a9 a10 a11 a12 a13 a14 a15 a16 a17 a18 a19 a20 a21 a22 a23 := by
  intro fu
  induction fu with
  | zero =>
    intro i a1 a2 a3 a4 a5 a6 a7 hf
    exact absurd hf (by omega)
  | succ fu ih =>
    intro i a1 a2 a3 a4 a5 a6 a7 hf hi hM
    refine pk_le C i (fun z => ?_) (fun z => ⟨pk_in i 140 (by omega), ?_⟩)
    · have : i = C := by omega
      subst this
      exact H _ _ _ _ _ _ _ hM
    · have hct := rk_ct_le (rk_kp e C R) i
      obtain ⟨hK, h7⟩ := hM.1 i (Nat.le_refl i) z
      rw [nI_clamp (show i < 2 ^ 31 by omega), h10 i z, h7]
      cases hk : rk_kp e C R i with
      | false =>
        rw [show rk_rn (rk_kp e C R) (some i) = none from if_neg (by rw [hk]; simp)]
        have h1 := ih (i + 1) a1 a2 a3 a4 a5 a6 a7 (by omega) (by omega) (rk_M_f hM hk)
        rw [rk_ct_f (q := rk_qo e C R) (show (rk_kp e C R i && decide (rk_rv (e i) ≤ R)) = false by rw [hk]; rfl)] at h1
        exact nm_e (br_t rfl (nm_r (nI_1 i) h1))
      | true =>
        rw [show rk_rn (rk_kp e C R) (some i) = some (rk_ct (rk_kp e C R) i) from if_pos hk]
        have hM' := rk_M_t hM z hk rfl
        refine nm_e (br_f (rk_m1 (by omega)) ⟨pk_in i 140 (by omega), rk_renum h10 (by omega) (fun j hj => ?_) ⟨pk_in i 140 (by omega), nm_e (rk_moveChange (t := rk_ct (rk_kp e C R) i) (by omega) (by omega) hK.2.2.2.1 ?_)⟩⟩)
        · have := (rk_ls_some hj).1
          omega
        · dsimp only
          rw [rk_en_cl (show rk_ct (rk_kp e C R) i < 2 ^ 31 by omega), pk_us, hK.1]
          have h1 := ih (i + 1) _ _ _ _ _ _ _ (by omega) (by omega) hM'
          have hv := (hW.1 i z).2.1
          refine ⟨pk_in (rk_ct (rk_kp e C R) i) 140 (by omega), pk_lt R (rk_rv (e i)) (fun g => nm_r (nI_1 i) ?_) (fun g => nm_r (nI_1 _) (nm_r (nI_1 i) ?_))⟩
          · rw [rk_ct_f (q := rk_qo e C R) (show (rk_kp e C R i && decide (rk_rv (e i) ≤ R)) = false by rw [hk, decide_eq_false (by omega)]; rfl), hK.1] at h1
            exact h1
          · rw [rk_ct_t (q := rk_qo e C R) (show (rk_kp e C R i && decide (rk_rv (e i) ≤ R)) = true by rw [hk, decide_eq_true g]; rfl), hK.1] at h1
            exact h1
theorem rk_M_A {R : Nat} (hW : rk_W e C P) (hM : rk_M e C (rk_kp e C R) C a1 a2 a3 a4 a5 a6 a7) (h8 : ∀ k, k < 16 → a8 k = rk_en (rk_rn (rk_kp e C R) (rk_ls (rk_qk e k) C))) : rk_A (rk_cp e C R) (rk_ct (rk_kp e C R) C) a1 a2 a3 a4 a5 a6 a7 a8 := by
  refine ⟨fun j hj => ?_, fun j hj => ?_, fun k hk => ?_⟩
  · obtain ⟨i, h1, h2, h3⟩ := rk_ct_sur hj
    subst h3
    rw [rk_cp_c h1 h2]
    exact (hM.2 i h1 h2).1
  · obtain ⟨i, h1, h2, h3⟩ := rk_ct_sur hj
    subst h3
    rw [rk_cp_c h1 h2, rk_cp_ls hW (Nat.le_of_lt h1)]
    exact (hM.2 i h1 h2).2
  · rw [rk_cp_ls hW (Nat.le_refl C)]
    exact h8 k hk
theorem rk_compact {post : Int32 → St1 → Prop} {R : Nat} (h : rk_J D e C P F O C B a1 a2 a3 a4 a5 a6 a7 a8 a9 a14 a15 a16 a17 a18 a19) (hB : B ≤ 130) (hF : F ≤ R) (hR : R ≤ P)
    (H : ∀ (O' : Nat) (a1 a2 a3 a4 a5 a6 a7 a8 a10 a15 a19 : Nat → Int32), O' ≤ rk_ct (rk_kp e C R) C → (R = P → O' = rk_ct (rk_kp e C R) C) → rk_J D (rk_cp e C R) (rk_ct (rk_kp e C R) C) P R O' (rk_ct (rk_kp e C R) C) B a1 a2 a3 a4 a5 a6 a7 a8 a9 a14 a15 a16 a17 a18 a19 → post (nI (rk_ct (rk_kp e C R) C - O')) (nI (rk_ct (rk_kp e C R) C), nI O', nI P, nI R, nw, a1, a2, a3, a4, a5, a6, a7, a8, a9, a10, a11, a12, a13, a14, a15, a16, a17, a18, a19, a20, a21, a22, a23)) :
    wpX_compact post (nI C, nI O, nI P, nI F, nw, a1, a2, a3, a4, a5, a6, a7, a8, a9, a10, a11, a12, a13, a14, a15, a16, a17, a18, a19, a20, a21, a22, a23) (nI R) := by
  obtain ⟨⟨b1, b2⟩, ⟨f1, f2, f3⟩, hA, hW, hL, hT, hD⟩ := h
  have hn := rk_ct_le (rk_kp e C R) C
  have hO : rk_ct (rk_qo e C R) C ≤ rk_ct (rk_kp e C R) C := rk_ct_imp (fun i _ hi => (Bool.and_eq_true_iff.mp hi).1)
  unfold wpX_compact
  refine br_t (nI_le hF (by omega)) (br_t (nI_le hR (by omega)) ⟨C + 1, rk_cp26 hA hW (by omega) (by omega) (by omega) (fun fu a10 h10 => ?_) (C + 1) 0 a10 (by omega) (by omega) (fun j hj => absurd hj (by omega))⟩)
  refine pk_le C C (fun _ => rk_moveWatches hT (by omega) (fun a15 a19 hT' => ?_)) (fun z => absurd z (by omega))
  have hq : rk_ct (rk_q10 a10) C = rk_ct (rk_kp e C R) C := by
    refine rk_ct_congr (fun j hj => ?_)
    unfold rk_q10
    rw [h10 j hj]
    cases hk : rk_kp e C R j with
    | false =>
      rw [show rk_rn (rk_kp e C R) (some j) = none from if_neg (by rw [hk]; simp)]
      exact decide_eq_false (fun z => z rfl)
    | true =>
      rw [show rk_rn (rk_kp e C R) (some j) = some (rk_ct (rk_kp e C R) j) from if_pos hk]
      have := rk_ct_le (rk_kp e C R) j
      exact decide_eq_true (rk_m1 (by omega))
  rw [hq] at hT'
  dsimp only
  refine ⟨17, rk_cp84 (kp := rk_kp e C R) (g := fun k => rk_ls (rk_qk e k) C) h10 (by omega) (fun k j hj => (rk_ls_some hj).1) (fun a8 h8 => ⟨C + 1, ?_⟩) 17 0 a8 (by omega) (by omega) (fun k hk => by rw [if_neg (by omega)]; exact hA.2.2 k hk)⟩
  refine rk_cp119 hW (by omega) (by omega) (by omega) h10 (fun a1 a2 a3 a4 a5 a6 a7 hM => ?_) (C + 1) 0 a1 a2 a3 a4 a5 a6 a7 (by omega) (by omega) ⟨fun j _ hj => ⟨hA.1 j hj, hA.2.1 j hj⟩, fun j hj => absurd hj (by omega)⟩
  rw [pk_sub hO]
  refine H _ _ _ _ _ _ _ _ _ _ _ _ hO (fun hRP => rk_ct_congr (fun j hj => ?_)) ⟨⟨?_, ?_⟩, ⟨hR, hO, Nat.le_refl _⟩, rk_M_A hW hM h8, rk_cp_W hW, fun k hk => ?_, hT', fun k hk => ?_⟩
  · show (rk_kp e C R j && decide (rk_rv (e j) ≤ R)) = rk_kp e C R j
    rw [decide_eq_true (show rk_rv (e j) ≤ R by have := (hW.1 j hj).2.1; omega), Bool.and_true]
  · rw [rk_cp_X hW hR]
    omega
  · rw [rk_cp_X hW hR]
    omega
  · unfold rk_ex
    rw [rk_cp_cu hW hR]
    exact hL k hk
  · rw [rk_cp_cu hW hR]
    exact hD k hk
end
end
section
def rk_bt (x : Int64) (i : Nat) : Bool := x.toBitVec.getLsbD i
/-- digit k of a store -/
def rk_dg (s : Int64) (k : Nat) : Int32 := ((s >>> ((5 * nI k).toInt64 &&& 63)) &&& 31).toInt32
/-- a store with another digit k -/
def rk_st (s : Int64) (k : Nat) (z : Int32) : Int64 := (s &&& (((31 : Int64) <<< ((5 * (nI k &&& 7)).toInt64 &&& 63)) ^^^ (-1))) ||| (z.toInt64 <<< ((5 * (nI k &&& 7)).toInt64 &&& 63))
theorem rk_sh1 : ∀ k, k < 8 → (((5 * (nI k &&& 7)).toInt64 &&& 63).toBitVec.smod 64).toNat = 5 * k := by decide +kernel
theorem rk_sh2 : ∀ k, k < 8 → (((5 * nI k).toInt64 &&& 63).toBitVec.smod 64).toNat = 5 * k := by decide +kernel
theorem rk_b31 : ∀ i, i < 64 → rk_bt 31 i = decide (i < 5) := by decide +kernel
theorem rk_bm1 : ∀ i, i < 64 → rk_bt (-1) i = true := by decide +kernel
theorem rk_bv : ∀ v, v < 32 → ∀ i, i < 64 → rk_bt (nI v).toInt64 i = v.testBit i := by decide +kernel
theorem rk_bvi : ∀ v, v < 32 → ∀ i, i < 32 → (nI v).toBitVec.getLsbD i = v.testBit i := by decide +kernel
theorem rk_bv5 : ∀ v, v < 32 → ∀ i, i < 64 → 5 ≤ i → v.testBit i = false := by decide +kernel
theorem rk_b_shl (a b : Int64) {m i : Nat} (hb : (b.toBitVec.smod 64).toNat = m) (hi : i < 64) : rk_bt (a <<< b) i = (decide (m ≤ i) && rk_bt a (i - m)) := by
  unfold rk_bt
  rw [Int64.toBitVec_shiftLeft]
  show (a.toBitVec <<< (b.toBitVec.smod 64).toNat).getLsbD i = _
  rw [hb, BitVec.getLsbD_shiftLeft]
  rcases Nat.lt_or_ge i m with h | h
  · simp [h, Nat.not_le.mpr h]
  · simp [hi, h, Nat.not_lt.mpr h]
theorem rk_b_shr (a b : Int64) {m i : Nat} (hb : (b.toBitVec.smod 64).toNat = m) (hi : m + i < 64) : rk_bt (a >>> b) i = rk_bt a (m + i) := by
  unfold rk_bt
  rw [Int64.toBitVec_shiftRight]
  show (a.toBitVec.sshiftRight (b.toBitVec.smod 64).toNat).getLsbD i = _
  rw [hb, BitVec.getLsbD_sshiftRight]
  simp [hi]
  omega
theorem rk_b_st (s : Int64) {k v i : Nat} (hk : k < 8) (hv : v < 32) (hi : i < 64) : rk_bt (rk_st s k (nI v)) i = if 5 * k ≤ i ∧ i < 5 * k + 5 then v.testBit (i - 5 * k) else rk_bt s i := by
  have h1 : rk_bt (rk_st s k (nI v)) i = ((rk_bt s i && (rk_bt ((31 : Int64) <<< ((5 * (nI k &&& 7)).toInt64 &&& 63)) i ^^ rk_bt (-1) i)) || rk_bt ((nI v).toInt64 <<< ((5 * (nI k &&& 7)).toInt64 &&& 63)) i) := by
    unfold rk_bt rk_st
    rw [Int64.toBitVec_or, BitVec.getLsbD_or, Int64.toBitVec_and, BitVec.getLsbD_and, Int64.toBitVec_xor, BitVec.getLsbD_xor]
  rw [h1, rk_b_shl _ _ (rk_sh1 k hk) hi, rk_b_shl _ _ (rk_sh1 k hk) hi, rk_bm1 i hi, rk_b31 _ (by omega), rk_bv v hv _ (by omega)]
  by_cases g1 : 5 * k ≤ i
  · by_cases g2 : i < 5 * k + 5
    · rw [if_pos ⟨g1, g2⟩, decide_eq_true g1, decide_eq_true (show i - 5 * k < 5 by omega)]
      simp
    · rw [if_neg (fun z => g2 z.2), decide_eq_true g1, decide_eq_false (show ¬ i - 5 * k < 5 by omega), rk_bv5 v hv _ (by omega) (by omega)]
      simp
  · rw [if_neg (fun z => g1 z.1), decide_eq_false g1]
    simp
theorem rk_b_dg (s : Int64) {k i : Nat} (hk : k < 8) (hi : i < 32) : (rk_dg s k).toBitVec.getLsbD i = (decide (i < 5) && rk_bt s (5 * k + i)) := by
  unfold rk_dg
  rw [Int64.toBitVec_toInt32, BitVec.getLsbD_signExtend]
  have h1 : ((s >>> ((5 * nI k).toInt64 &&& 63)) &&& 31).toBitVec.getLsbD i = (rk_bt (s >>> ((5 * nI k).toInt64 &&& 63)) i && rk_bt 31 i) := by
    unfold rk_bt
    rw [Int64.toBitVec_and, BitVec.getLsbD_and]
  rw [decide_eq_true hi, if_pos (show i < 64 by omega), h1, rk_b31 i (by omega)]
  by_cases g : i < 5
  · rw [decide_eq_true g, rk_b_shr _ _ (rk_sh2 k hk) (by omega)]
    simp
  · rw [decide_eq_false g]
    simp
theorem rk_dg_ext {x y : Int32} (h : ∀ i, i < 32 → x.toBitVec.getLsbD i = y.toBitVec.getLsbD i) : x = y := Int32.toBitVec_inj.mp (BitVec.eq_of_getLsbD_eq (fun i hi => h i hi))
theorem rk_dg_st (s : Int64) {k k' v : Nat} (hk : k < 8) (hk' : k' < 8) (hv : v < 32) : rk_dg (rk_st s k (nI v)) k' = if k' = k then nI v else rk_dg s k' := by
  refine rk_dg_ext (fun i hi => ?_)
  rw [rk_b_dg _ hk' hi]
  by_cases g : i < 5
  · rw [decide_eq_true g, Bool.true_and, rk_b_st s hk hv (by omega)]
    by_cases z : k' = k
    · rw [if_pos z, z, if_pos ⟨by omega, by omega⟩, rk_bvi v hv i hi, show 5 * k + i - 5 * k = i by omega]
    · rw [if_neg z, if_neg (by omega), rk_b_dg _ hk' hi, decide_eq_true g, Bool.true_and]
  · rw [decide_eq_false g, Bool.false_and]
    by_cases z : k' = k
    · rw [if_pos z, rk_bvi v hv i hi, rk_bv5 v hv i (by omega) (by omega)]
    · rw [if_neg z, rk_b_dg _ hk' hi, decide_eq_false g, Bool.false_and]
/-- the store s holds the digits D -/
def rk_S (D : Nat → Nat) (s : Int64) : Prop := (∀ i, 40 ≤ i → i < 64 → rk_bt s i = false) ∧ (∀ k, k < 8 → rk_dg s k = nI (D k))
theorem rk_S_st {D D' : Nat → Nat} {s : Int64} {k v : Nat} (h : rk_S D s) (hk : k < 8) (hv : v < 32) (hD : ∀ j, j < 8 → D' j = if j = k then v else D j) : rk_S D' (rk_st s k (nI v)) := by
  refine ⟨fun i h1 h2 => ?_, fun j hj => ?_⟩
  · rw [rk_b_st s hk hv h2, if_neg (by omega)]
    exact h.1 i h1 h2
  · rw [rk_dg_st s hk hj hv, hD j hj]
    by_cases z : j = k
    · rw [if_pos z, if_pos z]
    · rw [if_neg z, if_neg z]
      exact h.2 j hj
theorem rk_S_pos {D : Nat → Nat} {s : Int64} (h : rk_S D s) : 0 ≤ s := by
  have h1 : s.toBitVec.msb = false := by
    rw [BitVec.msb_eq_getLsbD_last]
    exact h.1 63 (by omega) (by omega)
  rw [Int64.le_iff_toInt_le]
  show (0 : Int64).toInt ≤ s.toBitVec.toInt
  rw [BitVec.toInt_eq_msb_cond, h1]
  simp
theorem rk_S_0 : rk_S (fun _ => 31) 1099511627775 :=
  ⟨fun i h1 h2 => (by decide +kernel : ∀ i, i < 64 → 40 ≤ i → rk_bt 1099511627775 i = false) i h2 h1, by decide +kernel⟩
theorem rk_S_congr {D D' : Nat → Nat} {s : Int64} (h : rk_S D s) (hD : ∀ k, k < 8 → D k = D' k) : rk_S D' s :=
  ⟨h.1, fun k hk => by rw [← hD k hk]; exact h.2 k hk⟩
end
section
theorem rk_v15 : ∀ v, v < 16 → nI v &&& 15 = nI v := by decide +kernel
theorem rk_cu_s {e : Nat → rk_E} {k q : Nat} : rk_cu e k (q + 1) = if rk_ky (e q) = k then (if rk_pt (e q) = true then some (e q) else none) else rk_cu e k q := by
  unfold rk_cu
  show rk_pk e (if decide (rk_ky (e q) = k) = true then some q else rk_ls (rk_qk e k) q) = _
  by_cases h : rk_ky (e q) = k
  · rw [if_pos h, if_pos (decide_eq_true h)]
    rfl
  · rw [if_neg h, if_neg (by simp [h])]
section
variable {c o p f nw : Int32} {a1 a2 a3 a4 a5 a6 a7 a8 a9 a10 a11 a12 a13 a14 a15 a16 a17 a18 a19 a20 a21 a22 a23 : Nat → Int32} {D : Nat → Nat} {e : Nat → rk_E} {C P F O pl B : Nat}
theorem rk_next0a {post : Int32 → St1 → Prop} {q : Nat} (h0 : rk_W0 a14 a15 a16 a17 a18) (hA : rk_A e C a1 a2 a3 a4 a5 a6 a7 a8) (hW : rk_W e C P) (hC : C ≤ 130) (hP : P ≤ 200) (hp : a19 0 = nI q) (hq : q < C)
    (H : post (nI (rk_rv (e q))) (nI C, o, p, f, nw, a1, a2, a3, a4, a5, a6, a7, a8, a9, a10, a11, a12, a13, a14, a15, a16, a17, a18, upd a19 0 (nI (q + 1)), upd a20 0 1, upd a21 0 (nI (rk_ky (e q))), upd a22 0 (rk_bI (rk_pt (e q))), upd a23 0 (nI (rk_vl (e q))))) : wpX_next post (nI C, o, p, f, nw, a1, a2, a3, a4, a5, a6, a7, a8, a9, a10, a11, a12, a13, a14, a15, a16, a17, a18, a19, a20, a21, a22, a23) 0 := by
  obtain ⟨k1, k2, k3, k4, _⟩ := hA.1 q hq
  unfold wpX_next
  dsimp only
  rw [sb_cl0, h0.1, h0.2.1, hp]
  refine rk_bw (k := 0) (by omega) (br_t rfl ⟨pk_in 0 4 (by omega), br_f (by decide) ⟨pk_in 0 4 (by omega), br_t rfl ⟨pk_in 0 4 (by omega), nm_e ⟨1, pk_le C q (fun z => absurd z (by omega)) (fun _ => rk_want0 h0 hA hW (by omega) hP hq (br_f (by decide) ⟨pk_in 0 4 (by omega), ?_⟩))⟩⟩⟩⟩)
  rw [sb_cl0, nI_clamp (show q < 2 ^ 31 by omega), nI_1, k2, k4]
  refine nm_e ⟨pk_in 0 4 (by omega), nm_e ⟨pk_in q 140 (by omega), pk_in 0 4 (by omega), nm_e ⟨pk_in q 140 (by omega), rk_br (fun z => ?_) (fun z => ?_)⟩⟩⟩
  · rw [z] at H
    unfold wX_next_117
    rw [sb_cl0, nI_clamp (show q < 2 ^ 31 by omega), k1, k3]
    exact ⟨pk_in 0 4 (by omega), nm_e ⟨pk_in q 140 (by omega), pk_in 0 4 (by omega), nm_e ⟨pk_in q 140 (by omega), H⟩⟩⟩
  · rw [z] at H
    unfold wX_next_117
    rw [sb_cl0, nI_clamp (show q < 2 ^ 31 by omega), k1, k3]
    exact ⟨pk_in 0 4 (by omega), nm_e ⟨pk_in q 140 (by omega), pk_in 0 4 (by omega), nm_e ⟨pk_in q 140 (by omega), H⟩⟩⟩
theorem rk_next0b {post : Int32 → St1 → Prop} (h0 : rk_W0 a14 a15 a16 a17 a18) (hC : C ≤ 130) (hp : a19 0 = nI C)
    (H : post (-1000000003) (nI C, o, p, f, nw, a1, a2, a3, a4, a5, a6, a7, a8, a9, a10, a11, a12, a13, a14, a15, a16, a17, a18, upd a19 0 (nI C), a20, a21, a22, a23)) : wpX_next post (nI C, o, p, f, nw, a1, a2, a3, a4, a5, a6, a7, a8, a9, a10, a11, a12, a13, a14, a15, a16, a17, a18, a19, a20, a21, a22, a23) 0 := by
  unfold wpX_next
  dsimp only
  rw [sb_cl0, h0.1, h0.2.1, hp]
  refine rk_bw (k := 0) (by omega) (br_t rfl ⟨pk_in 0 4 (by omega), br_f (by decide) ⟨pk_in 0 4 (by omega), br_t rfl ⟨pk_in 0 4 (by omega), nm_e ⟨1, pk_le C C (fun z => ⟨pk_in 0 4 (by omega), ?_⟩) (fun z => absurd z (by omega))⟩⟩⟩⟩)
  rw [sb_cl0]
  exact nm_e H
/-- what the drain handed out last -/
def rk_Pv (e : Nat → rk_E) (q : Nat) (x5 x6 : Int32) : Prop := (x5 = 0 ∧ x6 = -1) ∨ (∃ j, j < q ∧ x5 = nI (rk_rv (e j)) ∧ x6 = nI (rk_ky (e j)))
theorem rk_dr108 {post : Int64 → St1 → Prop} {J : Int64 → Int32 → Int32 → Int32 → Int32 → Int32 → Int32 → Int32 → Int32 → (Nat → Int32) → (Nat → Int32) → (Nat → Int32) → (Nat → Int32) → (Nat → Int32) → (Nat → Int32) → (Nat → Int32) → (Nat → Int32) → (Nat → Int32) → (Nat → Int32) → (Nat → Int32) → (Nat → Int32) → (Nat → Int32) → (Nat → Int32) → (Nat → Int32) → (Nat → Int32) → (Nat → Int32) → (Nat → Int32) → (Nat → Int32) → (Nat → Int32) → (Nat → Int32) → (Nat → Int32) → (Nat → Int32) → Prop}
    {s : Int64} {x5 x6 x8 : Int32} {i k v : Nat} {b : Bool} (hv : v ≤ 15) (H : J (rk_st s k (nI (if b = true then v else 31))) x8 (nI k) (nI (i + 1)) c o p f nw a1 a2 a3 a4 a5 a6 a7 a8 a9 a10 a11 a12 a13 a14 a15 a16 a17 a18 a19 a20 a21 a22 a23) : wL_drain_108 post J s x5 x6 (nI i) x8 (nI k) (rk_bI b) (nI v) 1 c o p f nw a1 a2 a3 a4 a5 a6 a7 a8 a9 a10 a11 a12 a13 a14 a15 a16 a17 a18 a19 a20 a21 a22 a23 := by
  unfold wL_drain_108
  refine br_f (by decide) ?_
  unfold wL_drain_120
  refine br_f (by decide) ?_
  unfold wL_drain_134
  refine br_f (by decide) ?_
  cases b with
  | true =>
    refine br_t rfl ?_
    unfold wL_drain_174
    rw [rk_v15 v (by omega)]
    exact nm_e (nm_r (nI_1 i) H)
  | false =>
    refine br_f (by decide) ?_
    unfold wL_drain_174
    exact nm_e (nm_r (nI_1 i) H)
theorem rk_dr11 {post : Int64 → St1 → Prop} (h0 : rk_W0 a14 a15 a16 a17 a18) (hA : rk_A e C a1 a2 a3 a4 a5 a6 a7 a8) (hW : rk_W e C P) (hC : C ≤ 130) (hP : P ≤ 200)
    (H : ∀ (s : Int64) (a19 a20 a21 a22 a23 : Nat → Int32), rk_T C a14 a15 a16 a17 a18 a19 → rk_S (fun k => rk_ow (rk_cu e k C)) s → post s (nI C, o, p, f, nw, a1, a2, a3, a4, a5, a6, a7, a8, a9, a10, a11, a12, a13, a14, a15, a16, a17, a18, a19, a20, a21, a22, a23)) :
    ∀ (fu i q : Nat) (s : Int64) (x5 x6 : Int32) (a19 a20 a21 a22 a23 : Nat → Int32), 120 - i < fu → i ≤ 120 → q ≤ C → C ≤ q + (120 - i) → rk_T q a14 a15 a16 a17 a18 a19 → rk_S (fun k => rk_ow (rk_cu e k q)) s → rk_Pv e q x5 x6 → wL_drain_11 post fu s x5 x6 (nI i) (nI C) o p f nw a1 a2 a3 a4 a5 a6 a7 a8 a9 a10 a11 a12 a13 a14 a15 a16 a17 a18 a19 a20 a21 a22 a23 := by
  intro fu
  induction fu with
  | zero =>
    intro i q s x5 x6 a19 a20 a21 a22 a23 hf
    exact absurd hf (by omega)
  | succ fu ih =>
    intro i q s x5 x6 a19 a20 a21 a22 a23 hf hi hq hqi hT hS hPv
    refine pk_le 120 i (fun z => ?_) (fun z => ?_)
    · have : q = C := by omega
      subst this
      exact H _ _ _ _ _ _ hT hS
    · by_cases hqC : q = C
      · subst hqC
        refine rk_next0b h0 hC hT.2.1 ?_
        dsimp only
        refine rk_handA (x := 0) (by omega) (fun y0 => rk_handA (x := 1) (by omega) (fun y1 => rk_handA (x := 2) (by omega) (fun y2 => br_t (by decide) ?_)))
        unfold wL_drain_59
        refine br_t rfl ?_
        unfold wL_drain_108
        refine br_t rfl ?_
        unfold wL_drain_120
        refine br_t rfl ?_
        unfold wL_drain_134
        refine br_t rfl (nm_r (nI_1 i) (ih (i + 1) q _ _ _ _ _ _ _ _ (by omega) (by omega) (by omega) (by omega) ⟨hT.1, pk_us, fun w hw => ?_⟩ hS hPv))
        by_cases t : w = 0
        · rw [t, pk_us]
          exact ⟨q, by omega, rfl⟩
        · rw [pk_un t]
          exact hT.2.2 w hw
      · have hq' : q < C := by omega
        obtain ⟨v1, v2, v3, v4, v5, _⟩ := hW.1 q hq'
        refine rk_next0a h0 hA hW hC hP hT.2.1 hq' ?_
        dsimp only
        refine rk_hand0 h0.1 pk_us (rk_hand1 h0.1 pk_us (rk_hand2 h0.1 pk_us ?_))
        rw [pk_us, pk_us, pk_us]
        refine pk_le (rk_rv (e q)) 0 (fun z => absurd z (by omega)) (fun _ => ?_)
        have key : wL_drain_108 post (wL_drain_11 post fu) s x5 x6 (nI i) (nI (rk_rv (e q))) (nI (rk_ky (e q))) (rk_bI (rk_pt (e q))) (nI (rk_vl (e q))) 1 (nI C) o p f nw a1 a2 a3 a4 a5 a6 a7 a8 a9 a10 a11 a12 a13 a14 a15 a16 a17 a18 (upd a19 0 (nI (q + 1))) (upd a20 0 1) (upd a21 0 (nI (rk_ky (e q)))) (upd a22 0 (rk_bI (rk_pt (e q)))) (upd a23 0 (nI (rk_vl (e q)))) := by
          refine rk_dr108 v4 (ih (i + 1) (q + 1) _ _ _ _ _ _ _ _ (by omega) (by omega) (by omega) (by omega) ⟨hT.1, pk_us, fun w hw => ?_⟩ (rk_S_st hS (by omega) (by split <;> omega) (fun j hj => ?_)) (Or.inr ⟨q, by omega, rfl, rfl⟩))
          · by_cases t : w = 0
            · rw [t, pk_us]
              exact ⟨q + 1, by omega, rfl⟩
            · rw [pk_un t]
              exact hT.2.2 w hw
          · show rk_ow (rk_cu e j (q + 1)) = _
            rw [rk_cu_s]
            by_cases t : rk_ky (e q) = j
            · rw [if_pos t, if_pos t.symm]
              cases rk_pt (e q) <;> rfl
            · rw [if_neg t, if_neg (fun t' => t t'.symm)]
        have key2 : wL_drain_87 post (wL_drain_11 post fu) s x5 x6 (nI i) (nI (rk_rv (e q))) (nI (rk_ky (e q))) (rk_bI (rk_pt (e q))) (nI (rk_vl (e q))) 1 (nI C) o p f nw a1 a2 a3 a4 a5 a6 a7 a8 a9 a10 a11 a12 a13 a14 a15 a16 a17 a18 (upd a19 0 (nI (q + 1))) (upd a20 0 1) (upd a21 0 (nI (rk_ky (e q)))) (upd a22 0 (rk_bI (rk_pt (e q)))) (upd a23 0 (nI (rk_vl (e q)))) := by
          unfold wL_drain_87
          refine pk_lt 7 (rk_ky (e q)) (fun z => absurd z (by omega)) (fun _ => rk_br (fun g => br_t ?_ key) (fun _ => key))
          rw [v5 g]
          rfl
        unfold wL_drain_59
        refine br_f (by decide) ?_
        rcases hPv with ⟨e5, e6⟩ | ⟨j, hj, e5, e6⟩
        · rw [e5]
          rw [e5] at key2
          exact pk_lt (rk_rv (e q)) 0 (fun z => absurd z (by omega)) (fun _ => pk_eq (rk_rv (e q)) 0 (fun z => absurd z (by omega)) (fun _ => key2))
        · rw [e5, e6]
          rw [e5, e6] at key2
          have hjq := hW.2 j q hj hq'
          have hj1 := (hW.1 j (by omega)).2.1
          have hj2 := (hW.1 j (by omega)).2.2.1
          have hjr : rk_rv (e j) < rk_rv (e q) ∨ (rk_rv (e j) = rk_rv (e q) ∧ rk_ky (e j) < rk_ky (e q)) := hjq
          exact pk_lt (rk_rv (e q)) (rk_rv (e j)) (fun z => absurd z (by omega)) (fun _ => pk_eq (rk_rv (e q)) (rk_rv (e j)) (fun z => pk_le (rk_ky (e q)) (rk_ky (e j)) (fun z' => absurd z' (by omega)) (fun _ => key2)) (fun _ => key2))
theorem rk_drain {post : Int64 → St1 → Prop} {s : Int64} (h : rk_J D e C P F O pl B a1 a2 a3 a4 a5 a6 a7 a8 a9 a14 a15 a16 a17 a18 a19) (hB : B ≤ 120) (hS : rk_S D s)
    (H : ∀ (s : Int64) (a19 a20 a21 a22 a23 : Nat → Int32), rk_J (fun k => rk_ow (rk_cu e k C)) e C P F O C B a1 a2 a3 a4 a5 a6 a7 a8 a9 a14 a15 a16 a17 a18 a19 → rk_S (fun k => rk_ow (rk_cu e k C)) s → post s (nI C, nI O, nI P, nI F, nw, a1, a2, a3, a4, a5, a6, a7, a8, a9, a10, a11, a12, a13, a14, a15, a16, a17, a18, a19, a20, a21, a22, a23)) :
    wpL_drain post (nI C, nI O, nI P, nI F, nw, a1, a2, a3, a4, a5, a6, a7, a8, a9, a10, a11, a12, a13, a14, a15, a16, a17, a18, a19, a20, a21, a22, a23) s := by
  obtain ⟨⟨b1, b2⟩, ⟨f1, f2, f3⟩, hA, hW, hL, hT, hD⟩ := h
  unfold wpL_drain
  exact ⟨121, rk_dr11 hT.1 hA hW (by omega) (by omega) (fun s a19 a20 a21 a22 a23 hT' hS' => H _ _ _ _ _ _ ⟨⟨b1, b2⟩, ⟨f1, by omega, Nat.le_refl C⟩, hA, hW, hL, hT', fun k _ => rfl⟩ hS') 121 0 pl s 0 (-1) _ _ _ _ _ (by omega) (by omega) f3 (by omega) hT (rk_S_congr hS (fun k hk => (hD k hk).symm)) (Or.inl ⟨rfl, rfl⟩)⟩
end
end
section
theorem rk_w3 : ∀ l, l < 4 → 1 + (nI l - nI l / 3 * 3) = nI (1 + l % 3) := by decide +kernel
theorem rk_w8 : ∀ v, v < 16 → 8 + (nI v - nI v / 8 * 8) = nI (8 + v % 8) := by decide +kernel
theorem rk_v2 : ∀ v, v < 16 → nI v >>> ((1 : Int32) &&& 31) = nI (v / 2) := by decide +kernel
theorem rk_subR {P F d : Nat} (hP : P ≤ 200) (hF : F ≤ P) (hd : d ≤ 7) (h : nI F ≤ nI P - nI d) : ∃ R, R + d = P ∧ F ≤ R ∧ nI P - nI d = nI R := by
  rcases Nat.lt_or_ge P d with z | z
  · exfalso
    have h1 := pk_sneg (a := P) (b := d) (by omega) z
    exact absurd (Int32.lt_of_le_of_lt (Int32.le_trans (nI_pos' (show F < 2 ^ 31 by omega)) h) h1) (Int32.lt_irrefl)
  · rw [pk_sub z] at h ⊢
    exact ⟨P - d, by omega, (nI_leI (by omega) (by omega)).mp h, rfl⟩
section
variable {c o p f nw : Int32} {a1 a2 a3 a4 a5 a6 a7 a8 a9 a10 a11 a12 a13 a14 a15 a16 a17 a18 a19 a20 a21 a22 a23 : Nat → Int32} {D : Nat → Nat} {e : Nat → rk_E} {C P F O pl B : Nat}
theorem rk_t92 {post : Int32 → St1 → Prop} {k v : Nat} {z0 : Int32} (h : rk_J D e C P F O pl B a1 a2 a3 a4 a5 a6 a7 a8 a9 a14 a15 a16 a17 a18 a19) (hB : B + 2 ≤ 130) (hk : k ≤ 7) (hv : v ≤ 15) (H : ∀ r u', rk_I D (B + 2) u' → post r u') : wL_turn_92 post (nI v) z0 (nI k) (nI C) (nI O) (nI P) (nI F) nw a1 a2 a3 a4 a5 a6 a7 a8 a9 a10 a11 a12 a13 a14 a15 a16 a17 a18 a19 a20 a21 a22 a23 := by
  unfold wL_turn_92
  exact rk_swap (rk_I_mk h) hB hk hv (fun r u' h' => H r u' h')
theorem rk_t127 {post : Int32 → St1 → Prop} {a b : Nat} (h : rk_J D e C P F O pl B a1 a2 a3 a4 a5 a6 a7 a8 a9 a14 a15 a16 a17 a18 a19) (hB : B + 2 ≤ 130) (ha : a ≤ b) (hb : b ≤ 15) (H : ∀ r u', rk_I D (B + 2) u' → post r u') : wL_turn_127 post (nI b) (nI a) (nI C) (nI O) (nI P) (nI F) nw a1 a2 a3 a4 a5 a6 a7 a8 a9 a10 a11 a12 a13 a14 a15 a16 a17 a18 a19 a20 a21 a22 a23 := by
  unfold wL_turn_127
  exact rk_erase (rk_I_mk h) (by omega) ha hb (fun r u' h' => H r u' (rk_I_le h' (by omega)))
theorem rk_t49 {post : Int32 → St1 → Prop} {k v : Nat} {l : Int32} (h : rk_J D e C P F O pl B a1 a2 a3 a4 a5 a6 a7 a8 a9 a14 a15 a16 a17 a18 a19) (hB : B + 2 ≤ 130) (hk : k ≤ 7) (hv : v ≤ 15) (hl : l = -1 ∨ ∃ j, j < 6 ∧ l = nI j) (H : ∀ r u', rk_I D (B + 2) u' → post r u') : wL_turn_49 post l (nI v) (nI k) (nI C) (nI O) (nI P) (nI F) nw a1 a2 a3 a4 a5 a6 a7 a8 a9 a10 a11 a12 a13 a14 a15 a16 a17 a18 a19 a20 a21 a22 a23 := by
  unfold wL_turn_49
  exact rk_put (rk_I_mk h) hB hk hv hl (fun r u' h' => H r u' h')
theorem rk_t262 {post : Int32 → St1 → Prop} {w a b : Nat} {r : Int32} (h : rk_J D e C P F O pl B a1 a2 a3 a4 a5 a6 a7 a8 a9 a14 a15 a16 a17 a18 a19) (hB : B + 2 ≤ 130) (hw : w < 4) (hw0 : w ≠ 0) (ha : a < 16) (hb : b < 16) (H : ∀ r u', rk_I D (B + 2) u' → post r u') : wL_turn_262 post r (nI b) (nI a) (nI w) (nI C) (nI O) (nI P) (nI F) nw a1 a2 a3 a4 a5 a6 a7 a8 a9 a10 a11 a12 a13 a14 a15 a16 a17 a18 a19 a20 a21 a22 a23 := by
  unfold wL_turn_262
  exact rk_watch (rk_I_mk h) (by omega) hw hw0 ha hb (fun r u' h' => H r u' (rk_I_le h' (by omega)))
theorem rk_turnN {post : Int32 → St1 → Prop} {u : St1} {p1 p2 : Int32} (h : rk_I D B u) (hB : B + 2 ≤ 130) (hne : ¬ p1 &&& 31 = 15) (H : ∀ r u', rk_I D (B + 2) u' → post r u') : wpL_turn post u p1 p2 := by
  obtain ⟨e, C, P, F, O, pl, nw, a1, a2, a3, a4, a5, a6, a7, a8, a9, a10, a11, a12, a13, a14, a15, a16, a17, a18, a19, a20, a21, a22, a23, rfl, h⟩ := h
  have hc := h.1.1
  obtain ⟨k, hk, ek⟩ := pk_andE p2 (m := 7) 3 (by decide)
  obtain ⟨l, hl, el⟩ := pk_andE (p2 >>> ((3 : Int32) &&& 31)) (m := 3) 2 (by decide)
  obtain ⟨v, hv, ev⟩ := pk_andE (p2 >>> ((5 : Int32) &&& 31)) (m := 15) 4 (by decide)
  have hk' : k ≤ 7 := by omega
  have hl' : l < 4 := by omega
  have hv' : v < 16 := by omega
  have hw : 1 + l % 3 < 4 := by omega
  have H' : ∀ r u', rk_I D B u' → post r u' := fun r u' h' => H r u' (rk_I_le h' (by omega))
  unfold wpL_turn
  dsimp only
  intro x3 hx3
  refine nm_r ek (nm_r el (nm_r ev ?_))
  rw [rk_w3 l hl', rk_w8 v hv']
  refine br_c (fun _ => br_c (fun _ => br_c (fun _ => br_c (fun z => absurd (hx3.symm.trans z) hne) (fun _ => br_c (fun _ => br_c (fun _ => ?_) (fun _ => br_c (fun _ => ?_) (fun _ => br_c (fun _ => br_c (fun _ => br_c (fun _ => ⟨by decide, ?_⟩) (fun _ => ⟨by decide, ?_⟩)) (fun _ => ?_)) (fun _ => ?_)))) (fun _ => ?_))) (fun _ => ?_)) (fun _ => ?_)) (fun _ => ?_)
  · exact rk_renew (rk_I_mk h) (by omega) (fun r u' h' => H' r u' h')
  · exact rk_revoke (rk_I_mk h) (by omega) (by omega) (fun r u' h' => H' r u' h')
  · exact rk_unwatch (rk_I_mk h) hw (by omega) (fun r u' h' => H' r u' h')
  · exact rk_next (rk_I_mk h) (by omega) hw (by omega) (fun r u' h' => H' r u' h')
  · unfold wpX_revision
    dsimp only
    exact ⟨by decide, by decide, br_c (fun _ => rk_t262 h hB hw (by omega) (by omega) (by omega) H) (fun _ => rk_t262 h hB hw (by omega) (by omega) (by omega) H)⟩
  · exact rk_advance (rk_I_mk h) (by omega) (fun r u' h' => H' r u' h')
  · exact rk_grant (rk_I_mk h) (by omega) (fun r u' h' => H' r u' h')
  · obtain ⟨j, hj, ej⟩ := pk_andE (nI v) (m := 7) 3 (by decide)
    rw [ej]
    exact pk_le k j (fun z => rk_t127 h hB z (by omega) H) (fun z => rk_t127 h hB (Nat.le_refl k) (by omega) H)
  · refine rk_set h.2.2.1 (by omega) (by omega) (br_c (fun _ => br_c (fun _ => ?_) (fun _ => ?_)) (fun _ => ?_))
    · unfold wL_turn_91
      exact rk_t92 h hB hk' (by omega) H
    · unfold wL_turn_91
      exact rk_t92 h hB hk' (by omega) H
    · exact rk_t92 h hB hk' (by omega) H
  · exact br_c (fun _ => rk_t49 h hB hk' (by omega) (Or.inl rfl) H) (fun _ => rk_t49 h hB hk' (by omega) (Or.inr ⟨l, by omega, rfl⟩) H)
theorem rk_cmp {post : Int32 → St1 → Prop} {d : Nat} (h : rk_J D e C P F O C B a1 a2 a3 a4 a5 a6 a7 a8 a9 a14 a15 a16 a17 a18 a19) (hB : B ≤ 130) (hd : d ≤ 7) (H : ∀ r u', rk_I D B u' → post r u') : wpX_compact post (nI C, nI O, nI P, nI F, nw, a1, a2, a3, a4, a5, a6, a7, a8, a9, a10, a11, a12, a13, a14, a15, a16, a17, a18, a19, a20, a21, a22, a23) (nI P - nI d) := by
  have hb := h.1.2
  by_cases z : nI F ≤ nI P - nI d
  · obtain ⟨R, h1, h2, h3⟩ := rk_subR (by omega) h.2.1.1 hd z
    rw [h3]
    exact rk_compact h hB h2 (by omega) (fun O' a1 a2 a3 a4 a5 a6 a7 a8 a10 a15 a19 _ _ h' => H _ _ (rk_I_mk h'))
  · unfold wpX_compact
    exact br_f z (H _ _ (rk_I_mk h))
theorem rk_turn15 {post : Int32 → St1 → Prop} {p1 p2 : Int32} (h : rk_J D e C P F O C B a1 a2 a3 a4 a5 a6 a7 a8 a9 a14 a15 a16 a17 a18 a19) (hB : B + 2 ≤ 130) (he : p1 &&& 31 = 15) (H : ∀ r u', rk_I D (B + 2) u' → post r u') : wpL_turn post (nI C, nI O, nI P, nI F, nw, a1, a2, a3, a4, a5, a6, a7, a8, a9, a10, a11, a12, a13, a14, a15, a16, a17, a18, a19, a20, a21, a22, a23) p1 p2 := by
  obtain ⟨v, hv, ev⟩ := pk_andE (p2 >>> ((5 : Int32) &&& 31)) (m := 15) 4 (by decide)
  unfold wpL_turn
  dsimp only
  refine nm_r he (nm_e (nm_e (nm_r ev (br_t (by decide) (br_t (by decide) (br_t (by decide) (br_t rfl ?_)))))))
  unfold wpX_revision
  dsimp only
  rw [rk_v2 v (by omega)]
  exact rk_cmp h (by omega) (by omega) (fun r u' h' => H r u' (rk_I_le h' (by omega)))
end
end
section
theorem rk_th_P {e : Nat → rk_E} {C P : Nat} (hW : rk_W e C P) : rk_ct (rk_th e C P) 16 = rk_X e C := by
  unfold rk_X
  refine rk_ct_congr (fun k _ => ?_)
  unfold rk_th rk_ex
  rw [rk_at_P hW (Nat.le_refl P)]
theorem rk_ne3 {j : Nat} (h : j < 2 ^ 31) : ¬ nI j = -1000000003 := by
  intro z
  have h1 := congrArg Int32.toInt z
  rw [nI_toInt h] at h1
  have h2 : (-1000000003 : Int32).toInt = -1000000003 := by decide
  rw [h2] at h1
  omega
theorem rk_Q_now {F P : Nat} (hF : F ≤ P) : rk_Q F P (nI P) (some P) := ⟨Nat.le_refl P, hF, Or.inr rfl⟩
theorem rk_Q_m1 {F P : Nat} (hF : F ≤ P) : rk_Q F P (-1) (some P) := ⟨Nat.le_refl P, hF, Or.inl ⟨rfl, rfl⟩⟩
theorem rk_Q_neg {F P : Nat} (hF : F < 2 ^ 31) : rk_Q F P (-1000000003) none :=
  ⟨by decide, fun z => absurd (Int32.le_trans (nI_pos' hF) z) (by decide)⟩
theorem rk_Q_ex {F P d : Nat} (hP : P ≤ 200) (hF : F ≤ P) (hd : d ≤ 7) : ∃ o, rk_Q F P (nI P - nI d) o ∧ (∀ R, o = some R → R = P ∨ R + d = P) := by
  rcases Nat.lt_or_ge P d with z | z
  · have h1 := pk_sub_toInt (a := P) (b := d) (by omega) (by omega)
    by_cases z1 : d = P + 1
    · refine ⟨some P, ⟨Nat.le_refl P, hF, Or.inl ⟨Int32.toInt_inj.mp ?_, rfl⟩⟩, fun R hR => Or.inl (Option.some.inj hR).symm⟩
      rw [h1]
      show (P : Int) - d = -1
      omega
    · refine ⟨none, ⟨fun t => ?_, fun t => ?_⟩, fun R hR => absurd hR (by simp)⟩
      · have h2 := congrArg Int32.toInt t
        rw [h1] at h2
        have h3 : (-1 : Int32).toInt = -1 := by decide
        rw [h3] at h2
        omega
      · have h2 := Int32.le_iff_toInt_le.mp t
        rw [h1, nI_toInt (by omega)] at h2
        omega
  · rw [pk_sub z]
    by_cases z1 : F ≤ P - d
    · exact ⟨some (P - d), ⟨by omega, z1, Or.inr rfl⟩, fun R hR => Or.inr (by have := Option.some.inj hR; omega)⟩
    · exact ⟨none, ⟨rk_m1 (by omega), nI_ge (by omega) (by omega)⟩, fun R hR => absurd hR (by simp)⟩
/-- the same question behind a forgetting -/
theorem rk_Q_cp {F P d d' R0 : Nat} {o : Option Nat} (hP : P ≤ 200) (hF : F ≤ R0) (h0 : R0 + d' = P) (hd : d ≤ 7) (hd' : d' ≤ 7) (h : rk_Q F P (nI P - nI d) o) (hR : ∀ R, o = some R → R = P ∨ R + d = P) (hn : ¬ nI P - nI d < nI P - nI d') : rk_Q R0 P (nI P - nI d) o ∧ ∀ R, o = some R → R0 ≤ R := by
  have hdd : d ≤ d' := by
    rcases Nat.lt_or_ge d' d with z | z
    · exfalso
      refine hn (Int32.lt_iff_toInt_lt.mpr ?_)
      rw [pk_sub_toInt (by omega) (by omega), pk_sub_toInt (by omega) (by omega)]
      omega
    · exact z
  cases o with
  | none =>
    refine ⟨⟨h.1, fun t => h.2 (Int32.le_trans (nI_le hF (by omega)) t)⟩, fun R hR => absurd hR (by simp)⟩
  | some R =>
    have h1 : R0 ≤ R := by
      rcases hR R rfl with g | g <;> omega
    exact ⟨⟨h.1, h1, h.2.2⟩, fun R' hR' => by have := Option.some.inj hR'; omega⟩
theorem rk_aC_cp {e : Nat → rk_E} {C P R0 : Nat} {o : Option Nat} (hW : rk_W e C P) (h : ∀ R, o = some R → R0 ≤ R) : rk_aC (rk_cp e C R0) (rk_ct (rk_kp e C R0) C) o = rk_aC e C o := by
  cases o with
  | none => rfl
  | some R =>
    show nI (rk_ct (rk_th (rk_cp e C R0) (rk_ct (rk_kp e C R0) C) R) 16) = nI (rk_ct (rk_th e C R) 16)
    rw [show rk_th (rk_cp e C R0) (rk_ct (rk_kp e C R0) C) R = rk_th e C R from funext (fun k => by unfold rk_th; rw [rk_cp_at hW (h R rfl)])]
theorem rk_aK_cp {e : Nat → rk_E} {C P R0 : Nat} {o : Option Nat} (hW : rk_W e C P) (h : ∀ R, o = some R → R0 ≤ R) : rk_aK (rk_cp e C R0) (rk_ct (rk_kp e C R0) C) o = rk_aK e C o := by
  cases o with
  | none => rfl
  | some R =>
    show rk_fk (rk_th (rk_cp e C R0) (rk_ct (rk_kp e C R0) C) R) 16 0 = rk_fk (rk_th e C R) 16 0
    rw [show rk_th (rk_cp e C R0) (rk_ct (rk_kp e C R0) C) R = rk_th e C R from funext (fun k => by unfold rk_th; rw [rk_cp_at hW (h R rfl)])]
theorem rk_aV_cp {e : Nat → rk_E} {C P R0 k : Nat} {o : Option Nat} (hW : rk_W e C P) (h : ∀ R, o = some R → R0 ≤ R) : rk_aV (rk_cp e C R0) (rk_ct (rk_kp e C R0) C) k o = rk_aV e C k o := by
  cases o with
  | none => rfl
  | some R =>
    show rk_oI rk_vl (rk_at (rk_cp e C R0) k R (rk_ct (rk_kp e C R0) C)) = rk_oI rk_vl (rk_at e k R C)
    rw [rk_cp_at hW (h R rfl)]
section
variable {c o p f nw : Int32} {a1 a2 a3 a4 a5 a6 a7 a8 a9 a10 a11 a12 a13 a14 a15 a16 a17 a18 a19 a20 a21 a22 a23 : Nat → Int32} {D : Nat → Nat} {e : Nat → rk_E} {C P F O pl B : Nat} {L : Nat} {xs : Nat → Int32} {kc ks : Nat} {post : Int32 → Prop}
/-! the last forgetting, and what is left -/
theorem rk_l637 {x6 : Int32} (hA : rk_A e C a1 a2 a3 a4 a5 a6 a7 a8) (hW : rk_W e C P) (hC : C ≤ 130) (hP : P ≤ 200) (hx : x6 = nI (rk_X e C)) (H : post 1) : wL_law_637 post L xs x6 (nI P) x6 0 kc ks (nI C) (nI C) (nI P) (nI P) nw a1 a2 a3 a4 a5 a6 a7 a8 a9 a10 a11 a12 a13 a14 a15 a16 a17 a18 a19 a20 a21 a22 a23 := by
  unfold wL_law_637 wpX_remembered wpX_rememberedNow
  dsimp only
  refine br_t rfl (br_t rfl (br_t ?_ (rk_count hA hW hC hP (rk_Q_now (Nat.le_refl P)) (br_t ?_ ?_))))
  · rw [pk_sub (Nat.le_refl C), Nat.sub_self]
    rfl
  · rw [hx]
    show nI (rk_ct (rk_th e C P) 16) = _
    rw [rk_th_P hW]
  · unfold wpX_revision
    dsimp only
    exact br_t rfl H
theorem rk_l560x {x2 x15 : Int32} {k : Nat} (h : rk_J D e C P F O C B a1 a2 a3 a4 a5 a6 a7 a8 a9 a14 a15 a16 a17 a18 a19) (hB : B ≤ 130) (hk : k < 8) (h2 : (x2 >>> ((5 : Int32) &&& 31)) &&& 7 = nI k) (h15 : 0 ≤ x15 ∨ x15 = -1000000004) (H : post 1) (fu : Nat) :
    wL_law_560 post L xs x2 (nI (rk_X e C)) (nI P) (rk_oI rk_vs (rk_cu e k C)) x15 1 kc ks (nI C) (nI O) (nI P) (nI F) nw a1 a2 a3 a4 a5 a6 a7 a8 a9 a10 a11 a12 a13 a14 a15 a16 a17 a18 a19 a20 a21 a22 a23 (fu + 1) (nI (rk_X e C)) (nI 16) := by
  have hW := h.2.2.2.1
  have hb := h.1
  have hn := rk_ct_le (rk_kp e C P) C
  refine pk_le 16 16 (fun _ => rk_compact h hB h.2.1.1 (Nat.le_refl P) (fun O' a1 a2 a3 a4 a5 a6 a7 a8 a10 a15 a19 _ hO h' => ?_)) (fun z => absurd z (by omega))
  have hO' := hO rfl
  subst hO'
  dsimp only
  rw [h2, Nat.sub_self]
  refine br_f (by decide) (rk_version h'.2.2.1 (by omega) (by omega) (br_t (by rw [rk_cp_cu hW (Nat.le_refl P)]) ?_))
  rcases h15 with g | g
  · exact br_t g (rk_l637 h'.2.2.1 h'.2.2.2.1 (by omega) (by omega) (by rw [rk_cp_X hW (Nat.le_refl P)]) H)
  · exact br_f (by rw [g]; decide) (br_t g (rk_l637 h'.2.2.1 h'.2.2.2.1 (by omega) (by omega) (by rw [rk_cp_X hW (Nat.le_refl P)]) H))
theorem rk_l560 {x2 x15 : Int32} {k : Nat} (h : rk_J D e C P F O C B a1 a2 a3 a4 a5 a6 a7 a8 a9 a14 a15 a16 a17 a18 a19) (hB : B ≤ 130) (hk : k < 8) (h2 : (x2 >>> ((5 : Int32) &&& 31)) &&& 7 = nI k) (h15 : 0 ≤ x15 ∨ x15 = -1000000004) (H : post 1) :
    ∀ (fu i : Nat), 16 - i < fu → i ≤ 16 → wL_law_560 post L xs x2 (nI (rk_X e C)) (nI P) (rk_oI rk_vs (rk_cu e k C)) x15 1 kc ks (nI C) (nI O) (nI P) (nI F) nw a1 a2 a3 a4 a5 a6 a7 a8 a9 a10 a11 a12 a13 a14 a15 a16 a17 a18 a19 a20 a21 a22 a23 fu (nI (rk_ct (fun k => rk_ex e k C) i)) (nI i) := by
  have hW := h.2.2.2.1
  have hb := h.1
  intro fu
  induction fu with
  | zero =>
    intro i hf
    exact absurd hf (by omega)
  | succ fu ih =>
    intro i hf hi
    by_cases z : i = 16
    · subst z
      exact rk_l560x h hB hk h2 h15 H fu
    · refine pk_le 16 i (fun z => absurd z (by omega)) (fun z => rk_value h.2.2.1 hW (by omega) (by omega) z (rk_Q_now h.2.1.1) ?_)
      have h1 := ih (i + 1) (by omega) (by omega)
      show (rk_oI rk_vl (rk_at e i P C) = -1000000003 → _) ∧ (¬ rk_oI rk_vl (rk_at e i P C) = -1000000003 → _)
      rw [rk_at_P hW (Nat.le_refl P)]
      cases hx : rk_ex e i C with
      | false =>
        rw [rk_ct_f (q := fun k => rk_ex e k C) hx] at h1
        rw [rk_cu_no hx]
        exact br_t rfl (nm_r (nI_1 i) h1)
      | true =>
        obtain ⟨j, hj, _, hc, _⟩ := rk_cu_of hx
        rw [rk_ct_t (q := fun k => rk_ex e k C) hx] at h1
        rw [hc]
        refine br_f (rk_ne3 ?_) (nm_r (nI_1 _) (nm_r (nI_1 i) h1))
        have := (hW.1 j hj).2.2.2.1
        omega
end
end
section
/-- under one of the leases below l -/
def rk_ql (a9 : Nat → Int32) : Nat → Nat → Bool
  | 0, _ => false
  | l + 1, k => rk_ql a9 l k || decide (a9 k = nI l)
theorem rk_ql_ex {a9 : Nat → Int32} {k : Nat} : ∀ {l : Nat}, rk_ql a9 l k = true → ∃ j, j < l ∧ a9 k = nI j := by
  intro l
  induction l with
  | zero =>
    intro h
    exact absurd h (by simp [rk_ql])
  | succ l ih =>
    intro h
    rcases Bool.or_eq_true_iff.mp (show (rk_ql a9 l k || decide (a9 k = nI l)) = true from h) with g | g
    · obtain ⟨j, h1, h2⟩ := ih g
      exact ⟨j, by omega, h2⟩
    · exact ⟨l, by omega, of_decide_eq_true g⟩
theorem rk_ql_ct {a9 : Nat → Int32} {l : Nat} (hl : l < 2 ^ 31) : rk_ct (rk_ql a9 (l + 1)) 16 = rk_ct (rk_ql a9 l) 16 + rk_ct (rk_q9 a9 (nI l)) 16 := by
  refine rk_ct_add (fun i _ => rfl) (fun i _ h => ?_)
  obtain ⟨j, h1, h2⟩ := rk_ql_ex h.1
  have h3 : a9 i = nI l := of_decide_eq_true h.2
  rw [h2, nI_eq (by omega) hl] at h3
  omega
section
variable {c o p f nw : Int32} {a1 a2 a3 a4 a5 a6 a7 a8 a9 a10 a11 a12 a13 a14 a15 a16 a17 a18 a19 a20 a21 a22 a23 : Nat → Int32} {D : Nat → Nat} {e : Nat → rk_E} {C P F O pl B : Nat} {L : Nat} {xs : Nat → Int32} {kc ks : Nat} {post : Int32 → Prop}
theorem rk_l353x {x2 : Int32} {s : Int64} {m : Nat} (h : rk_J D e C P F O C B a1 a2 a3 a4 a5 a6 a7 a8 a9 a14 a15 a16 a17 a18 a19) (hB : B ≤ 120) (hs : 0 ≤ s) (hm : m ≤ rk_X e C) (H : post 1) (fu : Nat) :
    wL_law_353 post L xs x2 0 s (nI (rk_X e C)) (nI P) kc ks (nI C) (nI O) (nI P) (nI F) nw a1 a2 a3 a4 a5 a6 a7 a8 a9 a10 a11 a12 a13 a14 a15 a16 a17 a18 a19 a20 a21 a22 a23 (fu + 1) (nI m) (nI 6) := by
  have hb := h.1
  obtain ⟨hF, hO, _⟩ := h.2.1
  have hA := h.2.2.1
  have hW := h.2.2.2.1
  have hT := h.2.2.2.2.2.1
  have hX : rk_X e C ≤ 16 := rk_ct_le _ 16
  obtain ⟨d', hd', ed'⟩ := pk_andE x2 (m := 7) 3 (by decide)
  obtain ⟨d, hd, ed⟩ := pk_andE (x2 >>> ((3 : Int32) &&& 31)) (m := 3) 2 (by decide)
  obtain ⟨k, hk, ek⟩ := pk_andE (x2 >>> ((5 : Int32) &&& 31)) (m := 7) 3 (by decide)
  have hk8 : k < 8 := by omega
  obtain ⟨o', hQ, hQR⟩ := rk_Q_ex (F := F) (P := P) (d := d) (by omega) hF (by omega)
  refine pk_le 6 6 (fun _ => br_t rfl (br_f (Int64.not_lt.mpr hs) (rk_count hA hW (by omega) (by omega) (rk_Q_m1 hF) (br_t ?_ (pk_lt (rk_X e C) m (fun z => absurd z (by omega)) (fun _ => rk_waiting hT.1 hA hW (by omega) (by omega) hT.2.1 (Nat.le_refl C) (br_t (by rw [Nat.sub_self]; rfl) ?_))))))) (fun z => absurd z (by omega))
  · show nI (rk_ct (rk_th e C P) 16) = _
    rw [rk_th_P hW]
  rw [ed', ed, ek]
  refine nm_e (nm_e (rk_count hA hW (by omega) (by omega) hQ (rk_keyAt hA hW (by omega) (by omega) hQ (rk_value hA hW (by omega) (by omega) (show k < 16 by omega) hQ (rk_version hA (by omega) (show k < 16 by omega) ?_)))))
  by_cases z : nI F ≤ nI P - nI d'
  · obtain ⟨R, h1, h2, h3⟩ := rk_subR (by omega) hF (by omega) z
    rw [h3]
    have hRP : R ≤ P := by omega
    have hn := rk_ct_le (rk_kp e C R) C
    refine rk_compact h (by omega) h2 hRP (fun O' a1 a2 a3 a4 a5 a6 a7 a8 a10 a15 a19 hO1 _ h' => ?_)
    have key : ∃ fu560, wL_law_560 post L xs x2 (nI (rk_X e C)) (nI P) (rk_oI rk_vs (rk_cu e k C)) (nI (rk_ct (rk_kp e C R) C - O')) 1 kc ks (nI (rk_ct (rk_kp e C R) C)) (nI O') (nI P) (nI R) nw a1 a2 a3 a4 a5 a6 a7 a8 a9 a10 a11 a12 a13 a14 a15 a16 a17 a18 a19 a20 a21 a22 a23 fu560 0 0 := by
      have k1 := rk_l560 (post := post) (L := L) (xs := xs) (kc := kc) (ks := ks) (x2 := x2) (x15 := nI (rk_ct (rk_kp e C R) C - O')) (nw := nw) (a10 := a10) (a11 := a11) (a12 := a12) (a13 := a13) (a20 := a20) (a21 := a21) (a22 := a22) (a23 := a23) h' (by omega) hk8 ek (Or.inl (nI_pos' (by omega))) H 17 0 (by omega) (by omega)
      rw [rk_cp_cu hW hRP, rk_cp_X hW hRP] at k1
      exact ⟨17, k1⟩
    dsimp only
    refine br_c (fun _ => key) (fun g => ?_)
    rw [← h3] at g
    obtain ⟨q1, q2⟩ := rk_Q_cp (by omega) h2 h1 (by omega) (by omega) hQ hQR g
    exact rk_count h'.2.2.1 h'.2.2.2.1 (by omega) (by omega) q1 (br_t (rk_aC_cp hW q2) (rk_keyAt h'.2.2.1 h'.2.2.2.1 (by omega) (by omega) q1 (br_t (rk_aK_cp hW q2) (rk_value h'.2.2.1 h'.2.2.2.1 (by omega) (by omega) (show k < 16 by omega) q1 (br_t (rk_aV_cp hW q2) key)))))
  · have key : ∃ fu560, wL_law_560 post L xs x2 (nI (rk_X e C)) (nI P) (rk_oI rk_vs (rk_cu e k C)) (-1000000004) 1 kc ks (nI C) (nI O) (nI P) (nI F) nw a1 a2 a3 a4 a5 a6 a7 a8 a9 a10 a11 a12 a13 a14 a15 a16 a17 a18 a19 a20 a21 a22 a23 fu560 0 0 := ⟨17, rk_l560 h (by omega) hk8 ek (Or.inr rfl) H 17 0 (by omega) (by omega)⟩
    unfold wpX_compact
    refine br_f z ?_
    dsimp only
    exact br_c (fun _ => key) (fun g => rk_count hA hW (by omega) (by omega) hQ (br_t rfl (rk_keyAt hA hW (by omega) (by omega) hQ (br_t rfl (rk_value hA hW (by omega) (by omega) (show k < 16 by omega) hQ (br_t rfl key))))))
theorem rk_l353 {x2 : Int32} {s : Int64} (h : rk_J D e C P F O C B a1 a2 a3 a4 a5 a6 a7 a8 a9 a14 a15 a16 a17 a18 a19) (hB : B ≤ 120) (hs : 0 ≤ s) (H : post 1) :
    ∀ (fu l m : Nat), 6 - l < fu → l ≤ 6 → m ≤ rk_ct (rk_ql a9 l) 16 → wL_law_353 post L xs x2 0 s (nI (rk_X e C)) (nI P) kc ks (nI C) (nI O) (nI P) (nI F) nw a1 a2 a3 a4 a5 a6 a7 a8 a9 a10 a11 a12 a13 a14 a15 a16 a17 a18 a19 a20 a21 a22 a23 fu (nI m) (nI l) := by
  intro fu
  induction fu with
  | zero =>
    intro l m hf
    exact absurd hf (by omega)
  | succ fu ih =>
    intro l m hf hl hm
    by_cases z : l = 6
    · subst z
      refine rk_l353x h hB hs (Nat.le_trans hm (rk_ct_imp (fun k hk hq => ?_))) H fu
      obtain ⟨j, h1, h2⟩ := rk_ql_ex hq
      rcases h.2.2.2.2.1 k hk with g | g
      · rw [h2] at g
        exact absurd g (rk_m1 (by omega))
      · exact g
    · have hq := rk_ql_ct (a9 := a9) (l := l) (by omega)
      refine pk_le 6 l (fun z => absurd z (by omega)) (fun z => rk_keysOf z (nm_r (nI_add m 0) (nm_r (nI_1 l) (ih (l + 1) (m + 0) (by omega) (by omega) (by omega)))) (nm_r (nI_add m _) (nm_r (nI_1 l) (ih (l + 1) _ (by omega) (by omega) (by omega)))))
/-! each key -/
theorem rk_l202n {J : Int32 → Int32 → Prop} {x2 x3 x6 x7 x8 x12 : Int32} {s : Int64} {i : Nat} (hA : rk_A e C a1 a2 a3 a4 a5 a6 a7 a8) (hC : C ≤ 130) (hi : i < 16) (hx : rk_ex e i C = false) (H : J x6 (nI (i + 1))) :
    wL_law_202 post L xs J x2 x3 s x6 x7 x8 (nI i) (-1000000003) (-1000000003) x12 (nI 31) kc ks (nI C) o p f nw a1 a2 a3 a4 a5 a6 a7 a8 a9 a10 a11 a12 a13 a14 a15 a16 a17 a18 a19 a20 a21 a22 a23 := by
  unfold wL_law_202
  refine br_t rfl ?_
  unfold wL_law_216
  refine br_t rfl ?_
  unfold wL_law_232
  refine pk_le 31 31 (fun _ => ?_) (fun z => absurd z (by omega))
  unfold wL_law_248
  refine br_t rfl (br_t rfl ?_)
  unfold wL_law_319
  exact br_t rfl (br_t rfl (rk_leaseOf hA (by omega) hi hx (br_t rfl (nm_r (nI_1 i) H))))
theorem rk_l202s {J : Int32 → Int32 → Prop} {x2 x3 x6 x7 x12 : Int32} {s : Int64} {i : Nat} {y : rk_E} (hA : rk_A e C a1 a2 a3 a4 a5 a6 a7 a8) (hC : C ≤ 130) (hP : P ≤ 200) (hi : i < 16) (hc : rk_cu e i C = some y) (hV : rk_V P y) (hp : rk_pt y = true) (h12 : x12 = nI (rk_vl y) ∨ x12 = -1000000004) (H : J (x6 + 1) (nI (i + 1))) :
    wL_law_202 post L xs J x2 x3 s x6 x7 (nI P) (nI i) (nI (rk_vl y)) (nI (rk_rv y)) x12 (nI (rk_vl y)) kc ks (nI C) o p f nw a1 a2 a3 a4 a5 a6 a7 a8 a9 a10 a11 a12 a13 a14 a15 a16 a17 a18 a19 a20 a21 a22 a23 := by
  obtain ⟨v1, v2, v3, v4, v5, v6⟩ := hV
  obtain ⟨w1, w2, w3, w4⟩ := v6 hp
  have key : wL_law_277 post L xs J x2 x3 s (x6 + 1) x7 (nI P) (nI i) (nI (rk_rv y)) 1 kc ks (nI C) o p f nw a1 a2 a3 a4 a5 a6 a7 a8 a9 a10 a11 a12 a13 a14 a15 a16 a17 a18 a19 a20 a21 a22 a23 := by
    unfold wL_law_277
    refine rk_version hA (by omega) hi (pk_lt P (rk_vs y) (fun z => absurd z (by omega)) (fun _ => rk_version hA (by omega) hi (pk_lt (rk_vs y) 1 (fun z => absurd z (by omega)) (fun _ => rk_made hA (by omega) hi (pk_lt (rk_rv y) (rk_md y) (fun z => absurd z (by omega)) (fun _ => rk_made hA (by omega) hi (pk_lt (rk_md y) 1 (fun z => absurd z (by omega)) (fun _ => ?_) (by rw [hc]; rfl) rfl)) rfl (by rw [hc]; rfl))) (by rw [hc]; rfl) rfl)) rfl (by rw [hc]; rfl))
    unfold wL_law_319
    exact br_f (by decide) (nm_r (nI_1 i) H)
  unfold wL_law_202
  refine br_f (rk_ne3 (by omega)) ?_
  unfold wL_law_216
  refine br_f (by decide) ?_
  unfold wL_law_232
  refine pk_le 31 (rk_vl y) (fun z => absurd z (by omega)) (fun _ => ?_)
  unfold wL_law_248
  refine br_t rfl (br_f (by decide) (br_t rfl ?_))
  rcases h12 with g | g
  · exact br_t g key
  · exact br_c (fun _ => key) (fun _ => br_t g key)
theorem rk_l144 {x2 : Int32} {s : Int64} (h : rk_J D e C P F O C B a1 a2 a3 a4 a5 a6 a7 a8 a9 a14 a15 a16 a17 a18 a19) (hB : B ≤ 120) (hS : rk_S D s) (H : post 1) :
    ∀ (fu i : Nat), 16 - i < fu → i ≤ 16 → wL_law_144 post L xs x2 0 s 0 (nI P) kc ks (nI C) (nI O) (nI P) (nI F) nw a1 a2 a3 a4 a5 a6 a7 a8 a9 a10 a11 a12 a13 a14 a15 a16 a17 a18 a19 a20 a21 a22 a23 fu (nI (rk_ct (fun k => rk_ex e k C) i)) (nI i) := by
  have hb := h.1
  have hF := h.2.1.1
  have hA := h.2.2.1
  have hW := h.2.2.2.1
  have hD := h.2.2.2.2.2.2
  intro fu
  induction fu with
  | zero =>
    intro i hf
    exact absurd hf (by omega)
  | succ fu ih =>
    intro i hf hi
    refine pk_le 16 i (fun z => ?_) (fun z => rk_value hA hW (by omega) (by omega) z (rk_Q_m1 hF) (rk_set hA (by omega) z ?_))
    · have : i = 16 := by omega
      subst this
      exact ⟨7, rk_l353 h hB (rk_S_pos hS) H 7 0 0 (by omega) (by omega) (by omega)⟩
    · have h1 := ih (i + 1) (by omega) (by omega)
      rw [show rk_aV e C i (some P) = rk_oI rk_vl (rk_cu e i C) from by show rk_oI rk_vl (rk_at e i P C) = _; rw [rk_at_P hW (Nat.le_refl P)]]
      cases hx : rk_ex e i C with
      | false =>
        rw [rk_ct_f (q := fun k => rk_ex e k C) hx] at h1
        rw [rk_cu_no hx]
        refine rk_value hA hW (by omega) (by omega) z (rk_Q_neg (by omega)) (pk_le 8 i (fun _ => rk_l202n hA (by omega) z hx h1) (fun z' => ?_))
        rw [show ((s >>> ((5 * nI i).toInt64 &&& 63)) &&& 31).toInt32 = nI 31 from (hS.2 i z').trans (by rw [← hD i z', rk_cu_no hx]; rfl)]
        exact rk_l202n hA (by omega) z hx h1
      | true =>
        rw [rk_ct_t (q := fun k => rk_ex e k C) hx, ← nI_1] at h1
        obtain ⟨j, hj, hl, hc, hp, hky⟩ := rk_cu_of hx
        have hV := hW.1 j hj
        have hi7 : i ≤ 7 := by
          have := hV.2.2.1
          omega
        rw [hc]
        have hdg : ((s >>> ((5 * nI i).toInt64 &&& 63)) &&& 31).toInt32 = nI (rk_vl (e j)) := (hS.2 i (by omega)).trans (by rw [← hD i (by omega), hc]; rfl)
        by_cases g : F ≤ rk_rv (e j)
        · refine rk_value (o' := some (rk_rv (e j))) hA hW (by omega) (by omega) z ⟨hV.2.1, g, Or.inr rfl⟩ (pk_le 8 i (fun z' => absurd z' (by omega)) (fun z' => ?_))
          rw [hdg]
          refine rk_l202s hA (by omega) (by omega) z hc hV hp (Or.inl ?_) h1
          show rk_oI rk_vl (rk_pk e (rk_ls (rk_qa e i (rk_rv (e j))) C)) = _
          rw [show rk_ls (rk_qa e i (rk_rv (e j))) C = some j from rk_ls_hit hl (decide_eq_true (Nat.le_refl _)), rk_pk_oI, if_pos hp]
        · refine rk_value (o' := none) hA hW (by omega) (by omega) z ⟨rk_m1 (by have := hV.2.1; omega), nI_ge (by omega) (by omega)⟩ (pk_le 8 i (fun z' => absurd z' (by omega)) (fun z' => ?_))
          rw [hdg]
          exact rk_l202s hA (by omega) (by omega) z hc hV hp (Or.inr rfl) h1
end
end
section
section
variable {c o p f nw : Int32} {a1 a2 a3 a4 a5 a6 a7 a8 a9 a10 a11 a12 a13 a14 a15 a16 a17 a18 a19 a20 a21 a22 a23 : Nat → Int32} {D : Nat → Nat} {e : Nat → rk_E} {C P F O pl B : Nat} {L : Nat} {xs : Nat → Int32} {kc ks : Nat} {post : Int32 → Prop}
theorem rk_l121 {x2 : Int32} {s : Int64} (h : rk_I D B (c, o, p, f, nw, a1, a2, a3, a4, a5, a6, a7, a8, a9, a10, a11, a12, a13, a14, a15, a16, a17, a18, a19, a20, a21, a22, a23)) (hB : B ≤ 120) (hS : rk_S D s) (H : post 1) : wL_law_121 post L xs x2 0 s kc ks c o p f nw a1 a2 a3 a4 a5 a6 a7 a8 a9 a10 a11 a12 a13 a14 a15 a16 a17 a18 a19 a20 a21 a22 a23 := by
  obtain ⟨e, C, P, F, O, pl, nw', a1', a2', a3', a4', a5', a6', a7', a8', a9', a10', a11', a12', a13', a14', a15', a16', a17', a18', a19', a20', a21', a22', a23', hu, hJ⟩ := h
  unfold wL_law_121
  rw [hu]
  refine rk_drain hJ hB hS (fun s a19 a20 a21 a22 a23 h' hS' => ?_)
  dsimp only
  unfold wpX_revision
  dsimp only
  exact ⟨17, rk_l144 h' hB hS' H 17 0 (by omega) (by omega)⟩
theorem rk_l79 {J : Int64 → Int32 → Int32 → Int32 → Int32 → Int32 → Int32 → (Nat → Int32) → (Nat → Int32) → (Nat → Int32) → (Nat → Int32) → (Nat → Int32) → (Nat → Int32) → (Nat → Int32) → (Nat → Int32) → (Nat → Int32) → (Nat → Int32) → (Nat → Int32) → (Nat → Int32) → (Nat → Int32) → (Nat → Int32) → (Nat → Int32) → (Nat → Int32) → (Nat → Int32) → (Nat → Int32) → (Nat → Int32) → (Nat → Int32) → (Nat → Int32) → (Nat → Int32) → (Nat → Int32) → Prop}
    {x2 x3 : Int32} {s : Int64} {i : Nat} (hi : i + 1 < L) (hL : L ≤ 260) (hB : B ≤ 120) (hS : rk_S D s)
    (ht : ∀ post' : Int32 → St1 → Prop, (∀ r u', rk_I D B u' → post' r u') → wpL_turn post' (c, o, p, f, nw, a1, a2, a3, a4, a5, a6, a7, a8, a9, a10, a11, a12, a13, a14, a15, a16, a17, a18, a19, a20, a21, a22, a23) (xs (nI i).toNatClampNeg) (xs (nI (i + 1)).toNatClampNeg))
    (H : ∀ (c' o' p' f' nw' : Int32) (a1' a2' a3' a4' a5' a6' a7' a8' a9' a10' a11' a12' a13' a14' a15' a16' a17' a18' a19' a20' a21' a22' a23' : Nat → Int32), rk_I D B (c', o', p', f', nw', a1', a2', a3', a4', a5', a6', a7', a8', a9', a10', a11', a12', a13', a14', a15', a16', a17', a18', a19', a20', a21', a22', a23') → J s (nI (i + 2)) c' o' p' f' nw' a1' a2' a3' a4' a5' a6' a7' a8' a9' a10' a11' a12' a13' a14' a15' a16' a17' a18' a19' a20' a21' a22' a23') : wL_law_79 post L xs J x2 x3 s (nI i) kc ks c o p f nw a1 a2 a3 a4 a5 a6 a7 a8 a9 a10 a11 a12 a13 a14 a15 a16 a17 a18 a19 a20 a21 a22 a23 := by
  unfold wL_law_79
  rw [nI_1]
  refine ⟨pk_in i L (by omega), pk_in (i + 1) L hi, ht _ (fun r u' h' => ?_)⟩
  have h'' := h'
  obtain ⟨e, C, P, F, O, pl, nw', a1', a2', a3', a4', a5', a6', a7', a8', a9', a10', a11', a12', a13', a14', a15', a16', a17', a18', a19', a20', a21', a22', a23', rfl, hJ⟩ := h'
  have hb := hJ.1
  obtain ⟨hF, hO, hp⟩ := hJ.2.1
  have hT := hJ.2.2.2.2.2.1
  dsimp only
  refine rk_waiting hT.1 hJ.2.2.1 hJ.2.2.2.1 (by omega) (by omega) hT.2.1 hp ?_
  unfold wpX_remembered wpX_rememberedNow
  dsimp only
  rw [pk_sub (show O ≤ C by omega)]
  exact pk_lt (C - O) (C - pl) (fun z => absurd z (by omega)) (fun _ => br_t (rk_S_pos hS) (nm_r (nI_add i 2) (H _ _ _ _ _ _ _ _ _ _ _ _ _ _ _ _ _ _ _ _ _ _ _ _ _ _ _ _ h'')))
theorem rk_l39 {x2 : Int32} (hL : L ≤ 260) (H : post 1) :
    ∀ (fu t : Nat) (D : Nat → Nat) (s : Int64) (c o p f nw : Int32) (a1 a2 a3 a4 a5 a6 a7 a8 a9 a10 a11 a12 a13 a14 a15 a16 a17 a18 a19 a20 a21 a22 a23 : Nat → Int32), 60 - t < fu → t ≤ 60 → rk_I D (2 * t) (c, o, p, f, nw, a1, a2, a3, a4, a5, a6, a7, a8, a9, a10, a11, a12, a13, a14, a15, a16, a17, a18, a19, a20, a21, a22, a23) → rk_S D s → wL_law_39 post L xs x2 0 kc ks fu s (nI (1 + 2 * t)) c o p f nw a1 a2 a3 a4 a5 a6 a7 a8 a9 a10 a11 a12 a13 a14 a15 a16 a17 a18 a19 a20 a21 a22 a23 := by
  intro fu
  induction fu with
  | zero =>
    intro t D s c o p f nw a1 a2 a3 a4 a5 a6 a7 a8 a9 a10 a11 a12 a13 a14 a15 a16 a17 a18 a19 a20 a21 a22 a23 hf
    exact absurd hf (by omega)
  | succ fu ih =>
    intro t D s c o p f nw a1 a2 a3 a4 a5 a6 a7 a8 a9 a10 a11 a12 a13 a14 a15 a16 a17 a18 a19 a20 a21 a22 a23 hf ht hI hS
    refine pk_le L (1 + 2 * t + 1) (fun z => rk_l121 hI (by omega) hS H) (fun z => pk_le 120 (1 + 2 * t) (fun z' => rk_l121 hI (by omega) hS H) (fun z' => ⟨pk_in (1 + 2 * t) L (by omega), ?_⟩)) rfl (nI_1 _)
    intro x7 hx7
    refine br_c (fun g => ?_) (fun g => ?_)
    · obtain ⟨e, C, P, F, O, pl, nw', a1', a2', a3', a4', a5', a6', a7', a8', a9', a10', a11', a12', a13', a14', a15', a16', a17', a18', a19', a20', a21', a22', a23', hu, hJ⟩ := hI
      rw [hu]
      refine rk_drain hJ (by omega) hS (fun s a19 a20 a21 a22 a23 h' hS' => ?_)
      dsimp only
      refine rk_l79 (B := 2 * (t + 1)) (by omega) hL (by omega) hS' (fun post' hp => rk_turn15 h' (by omega) (hx7.symm.trans g) hp) (fun c_ o_ p_ f_ nw_ a1_ a2_ a3_ a4_ a5_ a6_ a7_ a8_ a9_ a10_ a11_ a12_ a13_ a14_ a15_ a16_ a17_ a18_ a19_ a20_ a21_ a22_ a23_ hI' => ?_)
      rw [show 1 + 2 * t + 2 = 1 + 2 * (t + 1) by omega]
      exact ih (t + 1) _ _ _ _ _ _ _ _ _ _ _ _ _ _ _ _ _ _ _ _ _ _ _ _ _ _ _ _ _ _ (by omega) (by omega) hI' hS'
    · refine rk_l79 (B := 2 * (t + 1)) (by omega) hL (by omega) hS (fun post' hp => rk_turnN hI (by omega) (fun q => g (hx7.trans q)) hp) (fun c_ o_ p_ f_ nw_ a1_ a2_ a3_ a4_ a5_ a6_ a7_ a8_ a9_ a10_ a11_ a12_ a13_ a14_ a15_ a16_ a17_ a18_ a19_ a20_ a21_ a22_ a23_ hI' => ?_)
      rw [show 1 + 2 * t + 2 = 1 + 2 * (t + 1) by omega]
      exact ih (t + 1) _ _ _ _ _ _ _ _ _ _ _ _ _ _ _ _ _ _ _ _ _ _ _ _ _ _ _ _ _ _ (by omega) (by omega) hI' hS
/-! the start -/
def rk_z : Nat → Int32 := fun _ => 0
theorem rk_l20 {z0 : Int32} (hL : L ≤ 260) (h8 : ∀ k, k < 16 → a8 k = -1) (h9 : ∀ k, k < 16 → a9 k = -1) (h14 : a14 = fun _ => 0) (h19 : a19 = fun _ => 0) (H : post 1) : wL_law_20 post L xs z0 kc ks 0 0 0 0 nw a1 a2 a3 a4 a5 a6 a7 a8 a9 a10 a11 a12 a13 a14 a15 a16 a17 a18 a19 a20 a21 a22 a23 := by
  unfold wL_law_20 wpX_watch
  dsimp only
  rw [sb_cl0]
  refine rk_bw (k := 0) (by omega) (br_t rfl (rk_bk (k := 0) (by omega) (br_t rfl (rk_bk (k := 15) (by omega) (br_t rfl ⟨pk_in 0 4 (by omega), br_t (by rw [h14]) (br_f (by decide) (br_t (by decide) ?_))⟩)))))
  unfold wX_watch_57
  rw [sb_cl0]
  refine ⟨pk_in 0 4 (by omega), nm_e ⟨pk_in 0 4 (by omega), nm_e ⟨pk_in 0 4 (by omega), nm_e ⟨pk_in 0 4 (by omega), nm_e (br_f (by decide) ?_)⟩⟩⟩⟩
  unfold wX_watch_107
  rw [sb_cl0]
  refine ⟨pk_in 0 4 (by omega), nm_e ⟨pk_in 0 4 (by omega), nm_e ⟨pk_in 0 4 (by omega), nm_e ?_⟩⟩⟩
  dsimp only
  refine ⟨61, rk_l39 hL H 61 0 (fun _ => 31) 1099511627775 _ _ _ _ _ _ _ _ _ _ _ _ _ _ _ _ _ _ _ _ _ _ _ _ _ _ _ _ (by omega) (by omega) ?_ rk_S_0⟩
  refine rk_I_mk (e := fun _ => (0, 0, 0, false, 0, 0)) (C := 0) (P := 0) (F := 0) (O := 0) (pl := 0) ⟨⟨by decide, by decide⟩, ⟨by omega, by omega, by omega⟩, ⟨fun j hj => absurd hj (by omega), fun j hj => absurd hj (by omega), fun k hk => h8 k hk⟩, ⟨fun j hj => absurd hj (by omega), fun i j _ hj => absurd hj (by omega)⟩, fun k hk => Or.inl (h9 k hk), ⟨⟨pk_us, pk_us, pk_us, pk_us, pk_us⟩, pk_us, fun w hw => ⟨0, by omega, ?_⟩⟩, fun k _ => rfl⟩
  by_cases t : w = 0
  · rw [t, pk_us]
    rfl
  · rw [pk_un t, h19]
    rfl
theorem rk_i188 {post : St1 → Prop} {mc ms : Nat} (H : ∀ (a8 a9 : Nat → Int32), (∀ k, k < 16 → a8 k = -1) → (∀ k, k < 16 → a9 k = -1) → post (c, o, p, f, nw, a1, a2, a3, a4, a5, a6, a7, a8, a9, a10, a11, a12, a13, a14, a15, a16, a17, a18, a19, a20, a21, a22, a23)) :
    ∀ (fu i : Nat) (a8 a9 : Nat → Int32), 16 - i < fu → i ≤ 16 → (∀ k, k < i → a8 k = -1) → (∀ k, k < i → a9 k = -1) → wX_init_188 post mc ms kc ks c o p f nw fu (nI i) a1 a2 a3 a4 a5 a6 a7 a8 a9 a10 a11 a12 a13 a14 a15 a16 a17 a18 a19 a20 a21 a22 a23 := by
  intro fu
  induction fu with
  | zero =>
    intro i a8 a9 hf
    exact absurd hf (by omega)
  | succ fu ih =>
    intro i a8 a9 hf hi h8 h9
    refine pk_le 16 i (fun z => ?_) (fun z => ?_)
    · have : i = 16 := by omega
      subst this
      exact H _ _ h8 h9
    · rw [nI_clamp (show i < 2 ^ 31 by omega)]
      refine ⟨pk_in i 16 z, nm_e ⟨pk_in i 16 z, nm_e (nm_r (nI_1 i) (ih (i + 1) _ _ (by omega) (by omega) (fun k hk => ?_) (fun k hk => ?_)))⟩⟩
      · by_cases t : k = i
        · rw [t, pk_us]
        · rw [pk_un t]
          exact h8 k (by omega)
      · by_cases t : k = i
        · rw [t, pk_us]
        · rw [pk_un t]
          exact h9 k (by omega)
end
theorem i_vc (xs : Nat → Int32) (L : Nat) (hL : L ≤ 260) : wpL_law (fun r => r = 1) L xs := by
  unfold wpL_law
  refine ⟨23, 1210, by decide, by decide, ?_⟩
  unfold wpX_init
  refine ⟨by decide, by decide, by decide, by decide, by decide, by decide, by decide, by decide, by decide, by decide, by decide, by decide, by decide, by decide, by decide, by decide, by decide, by decide, by decide, by decide, by decide, by decide, by decide, by decide, by decide, by decide, by decide, by decide, by decide, by decide, by decide, by decide, by decide, by decide, by decide, by decide, by decide, by decide, by decide, by decide, by decide, by decide, by decide, by decide, by decide, by decide, 17, rk_i188 (fun a8 a9 h8 h9 => ?_) 17 0 _ _ (by omega) (by omega) (fun k hk => absurd hk (by omega)) (fun k hk => absurd hk (by omega))⟩
  dsimp only
  refine pk_le L 0 (fun z => rk_l20 hL h8 h9 rfl rfl rfl) (fun z => ⟨pk_in 0 L z, rk_l20 hL h8 h9 rfl rfl rfl⟩)
end
