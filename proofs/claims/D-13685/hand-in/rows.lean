section
/-! ===== chains: the first node from c on, along si, that has p ===== -/
def fl_fd (si : Nat → Nat) (p : Nat → Bool) : Nat → Nat → Nat
  | 0, _ => 0
  | n + 1, c => if c = 0 then 0 else if p c = true then c else if si c < c then fl_fd si p n (si c) else 0
def fl_find (si : Nat → Nat) (p : Nat → Bool) (c : Nat) : Nat := fl_fd si p c c
theorem fl_fd_eq {si : Nat → Nat} {p : Nat → Bool} : ∀ n m c, c ≤ n → c ≤ m → fl_fd si p n c = fl_fd si p m c := by
  intro n
  induction n with
  | zero =>
    intro m c h1 h2
    have e : c = 0 := by omega
    subst e
    cases m with
    | zero => rfl
    | succ m => simp [fl_fd]
  | succ n ih =>
    intro m c h1 h2
    cases m with
    | zero =>
      have e : c = 0 := by omega
      subst e
      simp [fl_fd]
    | succ m =>
      simp only [fl_fd]
      by_cases e : c = 0
      · rw [if_pos e, if_pos e]
      · by_cases g : p c = true
        · rw [if_neg e, if_neg e, if_pos g, if_pos g]
        · by_cases l : si c < c
          · rw [if_neg e, if_neg e, if_neg g, if_neg g, if_pos l, if_pos l]
            exact ih m (si c) (by omega) (by omega)
          · rw [if_neg e, if_neg e, if_neg g, if_neg g, if_neg l, if_neg l]
theorem fl_find_0 {si : Nat → Nat} {p : Nat → Bool} : fl_find si p 0 = 0 := rfl
theorem fl_find_t {si : Nat → Nat} {p : Nat → Bool} {c : Nat} (h : c ≠ 0) (hp : p c = true) : fl_find si p c = c := by
  cases c with
  | zero => exact absurd rfl h
  | succ c => simp [fl_find, fl_fd, hp]
theorem fl_find_f {si : Nat → Nat} {p : Nat → Bool} {c : Nat} (h : c ≠ 0) (hp : ¬ p c = true) (hs : si c < c) : fl_find si p c = fl_find si p (si c) := by
  cases c with
  | zero => exact absurd rfl h
  | succ c =>
    have e : fl_fd si p (c + 1) (c + 1) = fl_fd si p c (si (c + 1)) := by
      show (if c + 1 = 0 then 0 else if p (c + 1) = true then c + 1 else if si (c + 1) < c + 1 then fl_fd si p c (si (c + 1)) else 0) = _
      rw [if_neg h, if_neg hp, if_pos hs]
    exact e.trans (fl_fd_eq _ _ _ (by omega) (Nat.le_refl _))
theorem fl_find_sp {si ab : Nat → Nat} {p : Nat → Bool} {N : Nat} (hs : ∀ j, 0 < j → j < N → si j < j) (ha : ∀ j, 0 < j → j < N → 0 < si j → ab (si j) = ab j) : ∀ c, c < N → fl_find si p c < N ∧ (fl_find si p c ≠ 0 → p (fl_find si p c) = true ∧ ab (fl_find si p c) = ab c) := by
  intro c
  induction c using Nat.strongRecOn with
  | ind c ih =>
    intro hc
    by_cases e : c = 0
    · subst e
      rw [fl_find_0]
      exact ⟨hc, fun z => absurd rfl z⟩
    · by_cases g : p c = true
      · rw [fl_find_t e g]
        exact ⟨hc, fun _ => ⟨g, rfl⟩⟩
      · have l := hs c (by omega) hc
        rw [fl_find_f e g l]
        obtain ⟨i1, i2⟩ := ih (si c) l (by omega)
        refine ⟨i1, fun z => ?_⟩
        obtain ⟨q1, q2⟩ := i2 z
        refine ⟨q1, q2.trans (ha c (by omega) hc ?_)⟩
        rcases Nat.eq_zero_or_pos (si c) with y | y
        · rw [y, fl_find_0] at z
          exact absurd rfl z
        · exact y
theorem fl_find_cg {si si' : Nat → Nat} {p p' : Nat → Bool} {N : Nat} (hs : ∀ j, 0 < j → j < N → si j < j) (h1 : ∀ j, j < N → si' j = si j) (h2 : ∀ j, j < N → p' j = p j) : ∀ c, c < N → fl_find si' p' c = fl_find si p c := by
  intro c
  induction c using Nat.strongRecOn with
  | ind c ih =>
    intro hc
    by_cases e : c = 0
    · subst e
      rfl
    · by_cases g : p c = true
      · rw [fl_find_t e g, fl_find_t e ((h2 c hc).trans g)]
      · have l := hs c (by omega) hc
        have e1 := h1 c hc
        have l' : si' c < c := by omega
        have g' : ¬ p' c = true := fun z => g ((h2 c hc).symm.trans z)
        rw [fl_find_f e g l, fl_find_f e g' l', e1]
        exact ih (si c) l (by omega)
/-! ===== the picture of a tree: nodes, function, above, child, sister ===== -/
abbrev fl_P : Type := Nat × (Nat → Nat) × (Nat → Nat) × (Nat → Nat) × (Nat → Nat)
abbrev fl_n (S : fl_P) : Nat := S.1
abbrev fl_f (S : fl_P) : Nat → Nat := S.2.1
abbrev fl_a (S : fl_P) : Nat → Nat := S.2.2.1
abbrev fl_c (S : fl_P) : Nat → Nat := S.2.2.2.1
abbrev fl_s (S : fl_P) : Nat → Nat := S.2.2.2.2
def fl_is (S : fl_P) (x : Nat) : Nat → Bool := fun c => decide (fl_f S c = x)
/-- the child of v with function x; 0: none -/
def fl_nx (S : fl_P) (v x : Nat) : Nat := fl_find (fl_s S) (fl_is S x) (fl_c S v)
def fl_up (f : Nat → Nat) (k x : Nat) : Nat → Nat := fun j => if j = k then x else f j
theorem fl_us {f : Nat → Nat} {k x : Nat} : fl_up f k x k = x := if_pos rfl
theorem fl_un {f : Nat → Nat} {k x j : Nat} (h : j ≠ k) : fl_up f k x j = f j := if_neg h
def fl_add (S : fl_P) (v x : Nat) : fl_P := (fl_n S + 1, fl_up (fl_f S) (fl_n S) x, fl_up (fl_a S) (fl_n S) v, fl_up (fl_c S) v (fl_n S), fl_up (fl_s S) (fl_n S) (fl_c S v))
section
variable {S : fl_P} {v x j : Nat}
theorem fl_add_fN : fl_f (fl_add S v x) (fl_n S) = x := by
  show fl_up (fl_f S) (fl_n S) x (fl_n S) = x
  exact fl_us
theorem fl_add_fO (h : j ≠ fl_n S) : fl_f (fl_add S v x) j = fl_f S j := by
  show fl_up (fl_f S) (fl_n S) x j = _
  exact fl_un h
theorem fl_add_aN : fl_a (fl_add S v x) (fl_n S) = v := by
  show fl_up (fl_a S) (fl_n S) v (fl_n S) = v
  exact fl_us
theorem fl_add_aO (h : j ≠ fl_n S) : fl_a (fl_add S v x) j = fl_a S j := by
  show fl_up (fl_a S) (fl_n S) v j = _
  exact fl_un h
theorem fl_add_sN : fl_s (fl_add S v x) (fl_n S) = fl_c S v := by
  show fl_up (fl_s S) (fl_n S) (fl_c S v) (fl_n S) = _
  exact fl_us
theorem fl_add_sO (h : j ≠ fl_n S) : fl_s (fl_add S v x) j = fl_s S j := by
  show fl_up (fl_s S) (fl_n S) (fl_c S v) j = _
  exact fl_un h
theorem fl_add_cV : fl_c (fl_add S v x) v = fl_n S := by
  show fl_up (fl_c S) v (fl_n S) v = _
  exact fl_us
theorem fl_add_cO (h : j ≠ v) : fl_c (fl_add S v x) j = fl_c S j := by
  show fl_up (fl_c S) v (fl_n S) j = _
  exact fl_un h
end
def fl_wf (S : fl_P) : Prop := 1 ≤ fl_n S ∧ fl_n S ≤ 321 ∧ (∀ j, 0 < j → j < fl_n S → fl_f S j ≤ 7) ∧ (∀ j, j < fl_n S → fl_a S j < fl_n S) ∧ (∀ j, j < fl_n S → fl_c S j < fl_n S) ∧ (∀ j, 0 < j → j < fl_n S → fl_s S j < j)
  ∧ (∀ j, fl_n S ≤ j → fl_c S j = 0) ∧ (∀ j, j < fl_n S → 0 < fl_c S j → fl_a S (fl_c S j) = j) ∧ (∀ j, 0 < j → j < fl_n S → 0 < fl_s S j → fl_a S (fl_s S j) = fl_a S j) ∧ (∀ j, 0 < j → j < fl_n S → fl_nx S (fl_a S j) (fl_f S j) = j)
theorem fl_nx_sp {S : fl_P} (w : fl_wf S) {v x : Nat} (hv : v < fl_n S) : fl_nx S v x < fl_n S ∧ (fl_nx S v x ≠ 0 → fl_f S (fl_nx S v x) = x ∧ fl_a S (fl_nx S v x) = v) := by
  obtain ⟨w1, w2, w3, w4, w5, w6, w7, w8, w9, w10⟩ := w
  obtain ⟨i1, i2⟩ := fl_find_sp (si := fl_s S) (ab := fl_a S) (p := fl_is S x) w6 w9 (fl_c S v) (w5 v hv)
  refine ⟨i1, fun z => ?_⟩
  obtain ⟨q1, q2⟩ := i2 z
  refine ⟨of_decide_eq_true q1, q2.trans (w8 v hv ?_)⟩
  rcases Nat.eq_zero_or_pos (fl_c S v) with y | y
  · have z' : fl_find (fl_s S) (fl_is S x) (fl_c S v) ≠ 0 := z
    rw [y, fl_find_0] at z'
    exact absurd rfl z'
  · exact y
theorem fl_nx_add {S : fl_P} (w : fl_wf S) {v x u g : Nat} (hv : v < fl_n S) (h0 : fl_nx S v x = 0) (hu : u < fl_n S) (hr : fl_nx S u g ≠ 0) : fl_nx (fl_add S v x) u g = fl_nx S u g := by
  obtain ⟨w1, w2, w3, w4, w5, w6, w7, w8, w9, w10⟩ := w
  have cg : ∀ c, c < fl_n S → fl_find (fl_s (fl_add S v x)) (fl_is (fl_add S v x) g) c = fl_find (fl_s S) (fl_is S g) c :=
    fl_find_cg w6 (fun j hj => fl_add_sO (by omega)) (fun j hj => by
      have q : fl_f (fl_add S v x) j = fl_f S j := fl_add_fO (by omega)
      show decide (fl_f (fl_add S v x) j = g) = decide (fl_f S j = g)
      rw [q])
  by_cases e : u = v
  · subst e
    have c1 : fl_c (fl_add S u x) u = fl_n S := fl_add_cV
    have s1 : fl_s (fl_add S u x) (fl_n S) = fl_c S u := fl_add_sN
    have p1 : ¬ fl_is (fl_add S u x) g (fl_n S) = true := by
      intro z
      have z1 : fl_f (fl_add S u x) (fl_n S) = g := of_decide_eq_true z
      rw [fl_add_fN] at z1
      subst z1
      exact hr h0
    show fl_find (fl_s (fl_add S u x)) (fl_is (fl_add S u x) g) (fl_c (fl_add S u x) u) = _
    have l := w5 u hu
    have l1 : fl_s (fl_add S u x) (fl_n S) < fl_n S := by
      rw [s1]
      exact l
    have n0 : fl_n S ≠ 0 := by omega
    rw [c1, fl_find_f n0 p1 l1, s1]
    exact cg _ l
  · have c1 : fl_c (fl_add S v x) u = fl_c S u := fl_add_cO e
    show fl_find (fl_s (fl_add S v x)) (fl_is (fl_add S v x) g) (fl_c (fl_add S v x) u) = _
    rw [c1]
    exact cg _ (w5 u hu)
theorem fl_add_wf {S : fl_P} (w : fl_wf S) {v x : Nat} (hv : v < fl_n S) (hx : x ≤ 7) (hN : fl_n S < 321) (h0 : fl_nx S v x = 0) : fl_wf (fl_add S v x) := by
  have w' := w
  obtain ⟨w1, w2, w3, w4, w5, w6, w7, w8, w9, w10⟩ := w
  have n1 : fl_n (fl_add S v x) = fl_n S + 1 := rfl
  have fN : fl_f (fl_add S v x) (fl_n S) = x := fl_add_fN
  have aN : fl_a (fl_add S v x) (fl_n S) = v := fl_add_aN
  have sN : fl_s (fl_add S v x) (fl_n S) = fl_c S v := fl_add_sN
  have cV : fl_c (fl_add S v x) v = fl_n S := fl_add_cV
  have fO : ∀ j, j ≠ fl_n S → fl_f (fl_add S v x) j = fl_f S j := fun j h => fl_add_fO h
  have aO : ∀ j, j ≠ fl_n S → fl_a (fl_add S v x) j = fl_a S j := fun j h => fl_add_aO h
  have sO : ∀ j, j ≠ fl_n S → fl_s (fl_add S v x) j = fl_s S j := fun j h => fl_add_sO h
  have cO : ∀ j, j ≠ v → fl_c (fl_add S v x) j = fl_c S j := fun j h => fl_add_cO h
  have l := w5 v hv
  refine ⟨by omega, by omega, fun j h1 h2 => ?_, fun j h2 => ?_, fun j h2 => ?_, fun j h1 h2 => ?_, fun j h2 => ?_, fun j h2 h3 => ?_, fun j h1 h2 h3 => ?_, fun j h1 h2 => ?_⟩
  · by_cases e : j = fl_n S
    · rw [e, fN]; exact hx
    · rw [fO j e]; exact w3 j h1 (by omega)
  · by_cases e : j = fl_n S
    · rw [e, aN]; omega
    · rw [aO j e]; have := w4 j (by omega); omega
  · by_cases e : j = v
    · rw [e, cV]; omega
    · rw [cO j e]
      rcases Nat.lt_or_ge j (fl_n S) with y | y
      · have := w5 j y; omega
      · rw [w7 j y]; omega
  · by_cases e : j = fl_n S
    · rw [e, sN]; exact l
    · rw [sO j e]; exact w6 j h1 (by omega)
  · rw [cO j (by omega)]
    exact w7 j (by omega)
  · by_cases e : j = v
    · rw [e, cV, aN]
    · rw [cO j e] at h3 ⊢
      rcases Nat.lt_or_ge j (fl_n S) with y | y
      · have := w5 j y
        rw [aO (fl_c S j) (by omega)]
        exact w8 j y h3
      · rw [w7 j y] at h3
        exact absurd h3 (by omega)
  · by_cases e : j = fl_n S
    · rw [e, sN] at h3 ⊢
      rw [aN, aO (fl_c S v) (by omega)]
      exact w8 v hv h3
    · rw [sO j e] at h3 ⊢
      have := w6 j h1 (by omega)
      rw [aO j e, aO (fl_s S j) (by omega)]
      exact w9 j h1 (by omega) h3
  · by_cases e : j = fl_n S
    · rw [e, aN, fN]
      show fl_find (fl_s (fl_add S v x)) (fl_is (fl_add S v x) x) (fl_c (fl_add S v x) v) = _
      rw [cV]
      exact fl_find_t (by omega) (decide_eq_true fN)
    · rw [aO j e, fO j e]
      have q := w10 j h1 (by omega)
      exact (fl_nx_add w' hv h0 (w4 j (by omega)) (by rw [q]; omega)).trans q
/-! ===== a sample's walk down ===== -/
def fl_sp (S : fl_P) (v x : Nat) : fl_P × Nat := if fl_nx S v x = 0 then (fl_add S v x, fl_n S) else (S, fl_nx S v x)
def fl_run (S : fl_P) (st : Nat → Nat) : Nat → fl_P × Nat
  | 0 => (S, 0)
  | k + 1 => fl_sp (fl_run S st k).1 (fl_run S st k).2 (st k)
theorem fl_sp_t {S : fl_P} {v x : Nat} (h : fl_nx S v x = 0) : fl_sp S v x = (fl_add S v x, fl_n S) := if_pos h
theorem fl_sp_f {S : fl_P} {v x : Nat} (h : ¬ fl_nx S v x = 0) : fl_sp S v x = (S, fl_nx S v x) := if_neg h
/-- what the walk keeps: k steps from S -/
def fl_R (S : fl_P) (st : Nat → Nat) (k : Nat) : Prop := fl_wf (fl_run S st k).1 ∧ (fl_run S st k).2 < fl_n (fl_run S st k).1 ∧ fl_n (fl_run S st k).1 ≤ fl_n S + k
  ∧ (∀ i, i < k → 0 < (fl_run S st (i + 1)).2 ∧ (fl_run S st (i + 1)).2 < fl_n (fl_run S st k).1 ∧ fl_f (fl_run S st k).1 (fl_run S st (i + 1)).2 = st i ∧ fl_a (fl_run S st k).1 (fl_run S st (i + 1)).2 = (fl_run S st i).2)
theorem fl_run_ok {S : fl_P} (w : fl_wf S) {st : Nat → Nat} : ∀ k, fl_n S + k ≤ 321 → (∀ i, i < k → st i ≤ 7) → fl_R S st k := by
  intro k
  induction k with
  | zero => exact fun _ _ => ⟨w, w.1, Nat.le_refl _, fun i hi => absurd hi (by omega)⟩
  | succ k ih =>
    intro hN hst
    obtain ⟨r1, r2, r3, r4⟩ := ih (by omega) (fun i hi => hst i (by omega))
    have hk := hst k (by omega)
    obtain ⟨n1, n2⟩ := fl_nx_sp r1 (x := st k) r2
    by_cases e : fl_nx (fl_run S st k).1 (fl_run S st k).2 (st k) = 0
    · have E : fl_run S st (k + 1) = (fl_add (fl_run S st k).1 (fl_run S st k).2 (st k), fl_n (fl_run S st k).1) := fl_sp_t e
      have E2 : (fl_run S st (k + 1)).2 = fl_n (fl_run S st k).1 := by rw [E]
      have E1 : (fl_run S st (k + 1)).1 = fl_add (fl_run S st k).1 (fl_run S st k).2 (st k) := by rw [E]
      have m1 : fl_n (fl_run S st (k + 1)).1 = fl_n (fl_run S st k).1 + 1 := by rw [E1]; rfl
      refine ⟨by rw [E1]; exact fl_add_wf r1 r2 hk (by omega) e, by rw [E2, m1]; omega, by rw [m1]; omega, fun i hi => ?_⟩
      by_cases ei : i = k
      · subst ei
        rw [m1, E2, E1]
        exact ⟨r1.1, by omega, fl_add_fN, fl_add_aN⟩
      · obtain ⟨p1, p2, p3, p4⟩ := r4 i (by omega)
        rw [m1, E1]
        exact ⟨p1, by omega, (fl_add_fO (by omega)).trans p3, (fl_add_aO (by omega)).trans p4⟩
    · have E : fl_run S st (k + 1) = ((fl_run S st k).1, fl_nx (fl_run S st k).1 (fl_run S st k).2 (st k)) := fl_sp_f e
      have E2 : (fl_run S st (k + 1)).2 = fl_nx (fl_run S st k).1 (fl_run S st k).2 (st k) := by rw [E]
      have E1 : (fl_run S st (k + 1)).1 = (fl_run S st k).1 := by rw [E]
      refine ⟨by rw [E1]; exact r1, by rw [E2, E1]; exact n1, by rw [E1]; omega, fun i hi => ?_⟩
      by_cases ei : i = k
      · subst ei
        rw [E2, E1]
        exact ⟨by omega, n1, (n2 e).1, (n2 e).2⟩
      · rw [E1]
        exact r4 i (by omega)
/-- a second walk down the same path makes nothing -/
theorem fl_run_id {S : fl_P} {st : Nat → Nat} {d : Nat} (r : fl_R S st d) : ∀ k, k ≤ d → fl_run (fl_run S st d).1 st k = ((fl_run S st d).1, (fl_run S st k).2) := by
  intro k
  induction k with
  | zero => exact fun _ => rfl
  | succ k ih =>
    intro hk
    obtain ⟨r1, r2, r3, r4⟩ := r
    obtain ⟨p1, p2, p3, p4⟩ := r4 k (by omega)
    obtain ⟨w1, w2, w3, w4, w5, w6, w7, w8, w9, w10⟩ := r1
    have q := w10 _ p1 p2
    rw [p3, p4] at q
    show fl_sp (fl_run (fl_run S st d).1 st k).1 (fl_run (fl_run S st d).1 st k).2 (st k) = _
    rw [ih (by omega)]
    show fl_sp (fl_run S st d).1 (fl_run S st k).2 (st k) = _
    have ne : ¬ fl_nx (fl_run S st d).1 (fl_run S st k).2 (st k) = 0 := by
      rw [q]
      omega
    rw [fl_sp_f ne, q]
/-! ===== the weights that a sample adds ===== -/
def fl_ad (v : Nat → Nat) (w : Int32) : Nat → Nat → Int32
  | 0, j => if j = 0 then w else 0
  | k + 1, j => fl_ad v w k j + (if j = v (k + 1) then w else 0)
theorem fl_if_add {i j : Nat} (a b : Int32) : (if i = j then a + b else 0) = (if i = j then a else 0) + (if i = j then b else 0) := by
  by_cases h : i = j
  · simp [h]
  · simp [h]
theorem fl_ad_add {v : Nat → Nat} {a b : Int32} : ∀ k j, fl_ad v (a + b) k j = fl_ad v a k j + fl_ad v b k j := by
  intro k
  induction k with
  | zero => exact fun j => fl_if_add a b
  | succ k ih =>
    intro j
    show fl_ad v (a + b) k j + (if j = v (k + 1) then a + b else 0) = (fl_ad v a k j + (if j = v (k + 1) then a else 0)) + (fl_ad v b k j + (if j = v (k + 1) then b else 0))
    rw [ih j, fl_if_add]
    generalize fl_ad v a k j = p
    generalize fl_ad v b k j = q
    generalize (if j = v (k + 1) then a else 0) = r
    generalize (if j = v (k + 1) then b else 0) = s
    grind
theorem fl_ad_cg {v v' : Nat → Nat} {a : Int32} : ∀ k j, (∀ i, i ≤ k → v i = v' i) → fl_ad v a k j = fl_ad v' a k j := by
  intro k
  induction k with
  | zero => exact fun j _ => rfl
  | succ k ih =>
    intro j h
    show fl_ad v a k j + (if j = v (k + 1) then a else 0) = fl_ad v' a k j + (if j = v' (k + 1) then a else 0)
    rw [ih j (fun i hi => h i (by omega)), h (k + 1) (Nat.le_refl _)]
/-! ===== the node of the path on the stack ===== -/
def fl_n1 (S : fl_P) (x : Nat) : Option Nat → Option Nat
  | none => none
  | some v => if fl_nx S v x = 0 then none else some (fl_nx S v x)
def fl_nos (S : fl_P) (st : Nat → Nat) : Nat → Option Nat
  | 0 => some 0
  | k + 1 => fl_n1 S (st k) (fl_nos S st k)
def fl_en : Option Nat → Int32
  | none => -1
  | some v => nI v
def fl_val (g : Nat → Int32) : Option Nat → Int32
  | none => 0
  | some v => g v
theorem fl_nos_s {S : fl_P} {st : Nat → Nat} {k v : Nat} (h : fl_nos S st k = some v) : fl_nos S st (k + 1) = if fl_nx S v (st k) = 0 then none else some (fl_nx S v (st k)) := by
  show fl_n1 S (st k) (fl_nos S st k) = _
  rw [h]
  rfl
theorem fl_nos_n {S : fl_P} {st : Nat → Nat} {k : Nat} (h : fl_nos S st k = none) : ∀ m, fl_nos S st (k + m) = none := by
  intro m
  induction m with
  | zero => exact h
  | succ m ih =>
    show fl_n1 S (st (k + m)) (fl_nos S st (k + m)) = _
    rw [ih]
    rfl
theorem fl_nos_cg {S : fl_P} {st st' : Nat → Nat} : ∀ k, (∀ i, i < k → st i = st' i) → fl_nos S st k = fl_nos S st' k := by
  intro k
  induction k with
  | zero => exact fun _ => rfl
  | succ k ih =>
    intro h
    have e := ih (fun i hi => h i (by omega))
    show fl_n1 S (st k) (fl_nos S st k) = fl_n1 S (st' k) (fl_nos S st' k)
    rw [e, h k (by omega)]
theorem fl_nos_lt {S : fl_P} (w : fl_wf S) {st : Nat → Nat} : ∀ k v, fl_nos S st k = some v → v < fl_n S := by
  intro k
  induction k with
  | zero =>
    intro v h
    have e : (some 0 : Option Nat) = some v := h
    have := Option.some.inj e
    have := w.1
    omega
  | succ k ih =>
    intro v h
    cases e : fl_nos S st k with
    | none =>
      rw [fl_nos_n e 1] at h
      exact absurd h.symm (Option.some_ne_none v)
    | some u =>
      rw [fl_nos_s e] at h
      by_cases g : fl_nx S u (st k) = 0
      · rw [if_pos g] at h
        exact absurd h.symm (Option.some_ne_none v)
      · rw [if_neg g] at h
        have := Option.some.inj h
        have := (fl_nx_sp w (x := st k) (ih u e)).1
        omega
/-! ===== what the questions sum up ===== -/
def fl_dp (ab : Nat → Nat) : Nat → Nat → Nat
  | 0, _ => 0
  | m + 1, n => if n = 0 then 0 else 1 + fl_dp ab m (ab n)
def fl_sa (ab : Nat → Nat) (p : Nat → Bool) : Nat → Nat → Bool
  | 0, _ => false
  | m + 1, n => if n = 0 then false else if p n = true then true else fl_sa ab p m (ab n)
def fl_sm (f : Nat → Int32) : Nat → Int32
  | 0 => 0
  | i + 1 => if i = 0 then 0 else fl_sm f i + f i
def fl_mx (f : Nat → Int32) : Nat → Int32
  | 0 => 0
  | i + 1 => if i = 0 then 0 else if f i ≤ fl_mx f i then fl_mx f i else f i
def fl_hm (si : Nat → Nat) (to : Nat → Int32) : Nat → Nat → Int32 → Int32
  | 0, _, m => m
  | n + 1, c, m => if c = 0 then m else fl_hm si to n (si c) (if m < to c then to c else m)
theorem fl_sm_s {f : Nat → Int32} {i : Nat} (h : 1 ≤ i) : fl_sm f (i + 1) = fl_sm f i + f i := if_neg (by omega)
theorem fl_mx_s {f : Nat → Int32} {i : Nat} (h : 1 ≤ i) : fl_mx f (i + 1) = if f i ≤ fl_mx f i then fl_mx f i else f i := if_neg (by omega)
theorem fl_dp_0 {ab : Nat → Nat} : ∀ m, fl_dp ab m 0 = 0
  | 0 => rfl
  | m + 1 => rfl
theorem fl_dp_s {ab : Nat → Nat} {m n : Nat} (h : n ≠ 0) : fl_dp ab (m + 1) n = 1 + fl_dp ab m (ab n) := if_neg h
theorem fl_sa_0 {ab : Nat → Nat} {p : Nat → Bool} : ∀ m, fl_sa ab p m 0 = false
  | 0 => rfl
  | m + 1 => rfl
theorem fl_sa_t {ab : Nat → Nat} {p : Nat → Bool} {m n : Nat} (h : n ≠ 0) (g : p n = true) : fl_sa ab p (m + 1) n = true := (if_neg h).trans (if_pos g)
theorem fl_sa_f {ab : Nat → Nat} {p : Nat → Bool} {m n : Nat} (h : n ≠ 0) (g : ¬ p n = true) : fl_sa ab p (m + 1) n = fl_sa ab p m (ab n) := (if_neg h).trans (if_neg g)
theorem fl_hm_0 {si : Nat → Nat} {to : Nat → Int32} {m : Int32} : ∀ n, fl_hm si to n 0 m = m
  | 0 => rfl
  | n + 1 => rfl
theorem fl_hm_s {si : Nat → Nat} {to : Nat → Int32} {m : Int32} {n c : Nat} (h : c ≠ 0) : fl_hm si to (n + 1) c m = fl_hm si to n (si c) (if m < to c then to c else m) := if_neg h
end
section
/-! ===== a state and its picture: σ names a function (itself, or its mirror) ===== -/
def fl_sg (σ : Nat → Nat) : Prop := (∀ x, x ≤ 7 → σ x ≤ 7) ∧ (∀ x y, x ≤ 7 → y ≤ 7 → σ x = σ y → x = y)
def fl_K (σ : Nat → Nat) (S : fl_P) (ow to : Nat → Int32) (a2 a3 a4 a5 a6 a7 : Nat → Int32) : Prop :=
  a2 0 = -1 ∧ (∀ j, 0 < j → j < fl_n S → a2 j = nI (σ (fl_f S j))) ∧ (∀ j, a3 j = nI (fl_a S j)) ∧ (∀ j, a4 j = nI (fl_c S j)) ∧ (∀ j, a5 j = nI (fl_s S j)) ∧ (∀ j, a6 j = ow j) ∧ (∀ j, a7 j = to j)
def fl_T (σ : Nat → Nat) (d : Nat) (st : Nat → Nat) (a1 : Nat → Int32) : Prop := ∀ i, i < d → a1 i = nI (σ (st i)) ∧ st i ≤ 7
theorem fl_nI7 {x : Nat} (h : x ≤ 7) : x < 2 ^ 31 := by omega
theorem fl_m1 {x : Nat} (h : x ≤ 7) : ¬ (-1 : Int32) = nI x := by
  have : ∀ x, x < 8 → ¬ (-1 : Int32) = nI x := by decide +kernel
  exact this x (by omega)
/-- σ x = σ y as ints: x = y -/
theorem fl_sg_eq {σ : Nat → Nat} (sg : fl_sg σ) {x y : Nat} (hx : x ≤ 7) (hy : y ≤ 7) : nI (σ x) = nI (σ y) ↔ x = y := by
  rw [nI_eq (fl_nI7 (sg.1 x hx)) (fl_nI7 (sg.1 y hy))]
  exact ⟨sg.2 x y hx hy, fun e => by rw [e]⟩
section
variable {σ : Nat → Nat} {S : fl_P} {ow to : Nat → Int32} {a1 a2 a3 a4 a5 a6 a7 : Nat → Int32} {f0 f1 f2 : Int32} {d : Nat} {st : Nat → Nat} {post : Int32 → Prop}
theorem fl_K_is (w : fl_wf S) (k : fl_K σ S ow to a2 a3 a4 a5 a6 a7) (sg : fl_sg σ) {x : Nat} (hx : x ≤ 7) : ∀ c, 0 < c → c < fl_n S → (a2 c = nI (σ x) ↔ fl_f S c = x) := by
  intro c h0 hc
  obtain ⟨w1, w2, w3, w⟩ := w
  obtain ⟨k1, k2, k⟩ := k
  rw [k2 c h0 hc]
  exact fl_sg_eq sg (w3 c h0 hc) hx
/-! ===== childWith ===== -/
theorem fl_w7 (w : fl_wf S) (k : fl_K σ S ow to a2 a3 a4 a5 a6 a7) (sg : fl_sg σ) {x : Nat} (hx : x ≤ 7) : ∀ n c, c ≤ n → c < fl_n S → post (nI (fl_find (fl_s S) (fl_is S x) c)) → wX_childWith_7 post (nI (σ x)) f0 f1 f2 a1 a2 a3 a4 a5 a6 a7 (n + 1) (nI c) := by
  have is := fl_K_is w k sg hx
  obtain ⟨w1, w2, w3, w4, w5, w6, w⟩ := w
  obtain ⟨k1, k2, k3, k4, k5, k6, k7⟩ := k
  intro n
  induction n with
  | zero =>
    intro c hc _ hp
    have e : c = 0 := by omega
    subst e
    rw [fl_find_0] at hp
    exact br_t (by decide) hp
  | succ n ih =>
    intro c hc hN hp
    by_cases e : c = 0
    · subst e
      rw [fl_find_0] at hp
      exact br_t (by decide) hp
    · refine br_f (nI_nle (by omega) (by omega)) ⟨pk_in c 321 (by omega), ?_⟩
      rw [nI_clamp (show c < 2 ^ 31 by omega)]
      have i := is c (by omega) hN
      by_cases g : fl_f S c = x
      · refine br_t (i.mpr g) ?_
        rw [fl_find_t e (decide_eq_true g)] at hp
        exact hp
      · have l := w6 c (by omega) hN
        rw [fl_find_f e (fun z => g (of_decide_eq_true z)) l] at hp
        exact br_f (fun z => g (i.mp z)) ⟨pk_in c 321 (by omega), nm_r (k5 c) (ih _ (by omega) (by omega) hp)⟩
theorem fl_cw (w : fl_wf S) (k : fl_K σ S ow to a2 a3 a4 a5 a6 a7) (sg : fl_sg σ) {v x : Nat} (hv : v < fl_n S) (hx : x ≤ 7) (hp : post (nI (fl_nx S v x))) : wpX_childWith post (f0, f1, f2, a1, a2, a3, a4, a5, a6, a7) (nI v) (nI (σ x)) := by
  have l := w.2.2.2.2.1 v hv
  have h2 := w.2.1
  refine ⟨pk_in v 321 (by omega), nm_r (e' := nI (fl_c S v)) ?_ ⟨321 + 1, fl_w7 w k sg hx 321 (fl_c S v) (by omega) l hp⟩⟩
  rw [nI_clamp (show v < 2 ^ 31 by omega)]
  exact k.2.2.2.1 v
/-! ===== nodeOfStack, total, own ===== -/
theorem fl_w4 (w : fl_wf S) (k : fl_K σ S ow to a2 a3 a4 a5 a6 a7) (sg : fl_sg σ) (hd : d ≤ 8) (t : fl_T σ d st a1) (hp : post (fl_en (fl_nos S st d))) : ∀ m i v, i + m = d → v < fl_n S → fl_nos S st i = some v → wX_nodeOfStack_4 post (nI d) f1 f2 a1 a2 a3 a4 a5 a6 a7 (m + 1) (nI v) (nI i) := by
  intro m
  induction m with
  | zero =>
    intro i v h hv hi
    have e : i = d := by omega
    subst e
    rw [hi] at hp
    exact br_t (nI_le (Nat.le_refl _) (by omega)) hp
  | succ m ih =>
    intro i v h hv hi
    obtain ⟨t1, t2⟩ := t i (by omega)
    have h2 := w.2.1
    refine br_f (nI_ge (by omega) (by omega)) ⟨pk_in i 8 (by omega), ?_⟩
    rw [nI_clamp (show i < 2 ^ 31 by omega), t1]
    have b := (fl_nx_sp w (x := st i) hv).1
    have s := fl_nos_s hi
    refine fl_cw w k sg hv t2 ?_
    by_cases e : fl_nx S v (st i) = 0
    · rw [if_pos e] at s
      have n := fl_nos_n s m
      rw [show i + 1 + m = d by omega] at n
      rw [n] at hp
      exact br_t ((congrArg nI e).trans nI_0) hp
    · rw [if_neg e] at s
      exact br_f (nI_ne0 (by omega) (by omega)) (nm_r (nI_1 i) (ih (i + 1) _ (by omega) b s))
theorem fl_nst (w : fl_wf S) (k : fl_K σ S ow to a2 a3 a4 a5 a6 a7) (sg : fl_sg σ) (hd : d ≤ 8) (t : fl_T σ d st a1) (hp : post (fl_en (fl_nos S st d))) : wpX_nodeOfStack post (nI d, f1, f2, a1, a2, a3, a4, a5, a6, a7) :=
  ⟨d + 1, fl_w4 w k sg hd t hp d 0 0 (by omega) w.1 rfl⟩
theorem fl_tot (w : fl_wf S) (k : fl_K σ S ow to a2 a3 a4 a5 a6 a7) (sg : fl_sg σ) (hd : d ≤ 8) (t : fl_T σ d st a1) (hp : post (fl_val to (fl_nos S st d))) : wpX_total post (nI d, f1, f2, a1, a2, a3, a4, a5, a6, a7) := by
  unfold wpX_total
  refine fl_nst w k sg hd t ?_
  cases e : fl_nos S st d with
  | none =>
    rw [e] at hp
    exact br_f (show ¬ (0 : Int32) ≤ -1 by decide) hp
  | some v =>
    rw [e] at hp
    have b := fl_nos_lt w d v e
    have h2 := w.2.1
    refine br_t (nI_pos' (n := v) (by omega)) ⟨pk_in v 321 (by omega), ?_⟩
    show post (a7 (nI v).toNatClampNeg)
    rw [nI_clamp (show v < 2 ^ 31 by omega), k.2.2.2.2.2.2 v]
    exact hp
theorem fl_own (w : fl_wf S) (k : fl_K σ S ow to a2 a3 a4 a5 a6 a7) (sg : fl_sg σ) (hd : d ≤ 8) (t : fl_T σ d st a1) (hp : post (fl_val ow (fl_nos S st d))) : wpX_own post (nI d, f1, f2, a1, a2, a3, a4, a5, a6, a7) := by
  unfold wpX_own
  refine fl_nst w k sg hd t ?_
  cases e : fl_nos S st d with
  | none =>
    rw [e] at hp
    exact br_f (show ¬ (0 : Int32) ≤ -1 by decide) hp
  | some v =>
    rw [e] at hp
    have b := fl_nos_lt w d v e
    have h2 := w.2.1
    refine br_t (nI_pos' (n := v) (by omega)) ⟨pk_in v 321 (by omega), ?_⟩
    show post (a6 (nI v).toNatClampNeg)
    rw [nI_clamp (show v < 2 ^ 31 by omega), k.2.2.2.2.2.1 v]
    exact hp
/-! ===== paths ===== -/
def fl_pf (to : Nat → Int32) (y : Int32) : Nat → Int32 := fun i => if to i < y then 0 else 1
theorem fl_pl (w : fl_wf S) (k : fl_K σ S ow to a2 a3 a4 a5 a6 a7) {y : Int32} (hp : post (fl_sm (fl_pf to y) (fl_n S))) : ∃ n, wX_paths_16 post y f0 f1 (nI (fl_n S)) a1 a2 a3 a4 a5 a6 a7 n 0 1 := by
  have h1 := w.1
  have h2 := w.2.1
  have k7 := k.2.2.2.2.2.2
  refine pk_loop (fun n i s => wX_paths_16 post y f0 f1 (nI (fl_n S)) a1 a2 a3 a4 a5 a6 a7 n s (nI i)) (fun i s => s = fl_sm (fl_pf to y) i ∧ 1 ≤ i) (fl_n S) 1 0 h1 ⟨rfl, Nat.le_refl _⟩ (fun n s h => pk_le (fl_n S) (fl_n S) (fun _ => by rw [h.1]; exact hp) (fun z => absurd z (by omega))) ?_
  intro n i s hi h hw
  obtain ⟨h3, h4⟩ := h
  have E := fl_sm_s (f := fl_pf to y) h4
  refine pk_le (fl_n S) i (fun z => absurd z (by omega)) (fun _ => ⟨pk_in i 321 (by omega), ?_⟩)
  rw [nI_clamp (show i < 2 ^ 31 by omega), k7 i]
  refine br_c (fun z => nm_e (nm_r (nI_1 i) (hw _ ⟨?_, by omega⟩))) (fun z => nm_e (nm_r (nI_1 i) (hw _ ⟨?_, by omega⟩)))
  · rw [E, h3, show fl_pf to y i = 0 from if_pos z]
  · rw [E, h3, show fl_pf to y i = 1 from if_neg z]
theorem fl_pth (w : fl_wf S) (k : fl_K σ S ow to a2 a3 a4 a5 a6 a7) {y : Int32} (hp : post (fl_sm (fl_pf to (if 1 ≤ y then y else 1)) (fl_n S))) : wpX_paths post (f0, f1, nI (fl_n S), a1, a2, a3, a4, a5, a6, a7) y := by
  refine br_c (fun z => ?_) (fun z => ?_)
  · rw [if_pos z] at hp
    exact fl_pl w k hp
  · rw [if_neg z] at hp
    exact fl_pl w k hp
/-! ===== depthOf, deepest ===== -/
theorem fl_d7 (w : fl_wf S) (k : fl_K σ S ow to a2 a3 a4 a5 a6 a7) : ∀ m acc n step, step + m = 8 → n < fl_n S → post (nI (acc + fl_dp (fl_a S) m n)) → wX_depthOf_7 post f0 f1 f2 a1 a2 a3 a4 a5 a6 a7 (m + 1) (nI acc) (nI n) (nI step) := by
  have h2 := w.2.1
  have w4 := w.2.2.2.1
  have k3 := k.2.2.1
  intro m
  induction m with
  | zero =>
    intro acc n step h hn hp
    have e : step = 8 := by omega
    subst e
    rw [show fl_dp (fl_a S) 0 n = 0 from rfl, Nat.add_zero] at hp
    exact br_t (by decide) hp
  | succ m ih =>
    intro acc n step h hn hp
    refine br_f (nI_ge (b := 8) (by omega) (by decide)) ?_
    by_cases e : n = 0
    · subst e
      rw [fl_dp_0, Nat.add_zero] at hp
      exact br_t (by decide) hp
    · rw [fl_dp_s e] at hp
      refine br_f (nI_nle (by omega) (by omega)) (nm_r (nI_1 acc) ⟨pk_in n 321 (by omega), nm_r (e' := nI (fl_a S n)) ?_ (nm_r (nI_1 step) (ih (acc + 1) _ (step + 1) (by omega) (w4 n hn) ?_))⟩)
      · rw [nI_clamp (show n < 2 ^ 31 by omega)]
        exact k3 n
      · rw [show acc + 1 + fl_dp (fl_a S) m (fl_a S n) = acc + (1 + fl_dp (fl_a S) m (fl_a S n)) by omega]
        exact hp
theorem fl_dpo (w : fl_wf S) (k : fl_K σ S ow to a2 a3 a4 a5 a6 a7) {n : Nat} (hn : n < fl_n S) (hp : post (nI (fl_dp (fl_a S) 8 n))) : wpX_depthOf post (f0, f1, f2, a1, a2, a3, a4, a5, a6, a7) (nI n) :=
  ⟨8 + 1, fl_d7 w k 8 0 n 0 rfl hn (by rw [Nat.zero_add]; exact hp)⟩
def fl_df (S : fl_P) (to : Nat → Int32) (y : Int32) : Nat → Int32 := fun i => if to i < y then 0 else nI (fl_dp (fl_a S) 8 i)
theorem fl_d46 {J : Int32 → Int32 → Prop} {y : Int32} {f : Nat → Int32} {i : Nat} {z0 : Int32} (hi : 1 ≤ i) (hz : z0 = f i) (hJ : J (fl_mx f (i + 1)) (nI (i + 1))) : wX_deepest_46 post J y (fl_mx f i) (nI i) z0 f0 f1 f2 a1 a2 a3 a4 a5 a6 a7 := by
  rw [fl_mx_s hi] at hJ
  subst hz
  refine br_c (fun z => nm_r (nI_1 i) ?_) (fun z => nm_r (nI_1 i) ?_)
  · rw [if_pos z] at hJ
    exact hJ
  · rw [if_neg z] at hJ
    exact hJ
theorem fl_dl (w : fl_wf S) (k : fl_K σ S ow to a2 a3 a4 a5 a6 a7) {y : Int32} (hp : post (fl_mx (fl_df S to y) (fl_n S))) : ∃ n, wX_deepest_16 post y f0 f1 (nI (fl_n S)) a1 a2 a3 a4 a5 a6 a7 n 0 1 := by
  have h1 := w.1
  have h2 := w.2.1
  have k7 := k.2.2.2.2.2.2
  refine pk_loop (fun n i s => wX_deepest_16 post y f0 f1 (nI (fl_n S)) a1 a2 a3 a4 a5 a6 a7 n s (nI i)) (fun i s => s = fl_mx (fl_df S to y) i ∧ 1 ≤ i) (fl_n S) 1 0 h1 ⟨rfl, Nat.le_refl _⟩ (fun n s h => pk_le (fl_n S) (fl_n S) (fun _ => by rw [h.1]; exact hp) (fun z => absurd z (by omega))) ?_
  intro n i s hi h hw
  obtain ⟨h3, h4⟩ := h
  subst h3
  have hw' := hw _ ⟨rfl, by omega⟩
  refine pk_le (fl_n S) i (fun z => absurd z (by omega)) (fun _ => ⟨pk_in i 321 (by omega), ?_⟩)
  rw [nI_clamp (show i < 2 ^ 31 by omega), k7 i]
  exact br_c (fun z => fl_d46 h4 (show 0 = fl_df S to y i from (if_pos z).symm) hw') (fun z => fl_dpo w k hi (fl_d46 h4 (show nI (fl_dp (fl_a S) 8 i) = fl_df S to y i from (if_neg z).symm) hw'))
theorem fl_dee (w : fl_wf S) (k : fl_K σ S ow to a2 a3 a4 a5 a6 a7) {y : Int32} (hp : post (fl_mx (fl_df S to (if 1 ≤ y then y else 1)) (fl_n S))) : wpX_deepest post (f0, f1, nI (fl_n S), a1, a2, a3, a4, a5, a6, a7) y := by
  refine br_c (fun z => ?_) (fun z => ?_)
  · rw [if_pos z] at hp
    exact fl_dl w k hp
  · rw [if_neg z] at hp
    exact fl_dl w k hp
end
end
section
section
variable {σ : Nat → Nat} {S : fl_P} {ow to : Nat → Int32} {a1 a2 a3 a4 a5 a6 a7 : Nat → Int32} {f0 f1 f2 : Int32} {d : Nat} {st : Nat → Nat} {post : Int32 → Prop}
/-! ===== isFunction, standsAbove ===== -/
theorem fl_isf {x : Nat} (hx : x ≤ 7) (hp : post 1) : wpX_isFunction post () (nI x) :=
  br_f (nI_pos (by omega)) (br_f (nI_nlt (a := 7) hx (by decide)) hp)
def fl_b : Bool → Int32
  | true => 1
  | false => 0
theorem fl_s11 (w : fl_wf S) (k : fl_K σ S ow to a2 a3 a4 a5 a6 a7) {x2 x3 : Int32} {p : Nat → Bool} (is : ∀ c, 0 < c → c < fl_n S → ((a2 c = x3 ∧ (x2 < 0 ∨ a2 (fl_a S c) = x2)) ↔ p c = true)) : ∀ m n step, step + m = 8 → n < fl_n S → post (fl_b (fl_sa (fl_a S) p m n)) → wX_standsAbove_11 post x2 x3 f0 f1 f2 a1 a2 a3 a4 a5 a6 a7 (m + 1) (nI n) (nI step) := by
  have h2 := w.2.1
  have w4 := w.2.2.2.1
  have k3 := k.2.2.1
  intro m
  induction m with
  | zero =>
    intro n step h hn hp
    have e : step = 8 := by omega
    subst e
    exact br_t (by decide) hp
  | succ m ih =>
    intro n step h hn hp
    refine br_f (nI_ge (b := 8) (by omega) (by decide)) ?_
    by_cases e : n = 0
    · subst e
      rw [fl_sa_0] at hp
      exact br_t (by decide) hp
    · have i := is n (by omega) hn
      have w4n := w4 n hn
      refine br_f (nI_nle (by omega) (by omega)) ⟨pk_in n 321 (by omega), ?_⟩
      rw [nI_clamp (show n < 2 ^ 31 by omega), k3 n, nI_clamp (show fl_a S n < 2 ^ 31 by omega)]
      by_cases g : p n = true
      · rw [fl_sa_t e g] at hp
        obtain ⟨g1, g2⟩ := i.mpr g
        refine br_t g1 (br_c (fun _ => hp) (fun z => ⟨pk_in n 321 (by omega), pk_in (fl_a S n) 321 (by omega), br_t ?_ hp⟩))
        rcases g2 with y | y
        · exact absurd y z
        · exact y
      · rw [fl_sa_f e g] at hp
        have r := ih (fl_a S n) (step + 1) (by omega) w4n hp
        refine br_c (fun g1 => br_f (fun z => g (i.mp ⟨g1, Or.inl z⟩)) ⟨pk_in n 321 (by omega), pk_in (fl_a S n) 321 (by omega), br_f (fun z => g (i.mp ⟨g1, Or.inr z⟩)) ⟨pk_in n 321 (by omega), nm_e (nm_r (nI_1 step) r)⟩⟩) (fun g1 => ⟨pk_in n 321 (by omega), nm_e (nm_r (nI_1 step) r)⟩)
theorem fl_sab (w : fl_wf S) (k : fl_K σ S ow to a2 a3 a4 a5 a6 a7) {x2 x3 : Int32} {p : Nat → Bool} (is : ∀ c, 0 < c → c < fl_n S → ((a2 c = x3 ∧ (x2 < 0 ∨ a2 (fl_a S c) = x2)) ↔ p c = true)) {n : Nat} (hn : n < fl_n S) (hp : post (fl_b (fl_sa (fl_a S) p 8 (fl_a S n)))) : wpX_standsAbove post (f0, f1, f2, a1, a2, a3, a4, a5, a6, a7) (nI n) x2 x3 := by
  have h2 := w.2.1
  refine ⟨pk_in n 321 (by omega), nm_r (e' := nI (fl_a S n)) ?_ ⟨8 + 1, fl_s11 w k is 8 _ 0 rfl (w.2.2.2.1 n hn) hp⟩⟩
  rw [nI_clamp (show n < 2 ^ 31 by omega)]
  exact k.2.2.1 n
/-! ===== inclusive, exclusive ===== -/
def fl_if (S : fl_P) (to : Nat → Int32) (p : Nat → Bool) : Nat → Int32 := fun i => if p i = true ∧ fl_sa (fl_a S) p 8 (fl_a S i) = false then to i else 0
theorem fl_il (w : fl_wf S) (k : fl_K σ S ow to a2 a3 a4 a5 a6 a7) (sg : fl_sg σ) {x : Nat} (hx : x ≤ 7) (hp : post (fl_sm (fl_if S to (fl_is S x)) (fl_n S))) : ∃ n, wX_inclusive_13 post (nI (σ x)) f0 f1 (nI (fl_n S)) a1 a2 a3 a4 a5 a6 a7 n 0 1 := by
  have h1 := w.1
  have h2 := w.2.1
  have k7 := k.2.2.2.2.2.2
  have is := fl_K_is w k sg hx
  have is2 : ∀ c, 0 < c → c < fl_n S → ((a2 c = nI (σ x) ∧ ((-1 : Int32) < 0 ∨ a2 (fl_a S c) = -1)) ↔ fl_is S x c = true) := fun c h0 hc =>
    ⟨fun z => decide_eq_true ((is c h0 hc).mp z.1), fun z => ⟨(is c h0 hc).mpr (of_decide_eq_true z), Or.inl (by decide)⟩⟩
  refine pk_loop (fun n i s => wX_inclusive_13 post (nI (σ x)) f0 f1 (nI (fl_n S)) a1 a2 a3 a4 a5 a6 a7 n s (nI i)) (fun i s => s = fl_sm (fl_if S to (fl_is S x)) i ∧ 1 ≤ i) (fl_n S) 1 0 h1 ⟨rfl, Nat.le_refl _⟩ (fun n s h => pk_le (fl_n S) (fl_n S) (fun _ => by rw [h.1]; exact hp) (fun z => absurd z (by omega))) ?_
  intro n i s hi h hw
  obtain ⟨h3, h4⟩ := h
  have E := fl_sm_s (f := fl_if S to (fl_is S x)) h4
  refine pk_le (fl_n S) i (fun z => absurd z (by omega)) (fun _ => ⟨pk_in i 321 (by omega), ?_⟩)
  rw [nI_clamp (show i < 2 ^ 31 by omega), k7 i]
  refine br_c (fun z => fl_sab w k is2 hi ?_) (fun z => nm_e (nm_r (nI_1 i) (hw _ ⟨?_, by omega⟩)))
  · have z1 : fl_is S x i = true := decide_eq_true ((is i (by omega) hi).mp z)
    cases g : fl_sa (fl_a S) (fl_is S x) 8 (fl_a S i) with
    | false =>
      refine br_t rfl ⟨pk_in i 321 (by omega), nm_e (nm_r (nI_1 i) (hw _ ⟨?_, by omega⟩))⟩
      rw [E, h3, show fl_if S to (fl_is S x) i = to i from if_pos ⟨z1, g⟩]
    | true =>
      refine br_f (by decide) (nm_e (nm_r (nI_1 i) (hw _ ⟨?_, by omega⟩)))
      rw [E, h3, show fl_if S to (fl_is S x) i = 0 from if_neg (fun y => absurd (g.symm.trans y.2) (by decide))]
  · rw [E, h3, show fl_if S to (fl_is S x) i = 0 from if_neg (fun y => z ((is i (by omega) hi).mpr (of_decide_eq_true y.1)))]
theorem fl_inc (w : fl_wf S) (k : fl_K σ S ow to a2 a3 a4 a5 a6 a7) (sg : fl_sg σ) {x : Nat} {p : Int32} (hx : x ≤ 7) (ep : p = nI (σ x)) (hp : post (fl_sm (fl_if S to (fl_is S x)) (fl_n S))) : wpX_inclusive post (f0, f1, nI (fl_n S), a1, a2, a3, a4, a5, a6, a7) p := by
  subst ep
  unfold wpX_inclusive
  exact fl_isf (sg.1 x hx) (br_f (by decide) (fl_il w k sg hx hp))
def fl_ef (ow : Nat → Int32) (p : Nat → Bool) : Nat → Int32 := fun i => if p i = true then ow i else 0
theorem fl_el (w : fl_wf S) (k : fl_K σ S ow to a2 a3 a4 a5 a6 a7) (sg : fl_sg σ) {x : Nat} (hx : x ≤ 7) (hp : post (fl_sm (fl_ef ow (fl_is S x)) (fl_n S))) : ∃ n, wX_exclusive_13 post (nI (σ x)) f0 f1 (nI (fl_n S)) a1 a2 a3 a4 a5 a6 a7 n 0 1 := by
  have h1 := w.1
  have h2 := w.2.1
  have k6 := k.2.2.2.2.2.1
  have is := fl_K_is w k sg hx
  refine pk_loop (fun n i s => wX_exclusive_13 post (nI (σ x)) f0 f1 (nI (fl_n S)) a1 a2 a3 a4 a5 a6 a7 n s (nI i)) (fun i s => s = fl_sm (fl_ef ow (fl_is S x)) i ∧ 1 ≤ i) (fl_n S) 1 0 h1 ⟨rfl, Nat.le_refl _⟩ (fun n s h => pk_le (fl_n S) (fl_n S) (fun _ => by rw [h.1]; exact hp) (fun z => absurd z (by omega))) ?_
  intro n i s hi h hw
  obtain ⟨h3, h4⟩ := h
  have E := fl_sm_s (f := fl_ef ow (fl_is S x)) h4
  refine pk_le (fl_n S) i (fun z => absurd z (by omega)) (fun _ => ⟨pk_in i 321 (by omega), ?_⟩)
  rw [nI_clamp (show i < 2 ^ 31 by omega), k6 i]
  refine br_c (fun z => ⟨pk_in i 321 (by omega), nm_e (nm_r (nI_1 i) (hw _ ⟨?_, by omega⟩))⟩) (fun z => nm_e (nm_r (nI_1 i) (hw _ ⟨?_, by omega⟩)))
  · rw [E, h3, show fl_ef ow (fl_is S x) i = ow i from if_pos (decide_eq_true ((is i (by omega) hi).mp z))]
  · rw [E, h3, show fl_ef ow (fl_is S x) i = 0 from if_neg (fun y => z ((is i (by omega) hi).mpr (of_decide_eq_true y)))]
theorem fl_exc (w : fl_wf S) (k : fl_K σ S ow to a2 a3 a4 a5 a6 a7) (sg : fl_sg σ) {x : Nat} {p : Int32} (hx : x ≤ 7) (ep : p = nI (σ x)) (hp : post (fl_sm (fl_ef ow (fl_is S x)) (fl_n S))) : wpX_exclusive post (f0, f1, nI (fl_n S), a1, a2, a3, a4, a5, a6, a7) p := by
  subst ep
  unfold wpX_exclusive
  exact fl_isf (sg.1 x hx) (br_f (by decide) (fl_el w k sg hx hp))
/-! ===== edge ===== -/
def fl_ie (S : fl_P) (x y : Nat) : Nat → Bool := fun c => decide (fl_f S c = y ∧ ¬ fl_a S c = 0 ∧ fl_f S (fl_a S c) = x)
theorem fl_K_ie (w : fl_wf S) (k : fl_K σ S ow to a2 a3 a4 a5 a6 a7) (sg : fl_sg σ) {x y : Nat} (hx : x ≤ 7) (hy : y ≤ 7) : ∀ c, 0 < c → c < fl_n S → ((a2 c = nI (σ y) ∧ a2 (fl_a S c) = nI (σ x)) ↔ fl_ie S x y c = true) := by
  intro c h0 hc
  have i1 := fl_K_is w k sg hy c h0 hc
  have hl := w.2.2.2.1 c hc
  have hh : a2 (fl_a S c) = nI (σ x) ↔ (¬ fl_a S c = 0 ∧ fl_f S (fl_a S c) = x) := by
    by_cases e : fl_a S c = 0
    · rw [e, k.1]
      exact ⟨fun z => absurd z (fl_m1 (sg.1 x hx)), fun z => absurd rfl z.1⟩
    · rw [fl_K_is w k sg hx _ (by omega) hl]
      exact ⟨fun z => ⟨e, z⟩, fun z => z.2⟩
  refine ⟨fun z => decide_eq_true ⟨i1.mp z.1, hh.mp z.2⟩, fun z => ?_⟩
  have z' : fl_f S c = y ∧ ¬ fl_a S c = 0 ∧ fl_f S (fl_a S c) = x := of_decide_eq_true z
  exact ⟨i1.mpr z'.1, hh.mpr z'.2⟩
theorem fl_e62 (w : fl_wf S) (k : fl_K σ S ow to a2 a3 a4 a5 a6 a7) (sg : fl_sg σ) {x y : Nat} (hx : x ≤ 7) (hy : y ≤ 7) {J : Int32 → Int32 → Prop} {i : Nat} (hi : 1 ≤ i) (hin : i < fl_n S) {s : Int32} (hs : s = fl_sm (fl_if S to (fl_ie S x y)) i) {z0 : Int32} (hz : z0 = fl_b (fl_ie S x y i)) (hJ : J (fl_sm (fl_if S to (fl_ie S x y)) (i + 1)) (nI (i + 1))) : wX_edge_62 post J (nI (σ x)) (nI (σ y)) s (nI i) z0 f0 f1 f2 a1 a2 a3 a4 a5 a6 a7 := by
  have h2 := w.2.1
  have k7 := k.2.2.2.2.2.2
  have E := fl_sm_s (f := fl_if S to (fl_ie S x y)) hi
  have ie := fl_K_ie w k sg hx hy
  have is2 : ∀ c, 0 < c → c < fl_n S → ((a2 c = nI (σ y) ∧ (nI (σ x) < 0 ∨ a2 (fl_a S c) = nI (σ x))) ↔ fl_ie S x y c = true) := fun c h0 hc =>
    ⟨fun z => (ie c h0 hc).mp ⟨z.1, z.2.resolve_left (nI_pos (fl_nI7 (sg.1 x hx)))⟩, fun z => ⟨((ie c h0 hc).mpr z).1, Or.inr ((ie c h0 hc).mpr z).2⟩⟩
  subst hs
  cases g : fl_ie S x y i with
  | false =>
    rw [g] at hz
    subst hz
    refine br_t rfl (nm_r (e' := fl_sm (fl_if S to (fl_ie S x y)) (i + 1)) ?_ (nm_r (nI_1 i) hJ))
    rw [E, show fl_if S to (fl_ie S x y) i = 0 from if_neg (fun t => absurd (g.symm.trans t.1) (by decide))]
  | true =>
    rw [g] at hz
    subst hz
    refine br_f (by decide) (fl_sab w k is2 hin ?_)
    cases e : fl_sa (fl_a S) (fl_ie S x y) 8 (fl_a S i) with
    | false =>
      refine br_t rfl ⟨pk_in i 321 (by omega), nm_r (e' := fl_sm (fl_if S to (fl_ie S x y)) (i + 1)) ?_ (nm_r (nI_1 i) hJ)⟩
      rw [E, show fl_if S to (fl_ie S x y) i = to i from if_pos ⟨g, e⟩, nI_clamp (show i < 2 ^ 31 by omega), k7 i]
    | true =>
      refine br_f (by decide) (nm_r (e' := fl_sm (fl_if S to (fl_ie S x y)) (i + 1)) ?_ (nm_r (nI_1 i) hJ))
      rw [E, show fl_if S to (fl_ie S x y) i = 0 from if_neg (fun t => absurd (e.symm.trans t.2) (by decide))]
theorem fl_dl2 (w : fl_wf S) (k : fl_K σ S ow to a2 a3 a4 a5 a6 a7) (sg : fl_sg σ) {x y : Nat} (hx : x ≤ 7) (hy : y ≤ 7) (hp : post (fl_sm (fl_if S to (fl_ie S x y)) (fl_n S))) : ∃ n, wX_edge_21 post (nI (σ x)) (nI (σ y)) f0 f1 (nI (fl_n S)) a1 a2 a3 a4 a5 a6 a7 n 0 1 := by
  have h1 := w.1
  have h2 := w.2.1
  have k3 := k.2.2.1
  have ie := fl_K_ie w k sg hx hy
  refine pk_loop (fun n i s => wX_edge_21 post (nI (σ x)) (nI (σ y)) f0 f1 (nI (fl_n S)) a1 a2 a3 a4 a5 a6 a7 n s (nI i)) (fun i s => s = fl_sm (fl_if S to (fl_ie S x y)) i ∧ 1 ≤ i) (fl_n S) 1 0 h1 ⟨rfl, Nat.le_refl _⟩ (fun n s h => pk_le (fl_n S) (fl_n S) (fun _ => by rw [h.1]; exact hp) (fun z => absurd z (by omega))) ?_
  intro n i s hi h hw
  obtain ⟨h3, h4⟩ := h
  have hw' := hw _ ⟨rfl, by omega⟩
  have i1 := ie i (by omega) hi
  have l := w.2.2.2.1 i hi
  have F : ¬ (a2 i = nI (σ y) ∧ a2 (fl_a S i) = nI (σ x)) → (0 : Int32) = fl_b (fl_ie S x y i) := fun z => by
    have q : fl_ie S x y i = false := Bool.eq_false_iff.mpr (fun t => z (i1.mpr t))
    exact (congrArg fl_b q).symm
  refine pk_le (fl_n S) i (fun z => absurd z (by omega)) (fun _ => ⟨pk_in i 321 (by omega), ?_⟩)
  rw [nI_clamp (show i < 2 ^ 31 by omega), k3 i, nI_clamp (show fl_a S i < 2 ^ 31 by omega)]
  refine br_c (fun z => ⟨pk_in i 321 (by omega), pk_in (fl_a S i) 321 (by omega), br_c (fun z2 => fl_e62 w k sg hx hy h4 hi h3 ?_ hw') (fun z2 => fl_e62 w k sg hx hy h4 hi h3 (F (fun t => z2 t.2)) hw')⟩) (fun z => fl_e62 w k sg hx hy h4 hi h3 (F (fun t => z t.1)) hw')
  exact (congrArg fl_b (i1.mp ⟨z, z2⟩)).symm
theorem fl_edg (w : fl_wf S) (k : fl_K σ S ow to a2 a3 a4 a5 a6 a7) (sg : fl_sg σ) {x y : Nat} {p p2 : Int32} (hx : x ≤ 7) (hy : y ≤ 7) (ep : p = nI (σ x)) (ep2 : p2 = nI (σ y)) (hp : post (fl_sm (fl_if S to (fl_ie S x y)) (fl_n S))) : wpX_edge post (f0, f1, nI (fl_n S), a1, a2, a3, a4, a5, a6, a7) p p2 := by
  subst ep ep2
  unfold wpX_edge
  exact fl_isf (sg.1 x hx) (br_f (by decide) (fl_isf (sg.1 y hy) (br_f (by decide) (fl_dl2 w k sg hx hy hp))))
/-! ===== hottest ===== -/
theorem fl_h29 (w : fl_wf S) (k : fl_K σ S ow to a2 a3 a4 a5 a6 a7) {v : Nat} : ∀ n c b, c ≤ n → c < fl_n S → 0 < b → b < fl_n S → fl_a S b = v → (0 < c → fl_a S c = v) → (∀ b', 0 < b' → b' < fl_n S → fl_a S b' = v → to b' = fl_hm (fl_s S) to n c (to b) → post (a2 b')) → wX_hottest_29 post f0 f1 f2 a1 a2 a3 a4 a5 a6 a7 (n + 1) (nI b) (nI c) := by
  obtain ⟨w1, w2, w3, w4, w5, w6, w7, w8, w9, w10⟩ := w
  obtain ⟨k1, k2, k3, k4, k5, k6, k7⟩ := k
  intro n
  induction n with
  | zero =>
    intro c b hc _ h0 hb ha _ hp
    have e : c = 0 := by omega
    subst e
    refine br_t (by decide) (br_f (nI_ne0 h0 (by omega)) ⟨pk_in b 321 (by omega), ?_⟩)
    rw [nI_clamp (show b < 2 ^ 31 by omega)]
    exact hp b h0 hb ha rfl
  | succ n ih =>
    intro c b hc hcn h0 hb ha hac hp
    by_cases e : c = 0
    · subst e
      refine br_t (by decide) (br_f (nI_ne0 h0 (by omega)) ⟨pk_in b 321 (by omega), ?_⟩)
      rw [nI_clamp (show b < 2 ^ 31 by omega)]
      exact hp b h0 hb ha (fl_hm_0 _).symm
    · rw [fl_hm_s e] at hp
      have l := w6 c (by omega) hcn
      have hav := hac (by omega)
      have hs : 0 < fl_s S c → fl_a S (fl_s S c) = v := fun z => (w9 c (by omega) hcn z).trans hav
      have nc : (nI c).toNatClampNeg = c := nI_clamp (by omega)
      have nb : (nI b).toNatClampNeg = b := nI_clamp (by omega)
      have ic : vp_in (nI c) 321 := pk_in c 321 (by omega)
      have ib : vp_in (nI b) 321 := pk_in b 321 (by omega)
      have ec : a5 (nI c).toNatClampNeg = nI (fl_s S c) := by rw [nc]; exact k5 c
      -- c becomes the best
      have A : to c = (if to b < to c then to c else to b) → wX_hottest_94 post (wX_hottest_29 post f0 f1 f2 a1 a2 a3 a4 a5 a6 a7 (n + 1)) (nI c) f0 f1 f2 a1 a2 a3 a4 a5 a6 a7 := fun q =>
        ⟨ic, nm_r ec (ih (fl_s S c) c (by omega) (by omega) (by omega) hcn hav hs (fun b' g1 g2 g3 g4 => hp b' g1 g2 g3 (by rw [← q]; exact g4)))⟩
      -- b stays the best
      have B : to b = (if to b < to c then to c else to b) → ∀ x, x = a5 (nI c).toNatClampNeg → wX_hottest_29 post f0 f1 f2 a1 a2 a3 a4 a5 a6 a7 (n + 1) (nI b) x := fun q =>
        nm_r ec (ih (fl_s S c) b (by omega) (by omega) h0 hb ha hs (fun b' g1 g2 g3 g4 => hp b' g1 g2 g3 (by rw [← q]; exact g4)))
      have nb0 : ¬ nI b = 0 := nI_ne0 h0 (by omega)
      have A' : to c = (if to b < to c then to c else to b) → wX_hottest_78 post (wX_hottest_29 post f0 f1 f2 a1 a2 a3 a4 a5 a6 a7 (n + 1)) (nI b) (nI c) f0 f1 f2 a1 a2 a3 a4 a5 a6 a7 := fun q => br_f nb0 (br_f (by decide) (A q))
      have B' : to b = (if to b < to c then to c else to b) → wX_hottest_82 post (wX_hottest_29 post f0 f1 f2 a1 a2 a3 a4 a5 a6 a7 (n + 1)) (nI b) (nI c) f0 f1 f2 a1 a2 a3 a4 a5 a6 a7 := fun q => br_f nb0 (br_t rfl ⟨ic, B q⟩)
      refine br_f (nI_nle (by omega) (by omega)) ⟨ic, ib, ?_⟩
      rw [nc, nb, k7 b, k7 c]
      refine br_c (fun z => A' (if_pos z).symm) (fun z => ⟨ic, ib, br_c (fun z2 => ⟨ic, ib, br_c (fun _ => B' (if_neg z).symm) (fun _ => A' (z2.trans (if_neg z).symm))⟩) (fun _ => B' (if_neg z).symm)⟩)
/-- the weight of the heaviest child of v -/
def fl_best (S : fl_P) (to : Nat → Int32) (v : Nat) : Int32 := fl_hm (fl_s S) to 321 (fl_s S (fl_c S v)) (to (fl_c S v))
theorem fl_hot (w : fl_wf S) (k : fl_K σ S ow to a2 a3 a4 a5 a6 a7) (sg : fl_sg σ) (hd : d ≤ 8) (t : fl_T σ d st a1) {v : Nat} (hv : fl_nos S st d = some v) (h8 : d ≠ 8) (hc : fl_c S v ≠ 0) (hp : ∀ b, 0 < b → b < fl_n S → fl_a S b = v → to b = fl_best S to v → post (a2 b)) : wpX_hottest post (nI d, f1, f2, a1, a2, a3, a4, a5, a6, a7) := by
  have h2 := w.2.1
  have b := fl_nos_lt w d v hv
  have l := w.2.2.2.2.1 v b
  have c6 := w.2.2.2.2.2.1 (fl_c S v) (by omega) l
  have c8 := w.2.2.2.2.2.2.2.1 v b (by omega)
  have c9 := w.2.2.2.2.2.2.2.2.1 (fl_c S v) (by omega) l
  unfold wpX_hottest
  refine fl_nst w k sg hd t ?_
  rw [hv]
  refine br_f (nI_pos (by omega)) (br_f ?_ ⟨pk_in v 321 (by omega), nm_r (e' := nI (fl_c S v)) ?_ ⟨321 + 1 + 1, ?_⟩⟩)
  · intro z
    exact h8 ((nI_eq (b := 8) (by omega) (by decide)).mp z)
  · show a4 (nI v).toNatClampNeg = _
    rw [nI_clamp (show v < 2 ^ 31 by omega)]
    exact k.2.2.2.1 v
  · have nc : (nI (fl_c S v)).toNatClampNeg = fl_c S v := nI_clamp (by omega)
    have ic : vp_in (nI (fl_c S v)) 321 := pk_in (fl_c S v) 321 (by omega)
    have i0 : vp_in 0 321 := pk_in 0 321 (by omega)
    have A : wX_hottest_94 post (wX_hottest_29 post (nI d) f1 f2 a1 a2 a3 a4 a5 a6 a7 (321 + 1)) (nI (fl_c S v)) (nI d) f1 f2 a1 a2 a3 a4 a5 a6 a7 :=
      ⟨ic, nm_r (e' := nI (fl_s S (fl_c S v))) (by rw [nc]; exact k.2.2.2.2.1 _) (fl_h29 w k 321 _ _ (by omega) (by omega) (by omega) l c8 (fun z => (c9 z).trans c8) hp)⟩
    refine br_f (nI_nle (by omega) (by omega)) ⟨ic, i0, br_c (fun _ => br_t rfl A) (fun _ => ⟨ic, i0, br_c (fun _ => ⟨ic, i0, br_c (fun _ => br_t rfl A) (fun _ => br_t rfl A)⟩) (fun _ => br_t rfl A)⟩)⟩
/-- no child, or no node, or no room: -1 -/
theorem fl_hot0 (w : fl_wf S) (k : fl_K σ S ow to a2 a3 a4 a5 a6 a7) (sg : fl_sg σ) (hd : d ≤ 8) (t : fl_T σ d st a1) (h : ∀ v, fl_nos S st d = some v → d ≠ 8 → fl_c S v = 0) (hp : post (-1)) : wpX_hottest post (nI d, f1, f2, a1, a2, a3, a4, a5, a6, a7) := by
  have h2 := w.2.1
  unfold wpX_hottest
  refine fl_nst w k sg hd t ?_
  cases e : fl_nos S st d with
  | none => exact br_t (show (-1 : Int32) < 0 by decide) hp
  | some v =>
    have b := fl_nos_lt w d v e
    refine br_f (nI_pos (by omega)) ?_
    refine pk_eq d 8 (fun _ => hp) (fun z => ⟨pk_in v 321 (by omega), nm_r (e' := nI (fl_c S v)) ?_ ⟨1, ?_⟩⟩)
    · show a4 (nI v).toNatClampNeg = _
      rw [nI_clamp (show v < 2 ^ 31 by omega)]
      exact k.2.2.2.1 v
    · rw [h v e z]
      exact br_t (by decide) (br_t rfl hp)
end
/-! ===== call, leave ===== -/
section
variable {a1 a2 a3 a4 a5 a6 a7 : Nat → Int32} {f1 f2 : Int32} {d : Nat} {post : Int32 → St1 → Prop}
theorem fl_call {x : Nat} {p : Int32} (hx : x ≤ 7) (ep : p = nI x) (hd : d < 8) (hp : post (nI (d + 1)) (nI (d + 1), f1, f2, upd a1 d (nI x), a2, a3, a4, a5, a6, a7)) : wpX_call post (nI d, f1, f2, a1, a2, a3, a4, a5, a6, a7) p := by
  subst ep
  unfold wpX_call
  refine fl_isf hx (br_f (by decide) (br_t (nI_lt (b := 8) hd (by decide)) ⟨pk_in d 8 hd, nm_r (e' := upd a1 d (nI x)) ?_ (nm_r (nI_1 d) hp)⟩))
  rw [nI_clamp (show d < 2 ^ 31 by omega)]
theorem fl_call8 {x : Nat} {p : Int32} (hx : x ≤ 7) (ep : p = nI x) (hp : post (-1) (nI 8, f1, f2, a1, a2, a3, a4, a5, a6, a7)) : wpX_call post (nI 8, f1, f2, a1, a2, a3, a4, a5, a6, a7) p := by
  subst ep
  unfold wpX_call
  exact fl_isf hx (br_f (by decide) (br_f (by decide) hp))
theorem fl_leave (hd : d < 8) (hp : post (a1 d) (nI d, f1, f2, a1, a2, a3, a4, a5, a6, a7)) : wpX_leave post (nI (d + 1), f1, f2, a1, a2, a3, a4, a5, a6, a7) := by
  refine br_f (nI_ne0 (by omega) (by omega)) (nm_r (nI_pred d) ⟨pk_in d 8 hd, ?_⟩)
  rw [nI_clamp (show d < 2 ^ 31 by omega)]
  exact hp
theorem fl_leave0 (hp : post (-1) (nI 0, f1, f2, a1, a2, a3, a4, a5, a6, a7)) : wpX_leave post (nI 0, f1, f2, a1, a2, a3, a4, a5, a6, a7) :=
  br_t rfl hp
end
end
section
theorem fl_upd {a : Nat → Int32} {f : Nat → Nat} (h : ∀ j, a j = nI (f j)) (k x : Nat) : ∀ j, upd a k (nI x) j = nI (fl_up f k x j) := by
  intro j
  by_cases e : j = k
  · subst e
    rw [pk_us, fl_us]
  · rw [pk_un e, fl_un e]
    exact h j
theorem fl_updw {a f : Nat → Int32} {y : Int32} (h : ∀ j, a j = f j) (k : Nat) : ∀ j, upd a k (a k + y) j = f j + (if j = k then y else 0) := by
  intro j
  by_cases e : j = k
  · subst e
    rw [pk_us, if_pos rfl, h j]
  · rw [pk_un e, if_neg e, h j, Int32.add_zero]
theorem fl_K_cg {σ : Nat → Nat} {S S' : fl_P} {ow ow' to to' a2 a3 a4 a5 a6 a7 : Nat → Int32} (k : fl_K σ S ow to a2 a3 a4 a5 a6 a7) (eS : S = S') (e1 : ∀ j, ow j = ow' j) (e2 : ∀ j, to j = to' j) : fl_K σ S' ow' to' a2 a3 a4 a5 a6 a7 := by
  subst eS
  obtain ⟨k1, k2, k3, k4, k5, k6, k7⟩ := k
  exact ⟨k1, k2, k3, k4, k5, fun j => (k6 j).trans (e1 j), fun j => (k7 j).trans (e2 j)⟩
section
variable {σ : Nat → Nat} {S : fl_P} {ow to : Nat → Int32} {a1 a2 a3 a4 a5 a6 a7 : Nat → Int32} {f0 f1 f2 : Int32} {d s : Nat} {st : Nat → Nat} {post : Int32 → St1 → Prop}
theorem fl_ac (w : fl_wf S) (k : fl_K σ S ow to a2 a3 a4 a5 a6 a7) {v x : Nat} (hv : v < fl_n S) (hN : fl_n S < 321) (hp : ∀ b2 b3 b4 b5, fl_K σ (fl_add S v x) ow to b2 b3 b4 b5 a6 a7 → post (nI (fl_n S)) (f0, f1, nI (fl_n S + 1), a1, b2, b3, b4, b5, a6, a7)) : wpX_addChild post (f0, f1, nI (fl_n S), a1, a2, a3, a4, a5, a6, a7) (nI v) (nI (σ x)) := by
  have h1 := w.1
  obtain ⟨k1, k2, k3, k4, k5, k6, k7⟩ := k
  have iN : vp_in (nI (fl_n S)) 321 := pk_in (fl_n S) 321 hN
  have iv : vp_in (nI v) 321 := pk_in v 321 (by omega)
  have cN : (nI (fl_n S)).toNatClampNeg = fl_n S := nI_clamp (by omega)
  have cv : (nI v).toNatClampNeg = v := nI_clamp (by omega)
  refine nm_r (nI_1 _) ⟨iN, nm_e ⟨iN, nm_e ⟨iv, iN, nm_e ⟨iv, nm_e (hp _ _ _ _ ?_)⟩⟩⟩⟩
  rw [cN, cv, k4 v]
  refine ⟨?_, fun j h0 hj => ?_, fl_upd k3 _ _, fl_upd k4 _ _, fl_upd k5 _ _, k6, k7⟩
  · rw [pk_un (by omega)]
    exact k1
  · show upd a2 (fl_n S) (nI (σ x)) j = nI (σ (fl_up (fl_f S) (fl_n S) x j))
    have hj' : j < fl_n S + 1 := hj
    by_cases e : j = fl_n S
    · subst e
      rw [pk_us, fl_us]
    · rw [pk_un e, fl_un e]
      exact k2 j h0 (by omega)
theorem fl_s75 {J : Int32 → Int32 → Int32 → Int32 → Int32 → (Nat → Int32) → (Nat → Int32) → (Nat → Int32) → (Nat → Int32) → (Nat → Int32) → (Nat → Int32) → (Nat → Int32) → Prop} (w2 : fl_n S ≤ 321) (k : fl_K σ S ow to a2 a3 a4 a5 a6 a7) {y : Int32} {i r : Nat} (hr : r < fl_n S) (hJ : ∀ b7, fl_K σ S ow (fun j => to j + (if j = r then y else 0)) a2 a3 a4 a5 a6 b7 → J (nI r) (nI (i + 1)) f0 f1 f2 a1 a2 a3 a4 a5 a6 b7) : wX_sample_75 post J y (nI i) (nI r) f0 f1 f2 a1 a2 a3 a4 a5 a6 a7 := by
  obtain ⟨k1, k2, k3, k4, k5, k6, k7⟩ := k
  have ir : vp_in (nI r) 321 := pk_in r 321 (by omega)
  have cr : (nI r).toNatClampNeg = r := nI_clamp (by omega)
  refine ⟨ir, ir, nm_e (nm_r (nI_1 i) (hJ _ ⟨k1, k2, k3, k4, k5, k6, ?_⟩))⟩
  rw [cr]
  exact fl_updw k7 r
theorem fl_s36 (w : fl_wf S) (hN : fl_n S + d ≤ 321) (hd : d ≤ 8) (sg : fl_sg σ) (t : fl_T σ d st a1) {y : Int32}
    (hp : ∀ b2 b3 b4 b5 b6 b7, fl_K σ (fl_run S st d).1 (fun j => ow j + (if j = (fl_run S st d).2 then y else 0)) (fun j => to j + fl_ad (fun i => (fl_run S st i).2) y d j) b2 b3 b4 b5 b6 b7 → post (nI (s + 1)) (nI d, nI (s + 1), nI (fl_n (fl_run S st d).1), a1, b2, b3, b4, b5, b6, b7)) :
    ∀ m i a2 a3 a4 a5 a6 a7, i + m = d → fl_K σ (fl_run S st i).1 ow (fun j => to j + fl_ad (fun i => (fl_run S st i).2) y i j) a2 a3 a4 a5 a6 a7 → wX_sample_36 post y (m + 1) (nI (fl_run S st i).2) (nI i) (nI d) (nI s) (nI (fl_n (fl_run S st i).1)) a1 a2 a3 a4 a5 a6 a7 := by
  intro m
  induction m with
  | zero =>
    intro i a2 a3 a4 a5 a6 a7 h k
    have e : i = d := by omega
    subst e
    obtain ⟨r1, r2, r3, r4⟩ := fl_run_ok w (st := st) i hN (fun j hj => (t j hj).2)
    have h2 := r1.2.1
    obtain ⟨k1, k2, k3, k4, k5, k6, k7⟩ := k
    have iv : vp_in (nI (fl_run S st i).2) 321 := pk_in (fl_run S st i).2 321 (by omega)
    have cv : (nI (fl_run S st i).2).toNatClampNeg = (fl_run S st i).2 := nI_clamp (by omega)
    refine br_t (nI_le (Nat.le_refl _) (by omega)) ⟨iv, iv, nm_e (nm_r (nI_1 s) (hp _ _ _ _ _ _ ⟨k1, k2, k3, k4, k5, ?_, k7⟩))⟩
    rw [cv]
    exact fl_updw k6 _
  | succ m ih =>
    intro i a2 a3 a4 a5 a6 a7 h k
    obtain ⟨r1, r2, r3, r4⟩ := fl_run_ok w (st := st) i (by omega) (fun j hj => (t j (by omega)).2)
    have h2 := r1.2.1
    obtain ⟨t1, t2⟩ := t i (by omega)
    have ii : vp_in (nI i) 8 := pk_in i 8 (by omega)
    have nx := fl_nx_sp r1 (x := st i) r2
    refine br_f (nI_ge (by omega) (by omega)) ⟨ii, ?_⟩
    rw [nI_clamp (show i < 2 ^ 31 by omega), t1]
    refine fl_cw r1 k sg r2 t2 ?_
    by_cases e : fl_nx (fl_run S st i).1 (fl_run S st i).2 (st i) = 0
    · have E : fl_run S st (i + 1) = (fl_add (fl_run S st i).1 (fl_run S st i).2 (st i), fl_n (fl_run S st i).1) := fl_sp_t e
      have E1 : fl_add (fl_run S st i).1 (fl_run S st i).2 (st i) = (fl_run S st (i + 1)).1 := by rw [E]
      have E2 : fl_n (fl_run S st i).1 = (fl_run S st (i + 1)).2 := by rw [E]
      have E3 : fl_n (fl_run S st i).1 + 1 = fl_n (fl_run S st (i + 1)).1 := by rw [E]; rfl
      refine br_t ((congrArg nI e).trans nI_0) ⟨ii, fl_ac r1 k r2 (by omega) (fun b2 b3 b4 b5 kk => ?_)⟩
      refine fl_s75 (S := fl_add (fl_run S st i).1 (fl_run S st i).2 (st i)) (show fl_n (fl_run S st i).1 + 1 ≤ 321 by omega) kk (show fl_n (fl_run S st i).1 < fl_n (fl_run S st i).1 + 1 by omega) (fun b7 kb => ?_)
      rw [E3, E2]
      exact ih (i + 1) _ _ _ _ _ _ (by omega) (fl_K_cg kb E1 (fun _ => rfl) (fun j => by
        show to j + fl_ad (fun i => (fl_run S st i).2) y i j + (if j = fl_n (fl_run S st i).1 then y else 0) = to j + (fl_ad (fun i => (fl_run S st i).2) y i j + (if j = (fl_run S st (i + 1)).2 then y else 0))
        rw [E2, Int32.add_assoc]))
    · have E : fl_run S st (i + 1) = ((fl_run S st i).1, fl_nx (fl_run S st i).1 (fl_run S st i).2 (st i)) := fl_sp_f e
      have E1 : (fl_run S st i).1 = (fl_run S st (i + 1)).1 := by rw [E]
      have E2 : fl_nx (fl_run S st i).1 (fl_run S st i).2 (st i) = (fl_run S st (i + 1)).2 := by rw [E]
      refine br_f (nI_ne0 (by omega) (by omega)) (fl_s75 h2 k nx.1 (fun b7 kb => ?_))
      have q := ih (i + 1) _ _ _ _ _ _ (by omega) (fl_K_cg kb E1 (fun _ => rfl) (fun j => by
        show to j + fl_ad (fun i => (fl_run S st i).2) y i j + (if j = fl_nx (fl_run S st i).1 (fl_run S st i).2 (st i) then y else 0) = to j + (fl_ad (fun i => (fl_run S st i).2) y i j + (if j = (fl_run S st (i + 1)).2 then y else 0))
        rw [E2, Int32.add_assoc]))
      rw [← E1, ← E2] at q
      exact q
theorem fl_smp (w : fl_wf S) (k : fl_K σ S ow to a2 a3 a4 a5 a6 a7) (hN : fl_n S + d ≤ 321) (hd : d ≤ 8) (sg : fl_sg σ) (t : fl_T σ d st a1) {y : Nat} {p : Int32} (ep : p = nI y) (h1 : 1 ≤ y) (h2 : y ≤ 100) (hs : s < 40)
    (hp : ∀ b2 b3 b4 b5 b6 b7, fl_K σ (fl_run S st d).1 (fun j => ow j + (if j = (fl_run S st d).2 then nI y else 0)) (fun j => to j + fl_ad (fun i => (fl_run S st i).2) (nI y) d j) b2 b3 b4 b5 b6 b7 → post (nI (s + 1)) (nI d, nI (s + 1), nI (fl_n (fl_run S st d).1), a1, b2, b3, b4, b5, b6, b7)) :
    wpX_sample post (nI d, nI s, nI (fl_n S), a1, a2, a3, a4, a5, a6, a7) p := by
  subst ep
  refine br_f (nI_nlt (b := 1) h1 (by omega)) (br_f (nI_nlt (a := 100) h2 (by decide)) (br_t (nI_lt (b := 40) hs (by decide)) (nm_e ⟨d + 1, fl_s36 w hN hd sg t hp d 0 _ _ _ _ _ _ (by omega) ?_⟩)))
  obtain ⟨k1, k2, k3, k4, k5, k6, k7⟩ := k
  exact ⟨k1, k2, k3, k4, k5, k6, fl_updw k7 0⟩
theorem fl_smp40 {p : Int32} {y : Nat} (ep : p = nI y) (h1 : 1 ≤ y) (h2 : y ≤ 100) (hp : post (-1) (f0, nI 40, f2, a1, a2, a3, a4, a5, a6, a7)) : wpX_sample post (f0, nI 40, f2, a1, a2, a3, a4, a5, a6, a7) p := by
  subst ep
  exact br_f (nI_nlt (b := 1) h1 (by omega)) (br_f (nI_nlt (a := 100) h2 (by decide)) (br_f (by decide) hp))
end
end
section
def fl_i : Nat → Nat := fun x => x
def fl_v : Nat → Nat := fun x => 7 - x
theorem fl_sg_i : fl_sg fl_i := ⟨fun _ h => h, fun _ _ _ _ e => e⟩
theorem fl_sg_v : fl_sg fl_v := ⟨fun x _ => Nat.sub_le 7 x, fun x y hx hy e => by
  have e' : 7 - x = 7 - y := e
  omega⟩
theorem fl_7 {x : Nat} (h : x ≤ 7) : (7 : Int32) - nI x = nI (fl_v x) := pk_sub (a := 7) h
theorem fl_T_up {σ : Nat → Nat} {d x : Nat} {st : Nat → Nat} {a1 : Nat → Int32} (t : fl_T σ d st a1) (hx : x ≤ 7) : fl_T σ (d + 1) (fl_up st d x) (upd a1 d (nI (σ x))) := by
  intro i hi
  by_cases e : i = d
  · subst e
    rw [pk_us, fl_us]
    exact ⟨rfl, hx⟩
  · rw [pk_un e, fl_un e]
    exact t i (by omega)
theorem fl_T_keep {σ : Nat → Nat} {d : Nat} {st : Nat → Nat} {a1 : Nat → Int32} {y : Int32} (t : fl_T σ d st a1) : fl_T σ d st (upd a1 d y) := by
  intro i hi
  rw [pk_un (by omega)]
  exact t i hi
theorem fl_T_pred {σ : Nat → Nat} {d : Nat} {st : Nat → Nat} {a1 : Nat → Int32} (t : fl_T σ (d + 1) st a1) : fl_T σ d st a1 := fun i hi => t i (by omega)
theorem fl_nos_up {S : fl_P} (w : fl_wf S) {st : Nat → Nat} {d v b : Nat} (hv : fl_nos S st d = some v) (h0 : 0 < b) (hb : b < fl_n S) (ha : fl_a S b = v) : fl_nos S (fl_up st d (fl_f S b)) (d + 1) = some b := by
  have e : fl_nos S (fl_up st d (fl_f S b)) d = some v := (fl_nos_cg d (fun i hi => fl_un (by omega))).trans hv
  have q := w.2.2.2.2.2.2.2.2.2 b h0 hb
  rw [ha] at q
  rw [fl_nos_s e, fl_us, q, if_neg (by omega)]
section
variable {S : fl_P} {ow to : Nat → Int32} {a1 a2 a3 a4 a5 a6 a7 b1 b2 b3 b4 b5 b6 b7 : Nat → Int32} {f1 g1 : Int32} {d : Nat} {st : Nat → Nat} {post : Int32 → St2 → Prop}
theorem fl_a169 {x5 x6 : Int32} (hd : d < 8) (h5 : a1 d = x5) (h6 : b1 d = x6) (hp : post 1 (nI d, f1, nI (fl_n S), a1, a2, a3, a4, a5, a6, a7, nI d, g1, nI (fl_n S), b1, b2, b3, b4, b5, b6, b7)) : wL_alike_169 post x5 x6 1 (nI (d + 1)) f1 (nI (fl_n S)) a1 a2 a3 a4 a5 a6 a7 (nI (d + 1)) g1 (nI (fl_n S)) b1 b2 b3 b4 b5 b6 b7 := by
  unfold wL_alike_169
  exact fl_leave hd (br_t h5 (fl_leave hd (br_t h6 (br_f (by decide) hp))))
theorem fl_alike (w : fl_wf S) (hd : d ≤ 8) (ka : fl_K fl_i S ow to a2 a3 a4 a5 a6 a7) (kb : fl_K fl_v S ow to b2 b3 b4 b5 b6 b7) (ta : fl_T fl_i d st a1) (tb : fl_T fl_v d st b1) {f g : Nat} {p2 p3 y : Int32} (hf : f ≤ 7) (hg : g ≤ 7) (e2 : p2 = nI f) (e3 : p3 = nI g)
    (hp : ∀ a1' b1', fl_T fl_i d st a1' → fl_T fl_v d st b1' → post 1 (nI d, f1, nI (fl_n S), a1', a2, a3, a4, a5, a6, a7, nI d, g1, nI (fl_n S), b1', b2, b3, b4, b5, b6, b7)) :
    wpL_alike post (nI d, f1, nI (fl_n S), a1, a2, a3, a4, a5, a6, a7, nI d, g1, nI (fl_n S), b1, b2, b3, b4, b5, b6, b7) p2 p3 y := by
  have e2' : 7 - p2 = nI (fl_v f) := by rw [e2]; exact fl_7 hf
  have e3' : 7 - p3 = nI (fl_v g) := by rw [e3]; exact fl_7 hg
  unfold wpL_alike
  refine fl_tot w ka fl_sg_i hd ta ?_
  refine fl_tot w kb fl_sg_v hd tb ?_
  refine br_t rfl ?_
  refine fl_own w ka fl_sg_i hd ta ?_
  refine fl_own w kb fl_sg_v hd tb ?_
  refine br_t rfl ?_
  refine fl_pth w ka ?_
  refine fl_pth w kb ?_
  refine br_t rfl ?_
  refine fl_dee w ka ?_
  refine fl_dee w kb ?_
  refine br_t rfl ?_
  refine fl_inc w ka fl_sg_i hf e2 ?_
  refine fl_inc w kb fl_sg_v hf e2' ?_
  refine br_t rfl ?_
  refine fl_exc w ka fl_sg_i hg e3 ?_
  refine fl_exc w kb fl_sg_v hg e3' ?_
  refine br_t rfl ?_
  refine fl_edg w ka fl_sg_i hf hg e2 e3 ?_
  refine fl_edg w kb fl_sg_v hf hg e2' e3' ?_
  refine br_t rfl ?_
  by_cases h : ∀ v, fl_nos S st d = some v → d ≠ 8 → fl_c S v = 0
  · exact fl_hot0 w ka fl_sg_i hd ta h (fl_hot0 w kb fl_sg_v hd tb h (br_t rfl (br_t rfl (hp a1 b1 ta tb))))
  · obtain ⟨v, hv, h8, hc⟩ : ∃ v, fl_nos S st d = some v ∧ d ≠ 8 ∧ fl_c S v ≠ 0 :=
      Classical.byContradiction (fun z => h (fun v z1 z2 => Classical.byContradiction (fun z3 => z ⟨v, z1, z2, z3⟩)))
    refine fl_hot w ka fl_sg_i hd ta hv h8 hc (fun b p0 pn pa pt => ?_)
    refine fl_hot w kb fl_sg_v hd tb hv h8 hc (fun b' p0' pn' pa' pt' => ?_)
    have A := ka.2.1 b p0 pn
    have B := kb.2.1 b' p0' pn'
    have fb := w.2.2.1 b p0 pn
    have fb' := w.2.2.1 b' p0' pn'
    have N1 := fl_nos_up w hv p0 pn pa
    have N2 := fl_nos_up w hv p0' pn' pa'
    refine br_f (fun z => fl_m1 fb (z.symm.trans A)) ?_
    refine fl_call (x := fl_i (fl_f S b)) fb A (by omega) ?_
    refine fl_call (x := fl_v (fl_f S b')) (fl_sg_v.1 _ fb') B (by omega) ?_
    refine fl_tot w ka fl_sg_i (by omega) (fl_T_up ta fb) ?_
    refine fl_tot w kb fl_sg_v (by omega) (fl_T_up tb fb') ?_
    rw [N1, N2]
    refine br_t (pt.trans pt'.symm) ?_
    exact fl_a169 (by omega) (pk_us.trans A.symm) (pk_us.trans B.symm) (hp _ _ (fl_T_keep ta) (fl_T_keep tb))
end
end
section
def fl_J (q : Nat) (S : fl_P) (ow to : Nat → Int32) (d : Nat) (st : Nat → Nat) (a1 a2 a3 a4 a5 a6 a7 b1 b2 b3 b4 b5 b6 b7 : Nat → Int32) : Prop :=
  fl_wf S ∧ fl_n S ≤ 1 + 8 * q ∧ q ≤ 20 ∧ d ≤ 8 ∧ fl_K fl_i S ow to a2 a3 a4 a5 a6 a7 ∧ fl_K fl_v S ow to b2 b3 b4 b5 b6 b7 ∧ fl_T fl_i d st a1 ∧ fl_T fl_v d st b1
def fl_H (J : Int32 → Int32 → Int32 → Int32 → Int32 → (Nat → Int32) → (Nat → Int32) → (Nat → Int32) → (Nat → Int32) → (Nat → Int32) → (Nat → Int32) → (Nat → Int32) → Int32 → Int32 → Int32 → (Nat → Int32) → (Nat → Int32) → (Nat → Int32) → (Nat → Int32) → (Nat → Int32) → (Nat → Int32) → (Nat → Int32) → Prop) (i : Nat) : Prop :=
  ∀ (q : Nat) (S : fl_P) (ow to : Nat → Int32) (d : Nat) (st : Nat → Nat) (a1 a2 a3 a4 a5 a6 a7 b1 b2 b3 b4 b5 b6 b7 : Nat → Int32), fl_J q S ow to d st a1 a2 a3 a4 a5 a6 a7 b1 b2 b3 b4 b5 b6 b7 →
    J (nI q) (nI i) (nI d) (nI q) (nI (fl_n S)) a1 a2 a3 a4 a5 a6 a7 (nI d) (nI (2 * q)) (nI (fl_n S)) b1 b2 b3 b4 b5 b6 b7
section
variable {J : Int32 → Int32 → Int32 → Int32 → Int32 → (Nat → Int32) → (Nat → Int32) → (Nat → Int32) → (Nat → Int32) → (Nat → Int32) → (Nat → Int32) → (Nat → Int32) → Int32 → Int32 → Int32 → (Nat → Int32) → (Nat → Int32) → (Nat → Int32) → (Nat → Int32) → (Nat → Int32) → (Nat → Int32) → (Nat → Int32) → Prop}
  {post : Int32 → Prop} {L kc ks : Nat} {xs : Nat → Int32} {q i d : Nat} {S : fl_P} {ow to : Nat → Int32} {st : Nat → Nat} {a1 a2 a3 a4 a5 a6 a7 b1 b2 b3 b4 b5 b6 b7 : Nat → Int32}
theorem fl_231 (H : fl_H J (i + 3)) (hi : i + 3 ≤ L) (hL : L ≤ 260) {f : Nat} (hf : f ≤ 7) {x6 x7 : Int32} (e7 : x7 = nI f) (j : fl_J q S ow to d st a1 a2 a3 a4 a5 a6 a7 b1 b2 b3 b4 b5 b6 b7) :
    wL_law_231 post L xs J (nI q) (nI i) x6 x7 kc ks (nI d) (nI q) (nI (fl_n S)) a1 a2 a3 a4 a5 a6 a7 (nI d) (nI (2 * q)) (nI (fl_n S)) b1 b2 b3 b4 b5 b6 b7 := by
  obtain ⟨w, hn, hq, hd, ka, kb, ta, tb⟩ := j
  obtain ⟨g, hg, eg⟩ := pk_andE (x6 >>> ((6 : Int32) &&& 31)) (m := 7) 3 (by decide)
  refine ⟨pk_in (i + 2) L (by omega) (nI_add i 2), ?_⟩
  refine fl_alike w hd ka kb ta tb hf (show g ≤ 7 by omega) e7 eg (fun a1' b1' ta' tb' => ?_)
  exact br_f (by decide) (nm_r (nI_add i 3) (H q S ow to d st _ _ _ _ _ _ _ _ _ _ _ _ _ _ ⟨w, hn, hq, hd, ka, kb, ta', tb'⟩))
/-- both trees take a sample: the mirror in two halves -/
theorem fl_smps (H : fl_H J (i + 3)) (hi : i + 3 ≤ L) (hL : L ≤ 260) {f : Nat} (hf : f ≤ 7) {x5 x6 z0 : Int32} (e7 : z0 = nI f) (h3 : 3 < x5) (h5 : 5 < x5) (hq : q < 20) (j : fl_J q S ow to d st a1 a2 a3 a4 a5 a6 a7 b1 b2 b3 b4 b5 b6 b7) :
    wL_law_80 post L xs J (nI q) (nI i) x5 x6 z0 kc ks (nI d) (nI q) (nI (fl_n S)) a1 a2 a3 a4 a5 a6 a7 (nI d) (nI (2 * q)) (nI (fl_n S)) b1 b2 b3 b4 b5 b6 b7 := by
  obtain ⟨w, hn, hq20, hd, ka, kb, ta, tb⟩ := j
  obtain ⟨y, hy, ey⟩ := pk_andE x6 (m := 63) 6 (by decide)
  have e8 : 2 + (x6 &&& 63) = nI (2 + y) := by
    rw [ey]
    exact nI_add 2 y
  have e9 : nI (2 + y) / 2 = nI ((2 + y) / 2) := pk_div (d := 2) (by omega) (by omega) (by omega)
  have e10 : nI (2 + y) - nI ((2 + y) / 2) = nI (2 + y - (2 + y) / 2) := pk_sub (by omega)
  have r1 : nI (q + 1) = nI q + 1 := (nI_1 q).symm
  have m2 : (2 : Int32) * nI q = nI (2 * q) := pk_mul 2 q
  have r2 : nI (2 * q + 1) = 2 * nI q + 1 := by rw [m2, nI_1]
  have r3 : nI (2 * q + 1 + 1) = 2 * nI q + 2 := by
    rw [m2]
    exact (nI_add (2 * q) 2).symm
  have R := fl_run_ok w (st := st) d (by omega) (fun k hk => (ta k hk).2)
  have R' := R
  obtain ⟨R1, R2, R3, R4⟩ := R'
  have I : ∀ k, k ≤ d → fl_run (fl_run S st d).1 st k = ((fl_run S st d).1, (fl_run S st k).2) := fl_run_id R
  have I1 : (fl_run (fl_run S st d).1 st d).1 = (fl_run S st d).1 := by rw [I d (Nat.le_refl _)]
  have I2 : (fl_run (fl_run S st d).1 st d).2 = (fl_run S st d).2 := by rw [I d (Nat.le_refl _)]
  have hs : nI ((2 + y) / 2) + nI (2 + y - (2 + y) / 2) = nI (2 + y) := by
    rw [nI_add]
    exact congrArg nI (by omega)
  refine br_t h3 (br_t h5 (br_f (nI_ge (b := 20) hq (by decide)) (nm_r e8 ⟨by decide, nm_r e9 ?_⟩)))
  refine fl_smp w ka (by omega) hd fl_sg_i ta rfl (by omega) (by omega) (by omega) (fun c2 c3 c4 c5 c6 c7 kc' => ?_)
  refine br_t r1 ?_
  refine fl_smp w kb (by omega) hd fl_sg_v tb rfl (by omega) (by omega) (by omega) (fun d2 d3 d4 d5 d6 d7 kd' => ?_)
  refine br_t r2 ?_
  refine fl_smp R1 kd' (by omega) hd fl_sg_v tb e10 (by omega) (by omega) (by omega) (fun g2 g3 g4 g5 g6 g7 kg' => ?_)
  refine br_t r3 (nm_r (nI_1 q) ?_)
  have kg : fl_K fl_v (fl_run S st d).1 (fun k => ow k + (if k = (fl_run S st d).2 then nI (2 + y) else 0)) (fun k => to k + fl_ad (fun i => (fl_run S st i).2) (nI (2 + y)) d k) g2 g3 g4 g5 g6 g7 := by
    refine fl_K_cg kg' I1 (fun k => ?_) (fun k => ?_)
    · show ow k + (if k = (fl_run S st d).2 then nI ((2 + y) / 2) else 0) + (if k = (fl_run (fl_run S st d).1 st d).2 then nI (2 + y - (2 + y) / 2) else 0) = ow k + (if k = (fl_run S st d).2 then nI (2 + y) else 0)
      rw [I2, ← hs, fl_if_add, Int32.add_assoc]
    · show to k + fl_ad (fun i => (fl_run S st i).2) (nI ((2 + y) / 2)) d k + fl_ad (fun i => (fl_run (fl_run S st d).1 st i).2) (nI (2 + y - (2 + y) / 2)) d k = to k + fl_ad (fun i => (fl_run S st i).2) (nI (2 + y)) d k
      rw [fl_ad_cg (v := fun i => (fl_run (fl_run S st d).1 st i).2) (v' := fun i => (fl_run S st i).2) d k (fun i hi => by
        show (fl_run (fl_run S st d).1 st i).2 = _
        rw [I i hi]), ← hs, fl_ad_add, Int32.add_assoc]
  have Q := fl_231 (post := post) (L := L) (xs := xs) (kc := kc) (ks := ks) (x6 := x6) H hi hL hf e7 (q := q + 1) (S := (fl_run S st d).1) (st := st) ⟨R1, by omega, by omega, hd, kc', kg, ta, tb⟩
  rw [show 2 * (q + 1) = 2 * q + 1 + 1 by omega] at Q
  rw [I1]
  exact Q
theorem fl_80 (H : fl_H J (i + 3)) (hi : i + 3 ≤ L) (hL : L ≤ 260) {f k : Nat} (hf : f ≤ 7) (hk : k < 8) {x6 z0 : Int32} (e7 : z0 = nI f) (j : fl_J q S ow to d st a1 a2 a3 a4 a5 a6 a7 b1 b2 b3 b4 b5 b6 b7) :
    wL_law_80 post L xs J (nI q) (nI i) (nI k) x6 z0 kc ks (nI d) (nI q) (nI (fl_n S)) a1 a2 a3 a4 a5 a6 a7 (nI d) (nI (2 * q)) (nI (fl_n S)) b1 b2 b3 b4 b5 b6 b7 := by
  have e7' : 7 - z0 = nI (fl_v f) := by rw [e7]; exact fl_7 hf
  rcases Nat.lt_or_ge 3 k with h3 | h3
  · have l3 : (3 : Int32) < nI k := nI_lt (a := 3) h3 (by omega)
    rcases Nat.lt_or_ge 5 k with h5 | h5
    · have l5 : (5 : Int32) < nI k := nI_lt (a := 5) h5 (by omega)
      rcases Nat.lt_or_ge q 20 with hq | hq
      · exact fl_smps H hi hL hf e7 l3 l5 hq j
      · have eq : q = 20 := by
          have := j.2.2.1
          omega
        subst eq
        exact br_t l3 (br_t l5 (br_t (by decide) (fl_smp40 (y := 5) rfl (by omega) (by omega) (br_t rfl (fl_231 H hi hL hf e7 j)))))
    · refine br_t l3 (br_f (nI_nlt (a := 5) h5 (by decide)) ?_)
      obtain ⟨w, hn, hq, hd, ka, kb, ta, tb⟩ := j
      cases d with
      | zero => exact fl_leave0 (fl_leave0 (br_f (by decide) (br_t rfl (fl_231 H hi hL hf e7 ⟨w, hn, hq, hd, ka, kb, ta, tb⟩))))
      | succ d =>
        obtain ⟨t1, t2⟩ := ta d (by omega)
        obtain ⟨t3, t4⟩ := tb d (by omega)
        refine fl_leave (by omega) (fl_leave (by omega) (br_t ?_ (br_t ?_ (fl_231 H hi hL hf e7 ⟨w, hn, hq, by omega, ka, kb, fl_T_pred ta, fl_T_pred tb⟩))))
        · rw [t1]
          exact nI_pos' (fl_nI7 (fl_sg_i.1 _ t2))
        · rw [t1, t3]
          exact (fl_7 t2).symm
  · refine br_f (nI_nlt (a := 3) h3 (by decide)) ?_
    obtain ⟨w, hn, hq, hd, ka, kb, ta, tb⟩ := j
    rcases Nat.lt_or_ge d 8 with h8 | h8
    · exact fl_call (x := fl_i f) hf e7 h8 (fl_call (x := fl_v f) (fl_sg_v.1 f hf) e7' h8 (br_t rfl (fl_231 H hi hL hf e7 ⟨w, hn, hq, h8, ka, kb, fl_T_up ta hf, fl_T_up tb hf⟩)))
    · have e : d = 8 := by omega
      subst e
      exact fl_call8 hf e7 (fl_call8 (fl_sg_v.1 f hf) e7' (br_t rfl (fl_231 H hi hL hf e7 ⟨w, hn, hq, hd, ka, kb, ta, tb⟩)))
end
theorem fl_21 {L kc ks : Nat} {xs : Nat → Int32} (hL : L ≤ 260) : ∀ n i, 240 ≤ i + 3 * n → i ≤ 242 → fl_H (wL_law_21 (fun r => r = 1) L xs kc ks (n + 1)) i := by
  intro n
  induction n with
  | zero =>
    intro i h1 h2 q S ow to d st a1 a2 a3 a4 a5 a6 a7 b1 b2 b3 b4 b5 b6 b7 j
    exact pk_lt L (i + 3) (fun _ => rfl) (fun _ => br_t (nI_le (a := 240) (by omega) (by omega)) rfl) rfl (nI_add i 3)
  | succ n ih =>
    intro i h1 h2 q S ow to d st a1 a2 a3 a4 a5 a6 a7 b1 b2 b3 b4 b5 b6 b7 j
    refine pk_lt L (i + 3) (fun _ => rfl) (fun hi => pk_le 240 i (fun _ => rfl) (fun h => ?_)) rfl (nI_add i 3)
    have H := ih (i + 3) (by omega) (by omega)
    obtain ⟨k, hk, ek⟩ := pk_andE (xs (nI i).toNatClampNeg) (m := 7) 3 (by decide)
    refine ⟨pk_in i L (by omega), nm_r ek ⟨pk_in (i + 1) L (by omega) (nI_1 i), nm_e ?_⟩⟩
    obtain ⟨f, hf, ef⟩ := pk_andE (xs (nI i + 1).toNatClampNeg >>> ((3 : Int32) &&& 31)) (m := 7) 3 (by decide)
    obtain ⟨g, hg, eg⟩ := pk_andE (xs (nI i + 1).toNatClampNeg >>> ((3 : Int32) &&& 31)) (m := 1) 1 (by decide)
    exact br_c (fun _ => fl_80 H hi hL (show f ≤ 7 by omega) (show k < 8 by omega) ef j) (fun _ => fl_80 H hi hL (show g ≤ 7 by omega) (show k < 8 by omega) eg j)
def fl_S0 : fl_P := (1, fun _ => 0, fun _ => 0, fun _ => 0, fun _ => 0)
theorem fl_S0_wf : fl_wf fl_S0 := by
  have n1 : fl_n fl_S0 = 1 := rfl
  refine ⟨by omega, by omega, fun j h1 h2 => absurd h2 (by omega), fun j _ => ?_, fun j _ => ?_, fun j h1 h2 => absurd h2 (by omega), fun j _ => rfl, fun j _ h => absurd h (Nat.lt_irrefl 0), fun j h1 h2 => absurd h2 (by omega), fun j h1 h2 => absurd h2 (by omega)⟩
  · exact Nat.zero_lt_one
  · exact Nat.zero_lt_one
theorem fl_J0 : fl_J 0 fl_S0 (fun _ => 0) (fun _ => 0) 0 (fun _ => 0) (fun _ => 0) (upd (fun _ => 0) 0 (-1)) (fun _ => 0) (fun _ => 0) (fun _ => 0) (fun _ => 0) (fun _ => 0) (fun _ => 0) (upd (fun _ => 0) 0 (-1)) (fun _ => 0) (fun _ => 0) (fun _ => 0) (fun _ => 0) (fun _ => 0) := by
  have n1 : fl_n fl_S0 = 1 := rfl
  have K : ∀ σ : Nat → Nat, fl_K σ fl_S0 (fun _ => 0) (fun _ => 0) (upd (fun _ => 0) 0 (-1)) (fun _ => 0) (fun _ => 0) (fun _ => 0) (fun _ => 0) (fun _ => 0) := fun σ =>
    ⟨pk_us, fun j h1 h2 => absurd h2 (by omega), fun _ => rfl, fun _ => rfl, fun _ => rfl, fun _ => rfl, fun _ => rfl⟩
  exact ⟨fl_S0_wf, by omega, by omega, by omega, K _, K _, fun i hi => absurd hi (by omega), fun i hi => absurd hi (by omega)⟩
theorem i_vc (xs : Nat → Int32) (L : Nat) (hL : L ≤ 260) : wpL_law (fun r => r = 1) L xs := by
  refine ⟨7, 1934, by decide, by decide, ?_⟩
  refine ⟨by decide, by decide, by decide, by decide, by decide, by decide, by decide, by decide, by decide, by decide, by decide, by decide, by decide, by decide, nm_e ⟨by decide, by decide, 7, 1934, by decide, by decide, ?_⟩⟩
  refine ⟨by decide, by decide, by decide, by decide, by decide, by decide, by decide, by decide, by decide, by decide, by decide, by decide, by decide, by decide, nm_e ⟨80 + 1, ?_⟩⟩
  exact fl_21 hL 80 0 (by omega) (by omega) 0 fl_S0 _ _ 0 _ _ _ _ _ _ _ _ _ _ _ _ _ _ _ fl_J0
end
