section
/-- an entry of the picture: the ending's letters, its slot, what stands before it -/
abbrev ei_E : Type := List Nat × Nat × Nat
/-- the order of endings: by letters, an ending that stops is less; then by slot -/
def ei_lt (s s' : Nat) : List Nat → List Nat → Bool
  | [], [] => decide (s < s')
  | [], _ :: _ => true
  | _ :: _, [] => false
  | a :: t, b :: u => decide (a < b) || (a == b && ei_lt s s' t u)
theorem ei_lt_irr (s : Nat) (w : List Nat) : ei_lt s s w w = false := by
  induction w with
  | nil => simp [ei_lt]
  | cons a t ih => simp [ei_lt, ih]
theorem ei_lt_trans {s1 s2 s3 : Nat} : ∀ {u v w : List Nat}, ei_lt s1 s2 u v = true → ei_lt s2 s3 v w = true → ei_lt s1 s3 u w = true
  | [], [], [], h, g => by simp [ei_lt] at *; omega
  | [], [], _ :: _, h, g => by simp [ei_lt]
  | [], _ :: _, [], h, g => by simp [ei_lt] at g
  | [], _ :: _, _ :: _, h, g => by simp [ei_lt]
  | _ :: _, [], _, h, g => by simp [ei_lt] at h
  | _ :: _, _ :: _, [], h, g => by simp [ei_lt] at g
  | a :: t, b :: u, c :: v, h, g => by
    simp only [ei_lt, Bool.or_eq_true, decide_eq_true_eq, Bool.and_eq_true, beq_iff_eq] at *
    rcases h with h | ⟨h1, h2⟩
    · rcases g with g | ⟨g1, g2⟩
      · exact Or.inl (by omega)
      · exact Or.inl (by omega)
    · rcases g with g | ⟨g1, g2⟩
      · exact Or.inl (by omega)
      · exact Or.inr ⟨by omega, ei_lt_trans h2 g2⟩
theorem ei_lt_tot {s s' : Nat} : ∀ {u v : List Nat}, ei_lt s s' u v = false → ei_lt s' s v u = false → u = v ∧ s = s'
  | [], [], h, g => by simp [ei_lt] at *; omega
  | [], _ :: _, h, g => by simp [ei_lt] at h
  | _ :: _, [], h, g => by simp [ei_lt] at g
  | a :: t, b :: u, h, g => by
    simp only [ei_lt, Bool.or_eq_false_iff, decide_eq_false_iff_not] at *
    have e : a = b := by omega
    subst e
    have h2 := h.2
    have g2 := g.2
    simp only [beq_self_eq_true, Bool.true_and] at h2 g2
    have r := ei_lt_tot h2 g2
    exact ⟨by rw [r.1], r.2⟩
theorem ei_lt_asym {s s' : Nat} {u v : List Nat} (h : ei_lt s s' u v = true) : ei_lt s' s v u = false := by
  cases g : ei_lt s' s v u with
  | false => rfl
  | true =>
    have := ei_lt_trans h g
    rw [ei_lt_irr] at this
    exact absurd this (by decide)
/-- a cut with a letter put in front -/
def ei_up (c : Nat) (P : List Nat → Nat → Bool) : List Nat → Nat → Bool
  | [], _ => true
  | a :: t, s => decide (a < c) || (a == c && P t s)
/-- how many entries lie in a cut -/
def ei_ct (P : List Nat → Nat → Bool) (E : List ei_E) : Nat := E.countP (fun x => P x.1 x.2.1)
/-- sorted -/
def ei_so (E : List ei_E) : Prop := E.Pairwise (fun x y => ei_lt x.2.1 y.2.1 x.1 y.1 = true)
/-- closed downwards -/
def ei_dn (P : List Nat → Nat → Bool) : Prop := ∀ w s w' s', ei_lt s s' w w' = true → P w' s' = true → P w s = true
theorem ei_dn_up {c : Nat} {P : List Nat → Nat → Bool} (h : ei_dn P) : ei_dn (ei_up c P) := by
  intro w s w' s' hl hp
  cases w with
  | nil => rfl
  | cons a t =>
    cases w' with
    | nil => simp [ei_lt] at hl
    | cons b u =>
      simp only [ei_lt, ei_up, Bool.or_eq_true, decide_eq_true_eq, Bool.and_eq_true, beq_iff_eq] at *
      rcases hl with hl | ⟨h1, h2⟩
      · rcases hp with hp | ⟨g1, g2⟩
        · exact Or.inl (by omega)
        · exact Or.inl (by omega)
      · rcases hp with hp | ⟨g1, g2⟩
        · exact Or.inl (by omega)
        · exact Or.inr ⟨by omega, h _ _ _ _ h2 g2⟩
theorem ei_dn_lt (w : List Nat) (s : Nat) : ei_dn (fun w' s' => ei_lt s' s w' w) := by
  intro a i b j h g
  exact ei_lt_trans h g
theorem ei_up_lt (c : Nat) (w : List Nat) (s : Nat) : ei_up c (fun w' s' => ei_lt s' s w' w) = (fun w' s' => ei_lt s' s w' (c :: w)) := by
  funext w' s'
  cases w' with
  | nil => rfl
  | cons a t => rfl
theorem ei_take {P : List Nat → Nat → Bool} (hP : ei_dn P) : ∀ {E : List ei_E}, ei_so E → E.take (ei_ct P E) = E.filter (fun x => P x.1 x.2.1)
  | [], _ => by simp [ei_ct]
  | x :: l, h => by
    have h2 := List.pairwise_cons.mp h
    cases hx : P x.1 x.2.1 with
    | true =>
      have e : ei_ct P (x :: l) = ei_ct P l + 1 := by simp [ei_ct, hx]
      rw [e, List.take_succ_cons, ei_take hP h2.2, List.filter_cons, hx]
      simp
    | false =>
      have hn : ∀ y, y ∈ l → P y.1 y.2.1 = false := by
        intro y hy
        cases hpy : P y.1 y.2.1 with
        | false => rfl
        | true =>
          have := hP _ _ _ _ (h2.1 y hy) hpy
          rw [hx] at this
          exact absurd this (by decide)
      have e : ei_ct P (x :: l) = 0 := by
        unfold ei_ct
        rw [List.countP_eq_zero]
        intro y hy
        rcases List.mem_cons.mp hy with rfl | hy
        · simp [hx]
        · simp [hn y hy]
      rw [e, List.take_zero]
      symm
      rw [List.filter_eq_nil_iff]
      intro y hy
      rcases List.mem_cons.mp hy with rfl | hy
      · simp [hx]
      · simp [hn y hy]
theorem ei_drop {P : List Nat → Nat → Bool} (hP : ei_dn P) : ∀ {E : List ei_E}, ei_so E → E.drop (ei_ct P E) = E.filter (fun x => !P x.1 x.2.1)
  | [], _ => by simp [ei_ct]
  | x :: l, h => by
    have h2 := List.pairwise_cons.mp h
    cases hx : P x.1 x.2.1 with
    | true =>
      have e : ei_ct P (x :: l) = ei_ct P l + 1 := by simp [ei_ct, hx]
      rw [e, List.drop_succ_cons, ei_drop hP h2.2, List.filter_cons, hx]
      simp
    | false =>
      have hn : ∀ y, y ∈ l → P y.1 y.2.1 = false := by
        intro y hy
        cases hpy : P y.1 y.2.1 with
        | false => rfl
        | true =>
          have := hP _ _ _ _ (h2.1 y hy) hpy
          rw [hx] at this
          exact absurd this (by decide)
      have e : ei_ct P (x :: l) = 0 := by
        unfold ei_ct
        rw [List.countP_eq_zero]
        intro y hy
        rcases List.mem_cons.mp hy with rfl | hy
        · simp [hx]
        · simp [hn y hy]
      rw [e, List.drop_zero]
      symm
      rw [List.filter_eq_self]
      intro y hy
      rcases List.mem_cons.mp hy with rfl | hy
      · simp [hx]
      · simp [hn y hy]
theorem ei_ct_le (P : List Nat → Nat → Bool) (E : List ei_E) : ei_ct P E ≤ E.length := List.countP_le_length
/-- a place lies in a cut exactly if it stands below its count -/
theorem ei_cut {P : List Nat → Nat → Bool} (hP : ei_dn P) : ∀ {E : List ei_E}, ei_so E → ∀ {r : Nat} {x : ei_E}, E[r]? = some x → (r < ei_ct P E ↔ P x.1 x.2.1 = true)
  | [], _, r, x, hr => by simp at hr
  | y :: l, h, r, x, hr => by
    have h2 := List.pairwise_cons.mp h
    cases hy : P y.1 y.2.1 with
    | true =>
      have e : ei_ct P (y :: l) = ei_ct P l + 1 := by simp [ei_ct, hy]
      cases r with
      | zero =>
        simp at hr
        subst hr
        simp [e, hy]
      | succ k =>
        simp at hr
        have := ei_cut hP h2.2 hr
        rw [e, ← this]
        omega
    | false =>
      have hn : ∀ z, z ∈ y :: l → P z.1 z.2.1 = false := by
        intro z hz
        rcases List.mem_cons.mp hz with rfl | hz
        · exact hy
        · cases hpz : P z.1 z.2.1 with
          | false => rfl
          | true =>
            have := hP _ _ _ _ (h2.1 z hz) hpz
            rw [hy] at this
            exact absurd this (by decide)
      have e : ei_ct P (y :: l) = 0 := by
        unfold ei_ct
        rw [List.countP_eq_zero]
        intro z hz
        simp [hn z hz]
      rw [e, hn x (List.mem_of_getElem? hr)]
      simp
/-- the rank of an ending -/
def ei_rk (E : List ei_E) (w : List Nat) (s : Nat) : Nat := ei_ct (fun w' s' => ei_lt s' s w' w) E
theorem ei_rk_get : ∀ {E : List ei_E}, ei_so E → ∀ {r : Nat} {x : ei_E}, E[r]? = some x → ei_rk E x.1 x.2.1 = r
  | [], _, r, x, hr => by simp at hr
  | y :: l, h, r, x, hr => by
    have h2 := List.pairwise_cons.mp h
    cases r with
    | zero =>
      simp at hr
      subst hr
      unfold ei_rk ei_ct
      rw [List.countP_eq_zero]
      intro z hz
      rcases List.mem_cons.mp hz with rfl | hz
      · simp [ei_lt_irr]
      · simp [ei_lt_asym (h2.1 z hz)]
    | succ k =>
      simp at hr
      have ih := ei_rk_get h2.2 hr
      have hl := h2.1 x (List.mem_of_getElem? hr)
      unfold ei_rk ei_ct at *
      rw [List.countP_cons, ih]
      simp [hl]
theorem ei_rk_mem {E : List ei_E} (h : ei_so E) {x : ei_E} (hx : x ∈ E) : E[ei_rk E x.1 x.2.1]? = some x := by
  obtain ⟨r, hr⟩ := List.getElem?_of_mem hx
  rw [ei_rk_get h hr]
  exact hr
theorem ei_lt_len {E : List ei_E} {r : Nat} {x : ei_E} (h : E[r]? = some x) : r < E.length := by
  rcases Nat.lt_or_ge r E.length with z | z
  · exact z
  · rw [List.getElem?_eq_none z] at h
    exact absurd h (by simp)
/-- counts that split -/
theorem ei_split {f g k : ei_E → Bool} : ∀ {E : List ei_E}, (∀ x, x ∈ E → (f x).toNat = (g x).toNat + (k x).toNat) → E.countP f = E.countP g + E.countP k
  | [], _ => by simp
  | x :: l, h => by
    have h1 := h x (List.mem_cons_self ..)
    have h2 := ei_split (E := l) (fun y hy => h y (List.mem_cons_of_mem _ hy))
    simp only [List.countP_cons, h2]
    cases hf : f x <;> cases hg : g x <;> cases hk : k x <;> simp [hf, hg, hk] at * <;> omega
theorem ei_cong {f g : ei_E → Bool} {E : List ei_E} (h : ∀ x, x ∈ E → f x = g x) : E.countP f = E.countP g := by
  apply List.countP_congr
  intro x hx
  rw [h x hx]
/-- endings that aren't empty against letters before endings; v: a word of slot s0 whose entry isn't in yet -/
def ei_bal (E : List ei_E) (v : List Nat) (s0 : Nat) : Prop := ∀ Q : List Nat → Nat → Bool,
  E.countP (fun x => !x.1.isEmpty && Q x.1 x.2.1) + (!v.isEmpty && Q v s0).toNat = E.countP (fun x => decide (x.2.2 < 4) && Q (x.2.2 :: x.1) x.2.1)
theorem ei_step {E : List ei_E} {v : List Nat} {s0 c : Nat} {P : List Nat → Nat → Bool} (hs : ei_so E) (hb : ei_bal E v s0) (hP : ei_dn P) (hc : c < 4) (hv : (!v.isEmpty && ei_up c P v s0) = false) :
    E.countP (fun x => x.1.isEmpty) + E.countP (fun x => decide (x.2.2 < c)) + (E.take (ei_ct P E)).countP (fun x => x.2.2 == c) = ei_ct (ei_up c P) E := by
  rw [ei_take hP hs, List.countP_filter]
  have h := hb (ei_up c P)
  rw [hv] at h
  have e1 : E.countP (fun x => decide (x.2.2 < 4) && ei_up c P (x.2.2 :: x.1) x.2.1) = E.countP (fun x => decide (x.2.2 < c)) + E.countP (fun x => (x.2.2 == c) && P x.1 x.2.1) := by
    apply ei_split
    intro x _
    simp only [ei_up]
    by_cases h1 : x.2.2 < c
    · have h2 : x.2.2 < 4 := by omega
      have h3 : (x.2.2 == c) = false := by simp; omega
      simp [h1, h2, h3]
    · by_cases h2 : x.2.2 = c
      · have h3 : x.2.2 < 4 := by omega
        simp [h2, hc]
      · have h3 : (x.2.2 == c) = false := by simp; omega
        simp [h1, h3]
  have e2 : ei_ct (ei_up c P) E = E.countP (fun x => x.1.isEmpty) + E.countP (fun x => !x.1.isEmpty && ei_up c P x.1 x.2.1) := by
    unfold ei_ct
    apply ei_split
    intro x _
    cases hx : x.1 with
    | nil => simp [ei_up]
    | cons a t => simp
  simp only [Bool.toNat_false, Nat.add_zero] at h
  rw [e2, h, e1]
  omega
end
section
/-- entries of the proper endings of a word -/
def ei_tl (s : Nat) : List Nat → List ei_E
  | [] => []
  | a :: t => (t, s, a) :: ei_tl s t
/-- entries of a whole text -/
def ei_ent (s : Nat) (w : List Nat) : List ei_E := if w.length = 0 then [] else (w, s, 4 + s) :: ei_tl s w
/-- entries of the texts of the first n slots -/
def ei_full (T : Nat → List Nat) : Nat → List ei_E
  | 0 => []
  | n + 1 => ei_full T n ++ ei_ent n (T n)
/-- how many of the first n slots are in use -/
def ei_cn (T : Nat → List Nat) : Nat → Nat
  | 0 => 0
  | n + 1 => ei_cn T n + (if (T n).length = 0 then 0 else 1)
/-- what stands before the ending at i -/
def ei_pr (w : List Nat) (s : Nat) : Nat → Nat
  | 0 => 4 + s
  | i + 1 => w.getD i 0
/-- a slot's text put anew -/
def ei_set (T : Nat → List Nat) (s : Nat) (w : List Nat) : Nat → List Nat := fun k => if k = s then w else T k
theorem ei_tl_mem {s : Nat} {x : ei_E} : ∀ {w : List Nat}, x ∈ ei_tl s w ↔ ∃ i, i < w.length ∧ x = (w.drop (i + 1), s, w.getD i 0)
  | [] => by simp [ei_tl]
  | a :: t => by
    simp only [ei_tl, List.mem_cons, ei_tl_mem (w := t)]
    constructor
    · rintro (rfl | ⟨i, hi, rfl⟩)
      · exact ⟨0, by simp, by simp⟩
      · exact ⟨i + 1, by simp; omega, by simp⟩
    · rintro ⟨i, hi, rfl⟩
      cases i with
      | zero => left; simp
      | succ k => right; exact ⟨k, by simp at hi; omega, by simp⟩
theorem ei_ent_mem {s : Nat} {x : ei_E} {w : List Nat} : x ∈ ei_ent s w ↔ w.length ≠ 0 ∧ ∃ i, i ≤ w.length ∧ x = (w.drop i, s, ei_pr w s i) := by
  unfold ei_ent
  by_cases h : w.length = 0
  · simp [h]
  · rw [if_neg h, List.mem_cons, ei_tl_mem]
    constructor
    · rintro (rfl | ⟨i, hi, rfl⟩)
      · exact ⟨h, 0, by omega, by simp [ei_pr]⟩
      · exact ⟨h, i + 1, by omega, by simp [ei_pr]⟩
    · rintro ⟨_, i, hi, rfl⟩
      cases i with
      | zero => left; simp [ei_pr]
      | succ k => right; exact ⟨k, by omega, by simp [ei_pr]⟩
theorem ei_full_mem {T : Nat → List Nat} {x : ei_E} : ∀ {n : Nat}, x ∈ ei_full T n ↔ ∃ s, s < n ∧ (T s).length ≠ 0 ∧ ∃ i, i ≤ (T s).length ∧ x = ((T s).drop i, s, ei_pr (T s) s i)
  | 0 => by simp [ei_full]
  | n + 1 => by
    simp only [ei_full, List.mem_append, ei_full_mem (n := n), ei_ent_mem]
    constructor
    · rintro (⟨s, hs, h⟩ | h)
      · exact ⟨s, by omega, h⟩
      · exact ⟨n, by omega, h⟩
    · rintro ⟨s, hs, h⟩
      by_cases e : s = n
      · subst e
        exact Or.inr h
      · exact Or.inl ⟨s, by omega, h⟩
theorem ei_tl_slot {s : Nat} {x : ei_E} {w : List Nat} (h : x ∈ ei_tl s w) : x.2.1 = s ∧ x.1.length < w.length := by
  obtain ⟨i, hi, rfl⟩ := ei_tl_mem.mp h
  exact ⟨rfl, by simp; omega⟩
theorem ei_tl_len (s : Nat) : ∀ w : List Nat, (ei_tl s w).length = w.length
  | [] => rfl
  | a :: t => by simp [ei_tl, ei_tl_len s t]
theorem ei_ent_len (s : Nat) (w : List Nat) : (ei_ent s w).length = if w.length = 0 then 0 else w.length + 1 := by
  unfold ei_ent
  by_cases h : w.length = 0
  · simp [h]
  · simp [h, ei_tl_len]
theorem ei_bal_tl (s : Nat) (Q : List Nat → Nat → Bool) : ∀ w : List Nat, (∀ a, a ∈ w → a < 4) →
    (ei_tl s w).countP (fun x => !x.1.isEmpty && Q x.1 x.2.1) + (!w.isEmpty && Q w s).toNat = (ei_tl s w).countP (fun x => decide (x.2.2 < 4) && Q (x.2.2 :: x.1) x.2.1)
  | [], _ => by simp [ei_tl]
  | a :: t, h => by
    have ih := ei_bal_tl s Q t (fun b hb => h b (List.mem_cons_of_mem _ hb))
    have ha : a < 4 := h a (List.mem_cons_self ..)
    simp only [ei_tl, List.countP_cons]
    rw [← ih]
    cases h1 : (!t.isEmpty && Q t s) <;> cases h2 : Q (a :: t) s <;> simp [h2, ha] <;> omega
theorem ei_bal_app {A B : List ei_E} {v : List Nat} {s : Nat} (h : ei_bal A v s) (g : ei_bal B [] 0) : ei_bal (A ++ B) v s := by
  intro Q
  have h1 := h Q
  have g1 := g Q
  simp only [List.countP_append]
  simp only [List.isEmpty_nil, Bool.not_true, Bool.false_and, Bool.toNat_false, Nat.add_zero] at g1
  omega
theorem ei_bal_perm {A B : List ei_E} {v : List Nat} {s : Nat} (h : A.Perm B) (g : ei_bal A v s) : ei_bal B v s := by
  intro Q
  rw [← h.countP_eq, ← h.countP_eq]
  exact g Q
theorem ei_bal_ent (s : Nat) (w : List Nat) (h : ∀ a, a ∈ w → a < 4) : ei_bal (ei_ent s w) [] 0 := by
  intro Q
  unfold ei_ent
  by_cases e : w.length = 0
  · simp [e]
  · have h1 := ei_bal_tl s Q w h
    rw [if_neg e]
    simp only [List.countP_cons]
    rw [← h1]
    have h4 : ¬ 4 + s < 4 := by omega
    cases h2 : (!w.isEmpty && Q w s) <;> simp [h4]
theorem ei_bal_full (T : Nat → List Nat) : ∀ n, (∀ s, s < n → ∀ a, a ∈ T s → a < 4) → ei_bal (ei_full T n) [] 0
  | 0, _ => by intro Q; simp [ei_full]
  | n + 1, h => ei_bal_app (ei_bal_full T n (fun s hs => h s (by omega))) (ei_bal_ent n (T n) (h n (by omega)))
theorem ei_emp_tl (s : Nat) : ∀ w : List Nat, (ei_tl s w).countP (fun x => x.1.isEmpty) = if w.length = 0 then 0 else 1
  | [] => rfl
  | [a] => rfl
  | a :: b :: t => by
    have := ei_emp_tl s (b :: t)
    simp only [ei_tl, List.countP_cons] at *
    simp at *
    exact this
theorem ei_emp_ent (s : Nat) (w : List Nat) : (ei_ent s w).countP (fun x => x.1.isEmpty) = if w.length = 0 then 0 else 1 := by
  unfold ei_ent
  by_cases e : w.length = 0
  · simp [e]
  · rw [if_neg e, List.countP_cons, ei_emp_tl]
    cases w with
    | nil => simp at e
    | cons a t => simp
theorem ei_emp_full (T : Nat → List Nat) : ∀ n, (ei_full T n).countP (fun x => x.1.isEmpty) = ei_cn T n
  | 0 => rfl
  | n + 1 => by
    simp only [ei_full, List.countP_append, ei_emp_full T n, ei_emp_ent, ei_cn]
/-- the rank of an empty ending: how many slots below are in use -/
theorem ei_low_ent (s k : Nat) (w : List Nat) : (ei_ent k w).countP (fun x => ei_lt x.2.1 s x.1 []) = if k < s then (if w.length = 0 then 0 else 1) else 0 := by
  have h : (ei_ent k w).countP (fun x => ei_lt x.2.1 s x.1 []) = (ei_ent k w).countP (fun x => x.1.isEmpty && decide (k < s)) := by
    apply ei_cong
    intro x hx
    obtain ⟨_, i, _, rfl⟩ := ei_ent_mem.mp hx
    dsimp only
    cases w.drop i with
    | nil => simp [ei_lt]
    | cons a t => simp [ei_lt]
  rw [h]
  by_cases hk : k < s
  · simp [hk, ei_emp_ent]
  · simp [hk]
theorem ei_cn_le (T : Nat → List Nat) {a b : Nat} (h : a ≤ b) : ei_cn T a ≤ ei_cn T b := by
  induction h with
  | refl => exact Nat.le_refl _
  | step _ ih => exact Nat.le_trans ih (Nat.le_add_right _ _)
theorem ei_cn_bd (T : Nat → List Nat) : ∀ n, ei_cn T n ≤ n
  | 0 => Nat.le_refl 0
  | n + 1 => by
    have := ei_cn_bd T n
    simp only [ei_cn]
    split <;> omega
theorem ei_low_full (T : Nat → List Nat) (s : Nat) : ∀ n, (ei_full T n).countP (fun x => ei_lt x.2.1 s x.1 []) = ei_cn T (min s n)
  | 0 => by simp [ei_full, ei_cn]
  | n + 1 => by
    simp only [ei_full, List.countP_append, ei_low_full T s n, ei_low_ent]
    by_cases h : n < s
    · rw [show min s n = n by omega, show min s (n + 1) = n + 1 by omega, if_pos h]
      rfl
    · rw [show min s n = s by omega, show min s (n + 1) = s by omega, if_neg h]
      rfl
theorem ei_full_low {T T' : Nat → List Nat} : ∀ {n : Nat}, (∀ k, k < n → T k = T' k) → ei_full T n = ei_full T' n
  | 0, _ => rfl
  | n + 1, h => by
    simp only [ei_full]
    rw [ei_full_low (fun k hk => h k (by omega)), h n (by omega)]
theorem ei_cn_low {T T' : Nat → List Nat} : ∀ {n : Nat}, (∀ k, k < n → (T k).length = (T' k).length) → ei_cn T n = ei_cn T' n
  | 0, _ => rfl
  | n + 1, h => by
    simp only [ei_cn]
    rw [ei_cn_low (fun k hk => h k (by omega)), h n (by omega)]
theorem ei_full_add {T : Nat → List Nat} {s : Nat} {w : List Nat} (h0 : (T s).length = 0) : ∀ {n : Nat}, s < n → (ei_full (ei_set T s w) n).Perm (ei_ent s w ++ ei_full T n)
  | 0, h => absurd h (by omega)
  | n + 1, h => by
    by_cases e : s = n
    · subst e
      have e1 : ei_full (ei_set T s w) s = ei_full T s := ei_full_low (fun k hk => by unfold ei_set; rw [if_neg (by omega)])
      have e2 : ei_set T s w s = w := by unfold ei_set; rw [if_pos rfl]
      have e3 : ei_ent s (T s) = [] := by unfold ei_ent; rw [if_pos h0]
      simp only [ei_full, e1, e2, e3, List.append_nil]
      exact List.perm_append_comm
    · have ih := ei_full_add (T := T) (s := s) (w := w) h0 (n := n) (by omega)
      have e2 : ei_set T s w n = T n := by unfold ei_set; rw [if_neg (by omega)]
      simp only [ei_full, e2]
      rw [← List.append_assoc]
      exact ih.append_right _
theorem ei_cn_add {T : Nat → List Nat} {s : Nat} {w : List Nat} (h0 : (T s).length = 0) (hw : w.length ≠ 0) : ∀ {n : Nat}, s < n → ei_cn (ei_set T s w) n = ei_cn T n + 1
  | 0, h => absurd h (by omega)
  | n + 1, h => by
    by_cases e : s = n
    · subst e
      have e1 : ei_cn (ei_set T s w) s = ei_cn T s := ei_cn_low (fun k hk => by unfold ei_set; rw [if_neg (by omega)])
      have e2 : ei_set T s w s = w := by unfold ei_set; rw [if_pos rfl]
      simp [ei_cn, e1, e2, h0, hw]
    · have ih := ei_cn_add (T := T) (s := s) (w := w) h0 hw (n := n) (by omega)
      have e2 : ei_set T s w n = T n := by unfold ei_set; rw [if_neg (by omega)]
      simp only [ei_cn, e2, ih]
      omega
theorem ei_ent_filter (s k : Nat) (w : List Nat) : (ei_ent k w).filter (fun x => !(x.2.1 == s)) = if k = s then [] else ei_ent k w := by
  by_cases e : k = s
  · rw [if_pos e, List.filter_eq_nil_iff]
    intro x hx
    obtain ⟨_, i, _, rfl⟩ := ei_ent_mem.mp hx
    simp [e]
  · rw [if_neg e, List.filter_eq_self]
    intro x hx
    obtain ⟨_, i, _, rfl⟩ := ei_ent_mem.mp hx
    simp [e]
theorem ei_full_rem (T : Nat → List Nat) (s : Nat) : ∀ n, (ei_full T n).filter (fun x => !(x.2.1 == s)) = ei_full (ei_set T s []) n
  | 0 => rfl
  | n + 1 => by
    simp only [ei_full, List.filter_append, ei_full_rem T s n, ei_ent_filter]
    by_cases e : n = s
    · rw [if_pos e, show ei_set T s [] n = [] by unfold ei_set; rw [if_pos e]]
      rfl
    · rw [if_neg e, show ei_set T s [] n = T n by unfold ei_set; rw [if_neg e]]
theorem ei_ent_own (s k : Nat) (w : List Nat) : (ei_ent k w).countP (fun x => x.2.1 == s) = if k = s then (ei_ent k w).length else 0 := by
  by_cases e : k = s
  · rw [if_pos e, List.countP_eq_length]
    intro x hx
    obtain ⟨_, i, _, rfl⟩ := ei_ent_mem.mp hx
    simp [e]
  · rw [if_neg e, List.countP_eq_zero]
    intro x hx
    obtain ⟨_, i, _, rfl⟩ := ei_ent_mem.mp hx
    simp [e]
theorem ei_full_own (T : Nat → List Nat) (s : Nat) : ∀ n, (ei_full T n).countP (fun x => x.2.1 == s) = if s < n then (ei_ent s (T s)).length else 0
  | 0 => rfl
  | n + 1 => by
    simp only [ei_full, List.countP_append, ei_full_own T s n, ei_ent_own]
    by_cases e : n = s
    · subst e
      simp
    · by_cases h : s < n
      · rw [if_pos h, if_neg e, if_pos (by omega)]
        omega
      · rw [if_neg h, if_neg e, if_neg (by omega)]
theorem ei_full_len (T : Nat → List Nat) : ∀ n, (∀ s, s < n → (T s).length ≤ 9) → (ei_full T n).length ≤ 10 * n
  | 0, _ => Nat.le_refl 0
  | n + 1, h => by
    have := ei_full_len T n (fun s hs => h s (by omega))
    have := h n (by omega)
    simp only [ei_full, List.length_append, ei_ent_len]
    split <;> omega
/-- an entry put in at its rank keeps the order -/
theorem ei_ins_so {E : List ei_E} {x : ei_E} (h : ei_so E) (hx : ∀ y, y ∈ E → ¬ (y.1 = x.1 ∧ y.2.1 = x.2.1)) :
    ei_so (E.take (ei_rk E x.1 x.2.1) ++ x :: E.drop (ei_rk E x.1 x.2.1)) := by
  unfold ei_rk
  rw [ei_take (ei_dn_lt x.1 x.2.1) h, ei_drop (ei_dn_lt x.1 x.2.1) h]
  unfold ei_so
  rw [List.pairwise_append, List.pairwise_cons]
  have hup : ∀ z, z ∈ E.filter (fun y => !ei_lt y.2.1 x.2.1 y.1 x.1) → ei_lt x.2.1 z.2.1 x.1 z.1 = true := by
    intro z hz
    have hz2 := List.mem_filter.mp hz
    have hz3 : ei_lt z.2.1 x.2.1 z.1 x.1 = false := by simpa using hz2.2
    cases g : ei_lt x.2.1 z.2.1 x.1 z.1 with
    | true => rfl
    | false => exact absurd (ei_lt_tot hz3 g) (hx z hz2.1)
  refine ⟨h.sublist List.filter_sublist, ⟨hup, h.sublist List.filter_sublist⟩, ?_⟩
  intro a ha b hb
  have ha2 : ei_lt a.2.1 x.2.1 a.1 x.1 = true := by simpa using (List.mem_filter.mp ha).2
  rcases List.mem_cons.mp hb with rfl | hb
  · exact ha2
  · exact ei_lt_trans ha2 (hup b hb)
theorem ei_ins_perm (E : List ei_E) (x : ei_E) (r : Nat) : (E.take r ++ x :: E.drop r).Perm (x :: E) := by
  refine List.perm_middle.trans ?_
  rw [List.take_append_drop]
end
section
/-- how many letters two words share at their begin -/
def ei_lcp : List Nat → List Nat → Nat
  | a :: t, b :: u => if a = b then ei_lcp t u + 1 else 0
  | _, _ => 0
/-- the sum over neighbours -/
def ei_S : List (List Nat) → Nat
  | w :: v :: l => ei_lcp w v + ei_S (v :: l)
  | _ => 0
/-- the greatest over neighbours -/
def ei_X : List (List Nat) → Nat
  | w :: v :: l => max (ei_lcp w v) (ei_X (v :: l))
  | _ => 0
def ei_hd (c : Nat) : List Nat → Option (List Nat)
  | [] => none
  | a :: t => if a = c then some t else none
/-- the words that begin with c, without it -/
def ei_ch (c : Nat) (W : List (List Nat)) : List (List Nat) := W.filterMap (ei_hd c)
def ei_G : Nat → List (List Nat) → Nat
  | 0, _ => 0
  | d + 1, W => ((ei_ch 0 W).length - 1 + ei_G d (ei_ch 0 W)) + ((ei_ch 1 W).length - 1 + ei_G d (ei_ch 1 W)) + ((ei_ch 2 W).length - 1 + ei_G d (ei_ch 2 W)) + ((ei_ch 3 W).length - 1 + ei_G d (ei_ch 3 W))
def ei_M : Nat → List (List Nat) → Nat
  | 0, _ => 0
  | d + 1, W => max (max (if 2 ≤ (ei_ch 0 W).length then ei_M d (ei_ch 0 W) + 1 else 0) (if 2 ≤ (ei_ch 1 W).length then ei_M d (ei_ch 1 W) + 1 else 0)) (max (if 2 ≤ (ei_ch 2 W).length then ei_M d (ei_ch 2 W) + 1 else 0) (if 2 ≤ (ei_ch 3 W).length then ei_M d (ei_ch 3 W) + 1 else 0))
theorem ei_ch_perm {c : Nat} {W V : List (List Nat)} (h : W.Perm V) : (ei_ch c W).Perm (ei_ch c V) := h.filterMap _
theorem ei_G_perm : ∀ (d : Nat) {W V : List (List Nat)}, W.Perm V → ei_G d W = ei_G d V
  | 0, _, _, _ => rfl
  | d + 1, W, V, h => by
    simp only [ei_G]
    rw [(ei_ch_perm (c := 0) h).length_eq, (ei_ch_perm (c := 1) h).length_eq, (ei_ch_perm (c := 2) h).length_eq, (ei_ch_perm (c := 3) h).length_eq,
      ei_G_perm d (ei_ch_perm (c := 0) h), ei_G_perm d (ei_ch_perm (c := 1) h), ei_G_perm d (ei_ch_perm (c := 2) h), ei_G_perm d (ei_ch_perm (c := 3) h)]
theorem ei_M_perm : ∀ (d : Nat) {W V : List (List Nat)}, W.Perm V → ei_M d W = ei_M d V
  | 0, _, _, _ => rfl
  | d + 1, W, V, h => by
    simp only [ei_M]
    rw [(ei_ch_perm (c := 0) h).length_eq, (ei_ch_perm (c := 1) h).length_eq, (ei_ch_perm (c := 2) h).length_eq, (ei_ch_perm (c := 3) h).length_eq,
      ei_M_perm d (ei_ch_perm (c := 0) h), ei_M_perm d (ei_ch_perm (c := 1) h), ei_M_perm d (ei_ch_perm (c := 2) h), ei_M_perm d (ei_ch_perm (c := 3) h)]
/-- the turned word -/
def ei_cm (w : List Nat) : List Nat := w.map (fun a => 3 - a)
theorem ei_hd_cm {c : Nat} (hc : c < 4) {w : List Nat} (h : ∀ a, a ∈ w → a < 4) : ei_hd c (ei_cm w) = (ei_hd (3 - c) w).map ei_cm := by
  cases w with
  | nil => rfl
  | cons a t =>
    have ha : a < 4 := h a (List.mem_cons_self ..)
    simp only [ei_cm, List.map_cons, ei_hd]
    by_cases e : 3 - a = c
    · rw [if_pos e, if_pos (by omega)]
      rfl
    · rw [if_neg e, if_neg (by omega)]
      rfl
theorem ei_ch_cm {c : Nat} (hc : c < 4) : ∀ {W : List (List Nat)}, (∀ w, w ∈ W → ∀ a, a ∈ w → a < 4) → ei_ch c (W.map ei_cm) = (ei_ch (3 - c) W).map ei_cm
  | [], _ => rfl
  | w :: l, h => by
    have ih := ei_ch_cm hc (W := l) (fun v hv => h v (List.mem_cons_of_mem _ hv))
    have e := ei_hd_cm hc (h w (List.mem_cons_self ..))
    unfold ei_ch at *
    rw [List.map_cons, List.filterMap_cons, List.filterMap_cons, e, ih]
    cases ei_hd (3 - c) w with
    | none => rfl
    | some t => rfl
theorem ei_ch_ok {c : Nat} {W : List (List Nat)} (h : ∀ w, w ∈ W → ∀ a, a ∈ w → a < 4) : ∀ w, w ∈ ei_ch c W → ∀ a, a ∈ w → a < 4 := by
  intro w hw a ha
  obtain ⟨v, hv, e⟩ := List.mem_filterMap.mp hw
  cases v with
  | nil => simp [ei_hd] at e
  | cons b t =>
    simp only [ei_hd] at e
    split at e
    · injection e with e
      subst e
      exact h _ hv a (List.mem_cons_of_mem _ ha)
    · exact absurd e (by simp)
theorem ei_G_cm : ∀ (d : Nat) {W : List (List Nat)}, (∀ w, w ∈ W → ∀ a, a ∈ w → a < 4) → ei_G d (W.map ei_cm) = ei_G d W
  | 0, _, _ => rfl
  | d + 1, W, h => by
    simp only [ei_G]
    rw [ei_ch_cm (c := 0) (by decide) h, ei_ch_cm (c := 1) (by decide) h, ei_ch_cm (c := 2) (by decide) h, ei_ch_cm (c := 3) (by decide) h]
    rw [ei_G_cm d (ei_ch_ok h), ei_G_cm d (ei_ch_ok h), ei_G_cm d (ei_ch_ok h), ei_G_cm d (ei_ch_ok h)]
    simp only [List.length_map]
    show ((ei_ch 3 W).length - 1 + ei_G d (ei_ch 3 W)) + ((ei_ch 2 W).length - 1 + ei_G d (ei_ch 2 W)) + ((ei_ch 1 W).length - 1 + ei_G d (ei_ch 1 W)) + ((ei_ch 0 W).length - 1 + ei_G d (ei_ch 0 W)) = _
    omega
theorem ei_M_cm : ∀ (d : Nat) {W : List (List Nat)}, (∀ w, w ∈ W → ∀ a, a ∈ w → a < 4) → ei_M d (W.map ei_cm) = ei_M d W
  | 0, _, _ => rfl
  | d + 1, W, h => by
    simp only [ei_M]
    rw [ei_ch_cm (c := 0) (by decide) h, ei_ch_cm (c := 1) (by decide) h, ei_ch_cm (c := 2) (by decide) h, ei_ch_cm (c := 3) (by decide) h]
    rw [ei_M_cm d (ei_ch_ok h), ei_M_cm d (ei_ch_ok h), ei_M_cm d (ei_ch_ok h), ei_M_cm d (ei_ch_ok h)]
    simp only [List.length_map]
    show max (max (if 2 ≤ (ei_ch 3 W).length then ei_M d (ei_ch 3 W) + 1 else 0) (if 2 ≤ (ei_ch 2 W).length then ei_M d (ei_ch 2 W) + 1 else 0)) (max (if 2 ≤ (ei_ch 1 W).length then ei_M d (ei_ch 1 W) + 1 else 0) (if 2 ≤ (ei_ch 0 W).length then ei_M d (ei_ch 0 W) + 1 else 0)) = _
    generalize (if 2 ≤ (ei_ch 0 W).length then ei_M d (ei_ch 0 W) + 1 else 0) = x0
    generalize (if 2 ≤ (ei_ch 1 W).length then ei_M d (ei_ch 1 W) + 1 else 0) = x1
    generalize (if 2 ≤ (ei_ch 2 W).length then ei_M d (ei_ch 2 W) + 1 else 0) = x2
    generalize (if 2 ≤ (ei_ch 3 W).length then ei_M d (ei_ch 3 W) + 1 else 0) = x3
    omega
/-- not greater -/
def ei_le : List Nat → List Nat → Bool
  | [], _ => true
  | _ :: _, [] => false
  | a :: t, b :: u => decide (a < b) || (a == b && ei_le t u)
theorem ei_lt_le {s s' : Nat} : ∀ {u v : List Nat}, ei_lt s s' u v = true → ei_le u v = true
  | [], _, _ => by simp [ei_le]
  | _ :: _, [], h => by simp [ei_lt] at h
  | a :: t, b :: u, h => by
    simp only [ei_lt, ei_le, Bool.or_eq_true, decide_eq_true_eq, Bool.and_eq_true, beq_iff_eq] at *
    rcases h with h | ⟨h1, h2⟩
    · exact Or.inl h
    · exact Or.inr ⟨h1, ei_lt_le h2⟩
def ei_hS (V : List (List Nat)) : Nat := V.length - 1 + ei_S V
def ei_hX (V : List (List Nat)) : Nat := if 2 ≤ V.length then ei_X V + 1 else 0
theorem ei_ch_self (c : Nat) (t : List Nat) (l : List (List Nat)) : ei_ch c ((c :: t) :: l) = t :: ei_ch c l := by
  unfold ei_ch
  rw [List.filterMap_cons]
  simp [ei_hd]
theorem ei_ch_other {c a : Nat} (h : a ≠ c) (t : List Nat) (l : List (List Nat)) : ei_ch c ((a :: t) :: l) = ei_ch c l := by
  unfold ei_ch
  rw [List.filterMap_cons]
  simp [ei_hd, h]
theorem ei_ch_nil (c : Nat) (l : List (List Nat)) : ei_ch c ([] :: l) = ei_ch c l := by
  unfold ei_ch
  rw [List.filterMap_cons]
  simp [ei_hd]
/-- behind a greater first letter a lesser one doesn't come -/
theorem ei_ch_none {a b : Nat} (h : a < b) {u : List Nat} {l : List (List Nat)} (hl : ∀ w, w ∈ l → ei_le (b :: u) w = true) : ei_ch a ((b :: u) :: l) = [] := by
  rw [ei_ch_other (by omega)]
  unfold ei_ch
  rw [List.filterMap_eq_nil_iff]
  intro w hw
  have := hl w hw
  cases w with
  | nil => rfl
  | cons c t =>
    simp only [ei_le, Bool.or_eq_true, decide_eq_true_eq, Bool.and_eq_true, beq_iff_eq] at this
    have : a ≠ c := by omega
    simp [ei_hd, Ne.symm this]
theorem ei_hS_add {a : Nat} {t w : List Nat} {l : List (List Nat)} (h : (w :: l).Pairwise (fun x y => ei_le x y = true)) (hw : ei_le (a :: t) w = true) : ei_hS (ei_ch a ((a :: t) :: w :: l)) = ei_lcp (a :: t) w + ei_hS (ei_ch a (w :: l)) := by
  rw [ei_ch_self]
  cases w with
  | nil => simp [ei_le] at hw
  | cons b u =>
    by_cases e : a = b
    · subst e
      rw [ei_ch_self]
      simp [ei_hS, ei_S, ei_lcp]
      omega
    · have hlt : a < b := by
        simp only [ei_le, Bool.or_eq_true, decide_eq_true_eq, Bool.and_eq_true, beq_iff_eq] at hw
        omega
      rw [ei_ch_none hlt (List.pairwise_cons.mp h).1]
      simp [ei_hS, ei_S, ei_lcp, e]
theorem ei_hX_add {a : Nat} {t w : List Nat} {l : List (List Nat)} (h : (w :: l).Pairwise (fun x y => ei_le x y = true)) (hw : ei_le (a :: t) w = true) : ei_hX (ei_ch a ((a :: t) :: w :: l)) = max (ei_lcp (a :: t) w) (ei_hX (ei_ch a (w :: l))) := by
  rw [ei_ch_self]
  cases w with
  | nil => simp [ei_le] at hw
  | cons b u =>
    by_cases e : a = b
    · subst e
      rw [ei_ch_self]
      cases ei_ch a l with
      | nil => simp [ei_hX, ei_X, ei_lcp]
      | cons z m =>
        simp only [ei_hX, ei_X, ei_lcp, List.length_cons, if_true]
        rw [if_pos (by omega), if_pos (by omega)]
        omega
    · have hlt : a < b := by
        simp only [ei_le, Bool.or_eq_true, decide_eq_true_eq, Bool.and_eq_true, beq_iff_eq] at hw
        omega
      rw [ei_ch_none hlt (List.pairwise_cons.mp h).1]
      simp [ei_hX, ei_lcp, e]
theorem ei_S_ch : ∀ {W : List (List Nat)}, W.Pairwise (fun x y => ei_le x y = true) → (∀ w, w ∈ W → ∀ a, a ∈ w → a < 4) →
    ei_S W = ei_hS (ei_ch 0 W) + ei_hS (ei_ch 1 W) + ei_hS (ei_ch 2 W) + ei_hS (ei_ch 3 W)
  | [], _, _ => rfl
  | [[]], _, _ => rfl
  | [a :: t], _, h4 => by
    have ha : a < 4 := h4 _ (List.mem_cons_self ..) a (List.mem_cons_self ..)
    have : a = 0 ∨ a = 1 ∨ a = 2 ∨ a = 3 := by omega
    rcases this with rfl | rfl | rfl | rfl <;> rfl
  | [] :: w :: l, h, h4 => by
    have ih := ei_S_ch (List.pairwise_cons.mp h).2 (fun v hv => h4 v (List.mem_cons_of_mem _ hv))
    rw [ei_ch_nil, ei_ch_nil, ei_ch_nil, ei_ch_nil, ← ih]
    simp [ei_S, ei_lcp]
  | (a :: t) :: w :: l, h, h4 => by
    have h2 := List.pairwise_cons.mp h
    have ih := ei_S_ch h2.2 (fun v hv => h4 v (List.mem_cons_of_mem _ hv))
    have ha : a < 4 := h4 _ (List.mem_cons_self ..) a (List.mem_cons_self ..)
    have hadd := ei_hS_add h2.2 (h2.1 w (List.mem_cons_self ..))
    have e : ei_S ((a :: t) :: w :: l) = ei_lcp (a :: t) w + ei_S (w :: l) := rfl
    have h4' : a = 0 ∨ a = 1 ∨ a = 2 ∨ a = 3 := by omega
    rw [e, ih]
    rcases h4' with rfl | rfl | rfl | rfl
    · rw [hadd, ei_ch_other (c := 1) (by decide), ei_ch_other (c := 2) (by decide), ei_ch_other (c := 3) (by decide)]
      omega
    · rw [hadd, ei_ch_other (c := 0) (by decide), ei_ch_other (c := 2) (by decide), ei_ch_other (c := 3) (by decide)]
      omega
    · rw [hadd, ei_ch_other (c := 0) (by decide), ei_ch_other (c := 1) (by decide), ei_ch_other (c := 3) (by decide)]
      omega
    · rw [hadd, ei_ch_other (c := 0) (by decide), ei_ch_other (c := 1) (by decide), ei_ch_other (c := 2) (by decide)]
      omega
theorem ei_X_ch : ∀ {W : List (List Nat)}, W.Pairwise (fun x y => ei_le x y = true) → (∀ w, w ∈ W → ∀ a, a ∈ w → a < 4) →
    ei_X W = max (max (ei_hX (ei_ch 0 W)) (ei_hX (ei_ch 1 W))) (max (ei_hX (ei_ch 2 W)) (ei_hX (ei_ch 3 W)))
  | [], _, _ => rfl
  | [[]], _, _ => rfl
  | [a :: t], _, h4 => by
    have ha : a < 4 := h4 _ (List.mem_cons_self ..) a (List.mem_cons_self ..)
    have : a = 0 ∨ a = 1 ∨ a = 2 ∨ a = 3 := by omega
    rcases this with rfl | rfl | rfl | rfl <;> rfl
  | [] :: w :: l, h, h4 => by
    have ih := ei_X_ch (List.pairwise_cons.mp h).2 (fun v hv => h4 v (List.mem_cons_of_mem _ hv))
    rw [ei_ch_nil, ei_ch_nil, ei_ch_nil, ei_ch_nil, ← ih]
    simp [ei_X, ei_lcp]
  | (a :: t) :: w :: l, h, h4 => by
    have h2 := List.pairwise_cons.mp h
    have ih := ei_X_ch h2.2 (fun v hv => h4 v (List.mem_cons_of_mem _ hv))
    have ha : a < 4 := h4 _ (List.mem_cons_self ..) a (List.mem_cons_self ..)
    have hadd := ei_hX_add h2.2 (h2.1 w (List.mem_cons_self ..))
    have e : ei_X ((a :: t) :: w :: l) = max (ei_lcp (a :: t) w) (ei_X (w :: l)) := rfl
    have h4' : a = 0 ∨ a = 1 ∨ a = 2 ∨ a = 3 := by omega
    rw [e, ih]
    rcases h4' with rfl | rfl | rfl | rfl
    · rw [hadd, ei_ch_other (c := 1) (by decide), ei_ch_other (c := 2) (by decide), ei_ch_other (c := 3) (by decide)]
      omega
    · rw [hadd, ei_ch_other (c := 0) (by decide), ei_ch_other (c := 2) (by decide), ei_ch_other (c := 3) (by decide)]
      omega
    · rw [hadd, ei_ch_other (c := 0) (by decide), ei_ch_other (c := 1) (by decide), ei_ch_other (c := 3) (by decide)]
      omega
    · rw [hadd, ei_ch_other (c := 0) (by decide), ei_ch_other (c := 1) (by decide), ei_ch_other (c := 2) (by decide)]
      omega
theorem ei_ch_le {c : Nat} : ∀ {W : List (List Nat)}, W.Pairwise (fun x y => ei_le x y = true) → (ei_ch c W).Pairwise (fun x y => ei_le x y = true)
  | [], _ => List.Pairwise.nil
  | [] :: l, h => by
    rw [ei_ch_nil]
    exact ei_ch_le (List.pairwise_cons.mp h).2
  | (a :: t) :: l, h => by
    have h2 := List.pairwise_cons.mp h
    by_cases e : a = c
    · subst e
      rw [ei_ch_self, List.pairwise_cons]
      refine ⟨?_, ei_ch_le h2.2⟩
      intro v hv
      obtain ⟨w, hw, e⟩ := List.mem_filterMap.mp hv
      have hl := h2.1 w hw
      cases w with
      | nil => simp [ei_hd] at e
      | cons b u =>
        simp only [ei_hd] at e
        split at e
        · injection e with e
          subst e
          subst_vars
          simpa [ei_le] using hl
        · exact absurd e (by simp)
    · rw [ei_ch_other e]
      exact ei_ch_le h2.2
theorem ei_ch_len {c d : Nat} {W : List (List Nat)} (h : ∀ w, w ∈ W → w.length ≤ d + 1) : ∀ w, w ∈ ei_ch c W → w.length ≤ d := by
  intro w hw
  obtain ⟨v, hv, e⟩ := List.mem_filterMap.mp hw
  have := h v hv
  cases v with
  | nil => simp [ei_hd] at e
  | cons b t =>
    simp only [ei_hd] at e
    split at e
    · injection e with e
      subst e
      simp at this
      omega
    · exact absurd e (by simp)
theorem ei_S_0 : ∀ {W : List (List Nat)}, (∀ w, w ∈ W → w.length ≤ 0) → ei_S W = 0
  | [], _ => rfl
  | [_], _ => rfl
  | w :: v :: l, h => by
    have hw : w = [] := List.length_eq_zero_iff.mp (by have := h w (List.mem_cons_self ..); omega)
    subst hw
    have := ei_S_0 (W := v :: l) (fun x hx => h x (List.mem_cons_of_mem _ hx))
    simp [ei_S, ei_lcp, this]
theorem ei_X_0 : ∀ {W : List (List Nat)}, (∀ w, w ∈ W → w.length ≤ 0) → ei_X W = 0
  | [], _ => rfl
  | [_], _ => rfl
  | w :: v :: l, h => by
    have hw : w = [] := List.length_eq_zero_iff.mp (by have := h w (List.mem_cons_self ..); omega)
    subst hw
    have := ei_X_0 (W := v :: l) (fun x hx => h x (List.mem_cons_of_mem _ hx))
    simp [ei_X, ei_lcp, this]
theorem ei_S_G : ∀ (d : Nat) {W : List (List Nat)}, W.Pairwise (fun x y => ei_le x y = true) → (∀ w, w ∈ W → ∀ a, a ∈ w → a < 4) → (∀ w, w ∈ W → w.length ≤ d) → ei_S W = ei_G d W
  | 0, W, _, _, hl => ei_S_0 hl
  | d + 1, W, h, h4, hl => by
    rw [ei_S_ch h h4]
    simp only [ei_G, ei_hS]
    rw [ei_S_G d (ei_ch_le (c := 0) h) (ei_ch_ok h4) (ei_ch_len hl), ei_S_G d (ei_ch_le (c := 1) h) (ei_ch_ok h4) (ei_ch_len hl), ei_S_G d (ei_ch_le (c := 2) h) (ei_ch_ok h4) (ei_ch_len hl), ei_S_G d (ei_ch_le (c := 3) h) (ei_ch_ok h4) (ei_ch_len hl)]
theorem ei_X_M : ∀ (d : Nat) {W : List (List Nat)}, W.Pairwise (fun x y => ei_le x y = true) → (∀ w, w ∈ W → ∀ a, a ∈ w → a < 4) → (∀ w, w ∈ W → w.length ≤ d) → ei_X W = ei_M d W
  | 0, W, _, _, hl => ei_X_0 hl
  | d + 1, W, h, h4, hl => by
    rw [ei_X_ch h h4]
    simp only [ei_M, ei_hX]
    rw [ei_X_M d (ei_ch_le (c := 0) h) (ei_ch_ok h4) (ei_ch_len hl), ei_X_M d (ei_ch_le (c := 1) h) (ei_ch_ok h4) (ei_ch_len hl), ei_X_M d (ei_ch_le (c := 2) h) (ei_ch_ok h4) (ei_ch_len hl), ei_X_M d (ei_ch_le (c := 3) h) (ei_ch_ok h4) (ei_ch_len hl)]
end
section
section
variable {post : Int32 → Prop} {fd fs fp fl fh : Int32} {a1 a2 a3 a4 a5 a6 a7 : Nat → Int32} {T : Nat → List Nat} {E : List ei_E}
/-- the lengths stand in the array -/
def ei_ln (T : Nat → List Nat) (a3 : Nat → Int32) : Prop := ∀ k, k < 6 → a3 k = nI (T k).length ∧ (T k).length ≤ 9
/-- the row stands in the array -/
def ei_rw (E : List ei_E) (a2 : Nat → Int32) : Prop := ∀ r x, E[r]? = some x → a2 r = nI x.2.2 ∧ x.2.2 < 10
theorem ei_at {i : Nat} (h : i < E.length) : ∃ x, E[i]? = some x := ⟨E[i], List.getElem?_eq_getElem h⟩
theorem ei_cs {i : Nat} {x : ei_E} (p : ei_E → Bool) (h : E[i]? = some x) : (E.take (i + 1)).countP p = (E.take i).countP p + (if p x = true then 1 else 0) := by
  rw [List.take_add_one, h, List.countP_append]
  simp [List.countP_cons]
theorem ei_w_slots {s : Nat} (hs : s ≤ 6) (hl : ei_ln T a3) (H : post (nI (ei_cn T s))) : wpX_slotsBelow post (fd, fs, fp, fl, fh, a1, a2, a3, a4, a5, a6, a7) (nI s) := by
  refine pk_loop (σ := Unit) (fun n i _ => wX_slotsBelow_4 post (nI s) fd fs fp fl fh a1 a2 a3 a4 a5 a6 a7 n (nI (ei_cn T i)) (nI i)) (fun _ _ => True) s 0 () (by omega) trivial
    (fun n _ _ => pk_le s s (fun _ => H) (fun z => absurd z (by omega))) ?_
  intro n i _ hi _ hw
  have t := hw () trivial
  have e : ei_cn T (i + 1) = ei_cn T i + (if (T i).length = 0 then 0 else 1) := rfl
  have hk := hl i (by omega)
  refine pk_le s i (fun z => absurd z (by omega)) (fun _ => ⟨pk_in i 6 (by omega), ?_⟩)
  refine pk_le (T i).length 0 (fun z => nm_r (nI_1 i) ?_) (fun z => nm_r (nI_1 _) (nm_r (nI_1 i) ?_)) (hx := by rw [nI_clamp (by omega)]; exact hk.1)
  · rw [e, if_pos (by omega)] at t
    exact t
  · rw [e, if_neg (by omega)] at t
    exact t
theorem ei_w_texts (hl : ei_ln T a3) (H : post (nI (ei_cn T 6))) : wpX_texts post (fd, fs, fp, fl, fh, a1, a2, a3, a4, a5, a6, a7) := by
  refine pk_loop (σ := Unit) (fun n i _ => wX_texts_4 post fd fs fp fl fh a1 a2 a3 a4 a5 a6 a7 n (nI (ei_cn T i)) (nI i)) (fun _ _ => True) 6 0 () (by omega) trivial
    (fun n _ _ => pk_le 6 6 (fun _ => H) (fun z => absurd z (by omega))) ?_
  intro n i _ hi _ hw
  have t := hw () trivial
  have e : ei_cn T (i + 1) = ei_cn T i + (if (T i).length = 0 then 0 else 1) := rfl
  have hk := hl i (by omega)
  refine pk_le 6 i (fun z => absurd z (by omega)) (fun _ => ⟨pk_in i 6 (by omega), ?_⟩)
  refine pk_le (T i).length 0 (fun z => nm_r (nI_1 i) ?_) (fun z => nm_r (nI_1 _) (nm_r (nI_1 i) ?_)) (hx := by rw [nI_clamp (by omega)]; exact hk.1)
  · rw [e, if_pos (by omega)] at t
    exact t
  · rw [e, if_neg (by omega)] at t
    exact t
theorem ei_w_upTo {c e : Nat} (hr : ei_rw E a2) (hE : E.length ≤ 60) (he : e ≤ E.length) (hc : c < 10) (H : post (nI ((E.take e).countP (fun x => x.2.2 == c)))) :
    wpX_upTo post (fd, fs, fp, fl, fh, a1, a2, a3, a4, a5, a6, a7) (nI c) (nI e) := by
  refine pk_loop (σ := Unit) (fun n i _ => wX_upTo_5 post (nI c) (nI e) fd fs fp fl fh a1 a2 a3 a4 a5 a6 a7 n (nI ((E.take i).countP (fun x => x.2.2 == c))) (nI i)) (fun _ _ => True) e 0 () (by omega) trivial
    (fun n _ _ => pk_le e e (fun _ => H) (fun z => absurd z (by omega))) ?_
  intro n i _ hi _ hw
  have t := hw () trivial
  obtain ⟨x, hx⟩ := ei_at (E := E) (i := i) (by omega)
  have hk := hr i x hx
  have e1 := ei_cs (fun x => x.2.2 == c) hx
  refine pk_le e i (fun z => absurd z (by omega)) (fun _ => ⟨pk_in i 60 (by omega), ?_⟩)
  refine pk_eq x.2.2 c (fun z => nm_r (nI_1 _) (nm_r (nI_1 i) ?_)) (fun z => nm_r (nI_1 i) ?_) (hx := by rw [nI_clamp (by omega)]; exact hk.1)
  · rw [e1, if_pos (by simp [z])] at t
    exact t
  · rw [e1, if_neg (by simp [z])] at t
    exact t
theorem ei_w_lesser {c : Nat} (hl : ei_ln T a3) (hr : ei_rw E a2) (hE : E.length ≤ 60) (hc : c < 10) (H : post (nI (ei_cn T 6 + E.countP (fun x => decide (x.2.2 < c))))) :
    wpX_lesser post (fd, nI E.length, fp, fl, fh, a1, a2, a3, a4, a5, a6, a7) (nI c) := by
  refine ei_w_texts (T := T) hl ?_
  refine pk_loop (σ := Unit) (fun n i _ => wX_lesser_7 post (nI c) fd (nI E.length) fp fl fh a1 a2 a3 a4 a5 a6 a7 n (nI (ei_cn T 6 + (E.take i).countP (fun x => decide (x.2.2 < c)))) (nI i)) (fun _ _ => True) E.length 0 () (by omega) trivial
    (fun n _ _ => pk_le E.length E.length (fun _ => by rw [List.take_length]; exact H) (fun z => absurd z (by omega))) ?_
  intro n i _ hi _ hw
  have t := hw () trivial
  obtain ⟨x, hx⟩ := ei_at (E := E) (i := i) (by omega)
  have hk := hr i x hx
  have e1 := ei_cs (fun x => decide (x.2.2 < c)) hx
  refine pk_le E.length i (fun z => absurd z (by omega)) (fun _ => ⟨pk_in i 60 (by omega), ?_⟩)
  refine pk_le c x.2.2 (fun z => nm_r (nI_1 i) ?_) (fun z => nm_r (nI_1 _) (nm_r (nI_1 i) ?_)) (hy := by rw [nI_clamp (by omega)]; exact hk.1)
  · rw [e1, if_neg (by simp; omega)] at t
    exact t
  · rw [e1, if_pos (by simp; omega)] at t
    exact t
/-- a state of the index that can be read, or is being added to -/
def ei_I (T : Nat → List Nat) (E : List ei_E) (v : List Nat) (s0 : Nat) (a2 a3 : Nat → Int32) : Prop :=
  ei_ln T a3 ∧ ei_rw E a2 ∧ E.length ≤ 60 ∧ ei_so E ∧ E.countP (fun x => x.1.isEmpty) = ei_cn T 6 ∧ ei_bal E v s0
theorem ei_w_step {v : List Nat} {s0 c : Nat} {P : List Nat → Nat → Bool} (h : ei_I T E v s0 a2 a3) (hP : ei_dn P) (hc : c < 4) (hv : (!v.isEmpty && ei_up c P v s0) = false) (H : post (nI (ei_ct (ei_up c P) E))) :
    wpX_step post (fd, nI E.length, fp, fl, fh, a1, a2, a3, a4, a5, a6, a7) (nI c) (nI (ei_ct P E)) := by
  obtain ⟨hl, hr, hE, hs, he, hb⟩ := h
  have e := ei_step hs hb hP hc hv
  rw [he] at e
  refine ei_w_lesser (T := T) (E := E) hl hr hE (by omega) ?_
  refine ei_w_upTo (E := E) hr hE (ei_ct_le P E) (by omega) ?_
  rw [nI_add, e]
  exact H
/-- the letters are letters, the texts no longer than 9 -/
def ei_T4 (T : Nat → List Nat) : Prop := ∀ s, s < 6 → (∀ a, a ∈ T s → a < 4) ∧ (T s).length ≤ 9
/-- the index at rest -/
def ei_K (T : Nat → List Nat) (E : List ei_E) (a2 a3 : Nat → Int32) : Prop :=
  ei_T4 T ∧ ei_ln T a3 ∧ ei_rw E a2 ∧ ei_so E ∧ E.Perm (ei_full T 6)
theorem ei_K_len (h : ei_K T E a2 a3) : E.length ≤ 60 := by
  rw [h.2.2.2.2.length_eq]
  exact ei_full_len T 6 (fun s hs => (h.1 s hs).2)
theorem ei_K_I (h : ei_K T E a2 a3) : ei_I T E [] 0 a2 a3 :=
  ⟨h.2.1, h.2.2.1, ei_K_len h, h.2.2.2.1, by rw [h.2.2.2.2.countP_eq, ei_emp_full], ei_bal_perm h.2.2.2.2.symm (ei_bal_full T 6 (fun s hs => (h.1 s hs).1))⟩
theorem ei_K_up (h : ei_K T E a2 a3) {c : Nat} {P : List Nat → Nat → Bool} (hP : ei_dn P) (hc : c < 4) (H : post (nI (ei_ct (ei_up c P) E))) :
    wpX_step post (fd, nI E.length, fp, fl, fh, a1, a2, a3, a4, a5, a6, a7) (nI c) (nI (ei_ct P E)) :=
  ei_w_step (ei_K_I h) hP hc rfl H
/-- the place of the ending of s that begins at i -/
def ei_p (T : Nat → List Nat) (E : List ei_E) (s i : Nat) : Nat := ei_rk E ((T s).drop i) s
theorem ei_K_at (h : ei_K T E a2 a3) {s i : Nat} (hs : s < 6) (h0 : (T s).length ≠ 0) (hi : i ≤ (T s).length) : E[ei_p T E s i]? = some ((T s).drop i, s, ei_pr (T s) s i) := by
  have hm : ((T s).drop i, s, ei_pr (T s) s i) ∈ E := h.2.2.2.2.mem_iff.mpr (ei_full_mem.mpr ⟨s, hs, h0, i, hi, rfl⟩)
  exact ei_rk_mem h.2.2.2.1 hm
theorem ei_K_lt (h : ei_K T E a2 a3) {s i : Nat} (hs : s < 6) (h0 : (T s).length ≠ 0) (hi : i ≤ (T s).length) : ei_p T E s i < E.length := ei_lt_len (ei_K_at h hs h0 hi)
theorem ei_K_row (h : ei_K T E a2 a3) {s i : Nat} (hs : s < 6) (h0 : (T s).length ≠ 0) (hi : i ≤ (T s).length) : a2 (ei_p T E s i) = nI (ei_pr (T s) s i) := (h.2.2.1 _ _ (ei_K_at h hs h0 hi)).1
theorem ei_pr_lt (h : ei_T4 T) {s i : Nat} (hs : s < 6) (hi : i < (T s).length) : ei_pr (T s) s (i + 1) < 4 ∧ (T s).drop i = ei_pr (T s) s (i + 1) :: (T s).drop (i + 1) := by
  have e : ei_pr (T s) s (i + 1) = (T s)[i] := by
    show (T s).getD i 0 = _
    simp [List.getD, List.getElem?_eq_getElem hi]
  rw [e]
  exact ⟨(h s hs).1 _ (List.getElem_mem hi), List.drop_eq_getElem_cons hi⟩
theorem ei_K_top (h : ei_K T E a2 a3) {s : Nat} (hs : s < 6) : ei_p T E s (T s).length = ei_cn T s := by
  unfold ei_p ei_rk ei_ct
  rw [List.drop_length, h.2.2.2.2.countP_eq]
  have := ei_low_full T s 6
  rw [show min s 6 = s by omega] at this
  exact this
/-- one step: from the ending at i + 1 to the ending at i -/
theorem ei_K_step (h : ei_K T E a2 a3) {s i : Nat} (hs : s < 6) (hi : i < (T s).length) (H : post (nI (ei_p T E s i))) :
    wpX_step post (fd, nI E.length, fp, fl, fh, a1, a2, a3, a4, a5, a6, a7) (a2 (ei_p T E s (i + 1))) (nI (ei_p T E s (i + 1))) := by
  obtain ⟨h4, hd⟩ := ei_pr_lt h.1 hs hi
  rw [ei_K_row h hs (by omega) (show i + 1 ≤ (T s).length by omega)]
  refine ei_K_up (P := fun w' s' => ei_lt s' s w' ((T s).drop (i + 1))) h (ei_dn_lt _ _) h4 ?_
  rw [ei_up_lt, ← hd]
  exact H
theorem ei_K_get (h : ei_K T E a2 a3) {r : Nat} (hr : r < E.length) : ∃ s i, s < 6 ∧ (T s).length ≠ 0 ∧ i ≤ (T s).length ∧ r = ei_p T E s i ∧ E[r]? = some ((T s).drop i, s, ei_pr (T s) s i) := by
  obtain ⟨x, hx⟩ := ei_at hr
  obtain ⟨s, hs, h0, i, hi, rfl⟩ := ei_full_mem.mp (h.2.2.2.2.mem_iff.mp (List.mem_of_getElem? hx))
  exact ⟨s, i, hs, h0, hi, (ei_rk_get h.2.2.2.1 hx).symm, hx⟩
end
end
section
section
variable {post : Int32 → Prop} {fd fs fp fl fh : Int32} {a1 a2 a3 a4 a5 a6 a7 : Nat → Int32} {T : Nat → List Nat} {E : List ei_E}
theorem ei_m1 {p : Nat} (h : 0 < p) : nI p + (-1) = nI (p - 1) := by
  obtain ⟨k, rfl⟩ : ∃ k, p = k + 1 := ⟨p - 1, by omega⟩
  rw [pk_m1]
  rfl
theorem ei_w_rankOf (h : ei_K T E a2 a3) {s i : Nat} (hs : s < 6) (h0 : (T s).length ≠ 0) (hi : i ≤ (T s).length) (H : post (nI (ei_p T E s i))) :
    wpX_rankOf post (fd, nI E.length, fp, fl, fh, a1, a2, a3, a4, a5, a6, a7) (nI s) (nI i) := by
  have h9 := (h.1 s hs).2
  have hE := ei_K_len h
  refine ei_w_slots (T := T) (by omega) h.2.1 ?_
  refine ⟨pk_in s 6 hs, nm_r (e' := nI (T s).length) (by rw [nI_clamp (by omega)]; exact (h.2.1 s hs).1) ?_⟩
  rw [← ei_K_top h hs]
  refine pk_loop (σ := Unit) (fun n j _ => wX_rankOf_14 post (nI i) fd (nI E.length) fp fl fh a1 a2 a3 a4 a5 a6 a7 n (nI (ei_p T E s ((T s).length - j))) (nI ((T s).length - j))) (fun _ _ => True) ((T s).length - i) 0 () (by omega) trivial ?_ ?_
  · intro n _ _
    try dsimp only
    rw [show (T s).length - ((T s).length - i) = i by omega]
    exact pk_le i i (fun _ => H) (fun z => absurd z (by omega))
  · intro n j _ hj _ hw
    have t := hw () trivial
    try dsimp only at t ⊢
    have hp := ei_K_lt h hs h0 (show (T s).length - j ≤ (T s).length by omega)
    refine pk_le ((T s).length - j) i (fun z => absurd z (by omega)) (fun _ => ⟨vp_in_nI (by omega) (by omega), ?_⟩)
    rw [nI_clamp (by omega)]
    have e : (T s).length - j = ((T s).length - (j + 1)) + 1 := by omega
    rw [e]
    refine ei_K_step h hs (by omega) ?_
    refine nm_r ?_ t
    rw [pk_m1]
theorem ei_w_numberOf (h : ei_K T E a2 a3) {s i : Nat} (hs : s < 6) (h0 : (T s).length ≠ 0) (hi : i ≤ (T s).length) (H : post (nI (16 * s + i))) :
    wpX_numberOf post (fd, nI E.length, fp, fl, fh, a1, a2, a3, a4, a5, a6, a7) (nI (ei_p T E s i)) := by
  have h9 := (h.1 s hs).2
  have hE := ei_K_len h
  have fin : wX_numberOf_45 post (nI (ei_p T E s 0)) (nI i) fd (nI E.length) fp fl fh a1 a2 a3 a4 a5 a6 a7 := by
    have hp := ei_K_lt h hs h0 (show 0 ≤ (T s).length by omega)
    refine ⟨vp_in_nI (by omega) (by omega), ?_⟩
    rw [nI_clamp (by omega), ei_K_row h hs h0 (show 0 ≤ (T s).length by omega)]
    show post (16 * (nI (4 + s) - nI 4) + nI i)
    rw [pk_sub (by omega), show (16 : Int32) = nI 16 from rfl, pk_mul, nI_add, show 4 + s - 4 = s by omega]
    exact H
  refine pk_loop (σ := Unit) (fun n j _ => wX_numberOf_7 post fd (nI E.length) fp fl fh a1 a2 a3 a4 a5 a6 a7 n (nI (ei_p T E s (i - j))) (nI j) (nI j)) (fun _ _ => True) i 0 () (by omega) trivial ?_ ?_
  · intro n _ _
    try dsimp only
    rw [show i - i = 0 by omega]
    have hp := ei_K_lt h hs h0 (show 0 ≤ (T s).length by omega)
    refine pk_le 9 i (fun _ => fin) (fun _ => ⟨vp_in_nI (by omega) (by omega), ?_⟩)
    refine pk_le 4 (4 + s) (fun _ => fin) (fun z => absurd z (by omega)) (hy := ?_)
    rw [nI_clamp (by omega), ei_K_row h hs h0 (show 0 ≤ (T s).length by omega)]
    rfl
  · intro n j _ hj _ hw
    have t := hw () trivial
    try dsimp only at t ⊢
    have hp := ei_K_lt h hs h0 (show i - j ≤ (T s).length by omega)
    have e : i - j = (i - (j + 1)) + 1 := by omega
    rw [e] at hp ⊢
    have h4 := (ei_pr_lt h.1 hs (show i - (j + 1) < (T s).length by omega)).1
    refine pk_le 9 j (fun z => absurd z (by omega)) (fun _ => ⟨vp_in_nI (by omega) (by omega), ?_⟩)
    rw [nI_clamp (by omega)]
    refine pk_le 4 (ei_pr (T s) s (i - (j + 1) + 1)) (fun z => absurd z (by omega)) (fun _ => ⟨vp_in_nI (by omega) (by omega), ?_⟩) (hy := ei_K_row h hs h0 (by omega))
    exact ei_K_step h hs (by omega) (nm_r (nI_1 j) (nm_r (nI_1 j) t))
theorem ei_w_bad {p : Int32} (H1 : (p < 0 ∨ nI 6 ≤ p) → post 1) (H0 : ∀ s, s < 6 → p = nI s → post 0) : wpX_badSlot post (fd, fs, fp, fl, fh, a1, a2, a3, a4, a5, a6, a7) p := by
  refine br_c (fun z => H1 (Or.inl z)) (fun z => br_c (fun y => ?_) (fun y => H1 (Or.inr ?_)))
  · rcases pk_ix p (n := 6) (by omega) with g | g | ⟨j, hj, e⟩
    · exact absurd g z
    · exact absurd y (Int32.not_lt.mpr g)
    · exact H0 j hj e
  · exact Int32.not_lt.mp y
theorem ei_w_length (hl : ei_ln T a3) {p : Int32} (H1 : (p < 0 ∨ nI 6 ≤ p) → post (-1)) (H0 : ∀ s, s < 6 → p = nI s → post (nI (T s).length)) : wpX_length post (fd, fs, fp, fl, fh, a1, a2, a3, a4, a5, a6, a7) p := by
  unfold wpX_length
  refine ei_w_bad (fun z => br_f (by decide) (H1 z)) (fun s hs e => br_t rfl ⟨?_, ?_⟩)
  · subst e
    exact pk_in s 6 hs
  · subst e
    rw [nI_clamp (by omega), (hl s hs).1]
    exact H0 s hs rfl
/-- a number below 96 names an ending exactly if the rank isn't negative -/
def ei_vd (T : Nat → List Nat) (m : Nat) : Bool := decide ((T (m / 16)).length ≠ 0) && decide (m % 16 ≤ (T (m / 16)).length)
theorem ei_w_rank (h : ei_K T E a2 a3) {m : Nat} (hm : m < 96) (H1 : ei_vd T m = false → post (-4)) (H0 : ei_vd T m = true → ∀ r, r < 60 → post (nI r)) :
    wpX_rank post (fd, nI E.length, fp, fl, fh, a1, a2, a3, a4, a5, a6, a7) (nI m) := by
  have hE := ei_K_len h
  have h6 : m / 16 < 6 := by omega
  have h9 := (h.1 _ h6).2
  have hk := h.2.1 _ h6
  refine nm_r (e' := nI (m / 16)) (by rw [pk_shrN (by omega) _ 4 (by decide)]) (nm_r (e' := nI (m % 16)) (by rw [pk_andN (by omega) 4 (by decide)]) ?_)
  refine br_f (nI_pos (by omega)) (br_f (nI_ge (b := 6) h6 (by decide)) ⟨vp_in_nI h6 (by omega), ?_⟩)
  rw [nI_clamp (by omega), hk.1]
  refine pk_eq (T (m / 16)).length 0 (fun z => H1 (by simp [ei_vd, z])) (fun z => ⟨vp_in_nI h6 (by omega), ?_⟩)
  refine pk_le (m % 16) (T (m / 16)).length (fun y => ?_) (fun y => H1 (by simp [ei_vd]; omega))
  have hp := ei_K_lt h h6 z y
  exact ei_w_rankOf h h6 z y (H0 (by simp [ei_vd, z]; omega) _ (by omega))
end
end
section
/-- a pattern's number; its letters, the last one first -/
def ei_er : List Nat → Nat
  | [] => 1
  | d :: l => 4 * ei_er l + d
theorem ei_er_bd : ∀ {l : List Nat}, (∀ a, a ∈ l → a < 4) → 4 ^ l.length ≤ ei_er l ∧ ei_er l < 2 * 4 ^ l.length
  | [], _ => by simp [ei_er]
  | d :: l, h => by
    have ih := ei_er_bd (l := l) (fun a ha => h a (List.mem_cons_of_mem _ ha))
    have hd : d < 4 := h d (List.mem_cons_self ..)
    simp only [ei_er, List.length_cons, Nat.pow_succ]
    omega
theorem ei_p4 {k : Nat} (h : k ≤ 6) : 4 ^ k ≤ 4096 := by
  have : k = 0 ∨ k = 1 ∨ k = 2 ∨ k = 3 ∨ k = 4 ∨ k = 5 ∨ k = 6 := by omega
  rcases this with rfl | rfl | rfl | rfl | rfl | rfl | rfl <;> decide
theorem ei_er_lt {l : List Nat} (h : ∀ a, a ∈ l → a < 4) (h6 : l.length ≤ 6) : 1 ≤ ei_er l ∧ ei_er l < 8192 := by
  have h1 := ei_er_bd h
  have h2 := ei_p4 h6
  have h3 : 0 < 4 ^ l.length := Nat.pow_pos (by decide)
  omega
/-- the word stands at the begin -/
def ei_px : List Nat → List Nat → Bool
  | [], _ => true
  | _ :: _, [] => false
  | c :: u, a :: t => c == a && ei_px u t
def ei_Lo : List Nat → List Nat → Nat → Bool
  | [] => fun _ _ => false
  | c :: u => ei_up c (ei_Lo u)
def ei_Hi : List Nat → List Nat → Nat → Bool
  | [] => fun _ _ => true
  | c :: u => ei_up c (ei_Hi u)
theorem ei_Lo_dn : ∀ u, ei_dn (ei_Lo u)
  | [] => fun _ _ _ _ _ h => absurd h (by simp [ei_Lo])
  | _ :: u => ei_dn_up (ei_Lo_dn u)
theorem ei_Hi_dn : ∀ u, ei_dn (ei_Hi u)
  | [] => fun _ _ _ _ _ _ => rfl
  | _ :: u => ei_dn_up (ei_Hi_dn u)
theorem ei_HiLo : ∀ (u w : List Nat) (s : Nat), (ei_Hi u w s).toNat = (ei_Lo u w s).toNat + (ei_px u w).toNat
  | [], w, s => by simp [ei_Hi, ei_Lo, ei_px]
  | c :: u, [], s => by simp [ei_Hi, ei_Lo, ei_px, ei_up]
  | c :: u, a :: t, s => by
    have ih := ei_HiLo u t s
    simp only [ei_Hi, ei_Lo, ei_px, ei_up]
    by_cases h1 : a < c
    · have h2 : (c == a) = false := by simp; omega
      simp [h1, h2]
    · by_cases h2 : a = c
      · subst h2
        simp [ih]
      · have h3 : (a == c) = false := by simp [h2]
        have h4 : (c == a) = false := by simp; omega
        simp [h1, h3, h4]
theorem ei_HiLo_ct (u : List Nat) (E : List ei_E) : ei_ct (ei_Hi u) E = ei_ct (ei_Lo u) E + E.countP (fun x => ei_px u x.1) := by
  unfold ei_ct
  exact ei_split (fun x _ => ei_HiLo u x.1 x.2.1)
theorem ei_rng {E : List ei_E} (hs : ei_so E) (u : List Nat) {r : Nat} {x : ei_E} (hx : E[r]? = some x) : (ei_ct (ei_Lo u) E ≤ r ∧ r < ei_ct (ei_Hi u) E) ↔ ei_px u x.1 = true := by
  have h1 := ei_cut (ei_Lo_dn u) hs hx
  have h2 := ei_cut (ei_Hi_dn u) hs hx
  have h3 := ei_HiLo u x.1 x.2.1
  rw [h2, ← Nat.not_lt, h1]
  cases e1 : ei_Lo u x.1 x.2.1 <;> cases e2 : ei_Hi u x.1 x.2.1 <;> cases e3 : ei_px u x.1 <;> simp [e1, e2, e3] at h3 ⊢
theorem ei_px_app : ∀ {z u w : List Nat}, ei_px (z ++ u) w = true → z.length ≤ w.length ∧ ei_px u (w.drop z.length) = true
  | [], u, w, h => ⟨by simp, by simpa using h⟩
  | c :: z, u, [], h => by simp [ei_px] at h
  | c :: z, u, a :: t, h => by
    simp only [List.cons_append, ei_px, Bool.and_eq_true] at h
    have := ei_px_app h.2
    exact ⟨by simp; omega, by simpa using this.2⟩
section
variable {fd fs fp fl fh : Int32} {a1 a2 a3 a4 a5 a6 a7 : Nat → Int32} {T : Nat → List Nat} {E : List ei_E}
/-- letters of a pattern in their array -/
def ei_pl (l : List Nat) (b : Nat → Int32) : Prop := ∀ j d, l[j]? = some d → b j = nI d
theorem ei_w_spread {post : Int32 → St1 → Prop} {l : List Nat} (h4 : ∀ a, a ∈ l → a < 4) (h6 : l.length ≤ 6)
    (H : ∀ b, ei_pl l b → post 1 (fd, fs, nI l.length, fl, fh, a1, a2, a3, b, a5, a6, a7)) :
    wpX_spread post (fd, fs, fp, fl, fh, a1, a2, a3, a4, a5, a6, a7) (nI (ei_er l)) := by
  have hb := ei_er_lt h4 h6
  refine pk_lt (ei_er l) 1 (fun z => absurd z (by omega)) (fun _ => pk_lt (ei_er l) 8192 (fun _ => ?_) (fun z => absurd z (by omega)))
  refine pk_loop (fun n i s => wX_spread_23 post fd fs fl fh n (nI (ei_er (l.drop i))) (nI i) (nI i) a1 a2 a3 s a5 a6 a7) (fun i s => ∀ j d, j < i → l[j]? = some d → s j = nI d) l.length 0 a4 (by omega) (fun j d hj => absurd hj (by omega)) ?_ ?_
  · intro n s hs
    try dsimp only
    rw [List.drop_length]
    have fin : wX_spread_66 post (nI (ei_er [])) fd fs (nI l.length) fl fh a1 a2 a3 s a5 a6 a7 := by
      refine br_t rfl (H s ?_)
      intro j d hj
      refine hs j d ?_ hj
      rcases Nat.lt_or_ge j l.length with z | z
      · exact z
      · rw [List.getElem?_eq_none z] at hj
        exact absurd hj (by simp)
    exact pk_le 7 l.length (fun z => absurd z (by omega)) (fun _ => br_t (by decide) fin)
  · intro n i s hi hs hw
    try dsimp only at hw ⊢
    have e : l.drop i = l[i] :: l.drop (i + 1) := List.drop_eq_getElem_cons hi
    have hd : l[i] < 4 := h4 _ (List.getElem_mem hi)
    have hb2 : 1 ≤ ei_er (l.drop (i + 1)) ∧ ei_er (l.drop (i + 1)) < 8192 := ei_er_lt (fun a ha => h4 a (List.mem_of_mem_drop ha)) (by simp; omega)
    have ee : ei_er (l.drop i) = 4 * ei_er (l.drop (i + 1)) + l[i] := by rw [e]; rfl
    rw [ee]
    refine pk_le 7 i (fun z => absurd z (by omega)) (fun _ => pk_le (4 * ei_er (l.drop (i + 1)) + l[i]) 1 (fun z => absurd z (by omega)) (fun _ => ⟨pk_in i 8 (by omega), ?_⟩))
    refine nm_r (e' := upd s i (nI l[i])) ?_ (nm_r (nI_1 i) (nm_r (e' := nI (ei_er (l.drop (i + 1)))) ?_ (nm_r (nI_1 i) (hw _ ?_))))
    · rw [nI_clamp (by omega), pk_andN (by omega) 2 (by decide), show (4 * ei_er (l.drop (i + 1)) + l[i]) % 2 ^ 2 = l[i] by omega]
    · rw [pk_shrN (by omega) _ 2 (by decide), show (4 * ei_er (l.drop (i + 1)) + l[i]) / 2 ^ 2 = ei_er (l.drop (i + 1)) by omega]
    · intro j d hj hd2
      by_cases ej : j = i
      · subst ej
        rw [pk_us]
        rw [List.getElem?_eq_getElem hi] at hd2
        injection hd2 with hd2
        rw [hd2]
      · rw [pk_un ej]
        exact hs j d (by omega) hd2
theorem ei_w_extend {post : St1 → Prop} (h : ei_K T E a2 a3) {c : Nat} {P Q : List Nat → Nat → Bool} (hP : ei_dn P) (hQ : ei_dn Q) (hc : c < 4)
    (H : post (fd, nI E.length, fp, nI (ei_ct (ei_up c P) E), nI (ei_ct (ei_up c Q) E), a1, a2, a3, a4, a5, a6, a7)) :
    wpX_extend post (fd, nI E.length, fp, nI (ei_ct P E), nI (ei_ct Q E), a1, a2, a3, a4, a5, a6, a7) (nI c) := by
  obtain ⟨hl, hr, hE, hs, he, hb⟩ := ei_K_I h
  have e1 := ei_step hs hb hP hc rfl
  have e2 := ei_step hs hb hQ hc rfl
  rw [he] at e1 e2
  refine ei_w_lesser (T := T) (E := E) hl hr hE (by omega) ?_
  refine ei_w_upTo (E := E) hr hE (ei_ct_le P E) (by omega) ?_
  refine ei_w_upTo (E := E) hr hE (ei_ct_le Q E) (by omega) ?_
  exact nm_r (by rw [nI_add, e1]) (nm_r (by rw [nI_add, e2]) H)
/-- the range of ranks of a word -/
def ei_R (E : List ei_E) (u : List Nat) (lo hi : Nat) : Prop :=
  hi = lo + E.countP (fun x => ei_px u x.1) ∧ hi ≤ E.length ∧ ∀ r x, E[r]? = some x → ((lo ≤ r ∧ r < hi) ↔ ei_px u x.1 = true)
theorem ei_R_0 (h : ei_K T E a2 a3) (u : List Nat) : ei_R E u (ei_ct (ei_Lo u) E) (ei_ct (ei_Hi u) E) :=
  ⟨ei_HiLo_ct u E, ei_ct_le _ _, fun _ _ hx => ei_rng h.2.2.2.1 u hx⟩
theorem ei_R_none (h : ei_K T E a2 a3) {z u : List Nat} {lo hi : Nat} (hR : ei_R E u lo hi) (hle : hi ≤ lo) : ei_R E (z ++ u) lo hi := by
  have hn : ∀ x, x ∈ E → ¬ ei_px (z ++ u) x.1 = true := by
    intro x hx hp
    obtain ⟨hz, hu⟩ := ei_px_app hp
    obtain ⟨s, hs, h0, i, hi2, rfl⟩ := ei_full_mem.mp (h.2.2.2.2.mem_iff.mp hx)
    try dsimp only at hz hu
    rw [List.length_drop] at hz
    rw [List.drop_drop] at hu
    have hk := ei_K_at h hs h0 (show i + z.length ≤ (T s).length by omega)
    have := (hR.2.2 _ _ hk).mpr hu
    omega
  have h0 : E.countP (fun x => ei_px (z ++ u) x.1) = 0 := List.countP_eq_zero.mpr hn
  refine ⟨by rw [h0]; have := hR.1; omega, hR.2.1, ?_⟩
  intro r x hx
  constructor
  · intro hh
    omega
  · intro hh
    exact absurd hh (hn x (List.mem_of_getElem? hx))
theorem ei_w_narrow {post : St1 → Prop} (h : ei_K T E a2 a3) {l : List Nat} (h4 : ∀ a, a ∈ l → a < 4) (h7 : l.length ≤ 7) (hl : ei_pl l a4)
    (H : ∀ lo hi, ei_R E l.reverse lo hi → post (fd, nI E.length, nI l.length, nI lo, nI hi, a1, a2, a3, a4, a5, a6, a7)) :
    wpX_narrow post (fd, nI E.length, nI l.length, fl, fh, a1, a2, a3, a4, a5, a6, a7) := by
  have hE := ei_K_len h
  have key : ∃ n, wX_narrow_15 post n (nI 0) fd (nI E.length) (nI l.length) (nI (ei_ct (ei_Lo ((l.take 0).reverse)) E)) (nI (ei_ct (ei_Hi ((l.take 0).reverse)) E)) a1 a2 a3 a4 a5 a6 a7 := by
    refine pk_loop (σ := Unit) (fun n i _ => wX_narrow_15 post n (nI i) fd (nI E.length) (nI l.length) (nI (ei_ct (ei_Lo ((l.take i).reverse)) E)) (nI (ei_ct (ei_Hi ((l.take i).reverse)) E)) a1 a2 a3 a4 a5 a6 a7) (fun _ _ => True) l.length 0 () (by omega) trivial ?_ ?_
    · intro n _ _
      try dsimp only
      rw [List.take_length]
      exact pk_le l.length l.length (fun _ => H _ _ (ei_R_0 h _)) (fun z => absurd z (by omega))
    · intro n i _ hi _ hw
      have t := hw () trivial
      try dsimp only at t ⊢
      have hc1 := ei_ct_le (ei_Lo ((l.take i).reverse)) E
      have hc2 := ei_ct_le (ei_Hi ((l.take i).reverse)) E
      refine pk_le l.length i (fun z => absurd z (by omega)) (fun _ => pk_le (ei_ct (ei_Hi ((l.take i).reverse)) E) (ei_ct (ei_Lo ((l.take i).reverse)) E) (fun z => ?_) (fun _ => ⟨pk_in i 8 (by omega), ?_⟩))
      · have hR := ei_R_none (z := (l.drop i).reverse) h (ei_R_0 h ((l.take i).reverse)) z
        rw [← List.reverse_append, List.take_append_drop] at hR
        exact H _ _ hR
      · have e : a4 (nI i).toNatClampNeg = nI l[i] := by
          rw [nI_clamp (by omega)]
          exact hl i _ (List.getElem?_eq_getElem hi)
        have e2 : (l.take (i + 1)).reverse = l[i] :: (l.take i).reverse := by
          rw [List.take_add_one, List.getElem?_eq_getElem hi]
          simp
        rw [e2] at t
        rw [e]
        refine ei_w_extend h (ei_Lo_dn _) (ei_Hi_dn _) (h4 _ (List.getElem_mem hi)) ?_
        exact nm_r (nI_1 i) t
  have e0 : ei_ct (ei_Lo ((l.take 0).reverse)) E = 0 := by
    unfold ei_ct
    rw [List.countP_eq_zero]
    simp [ei_Lo]
  have e1 : ei_ct (ei_Hi ((l.take 0).reverse)) E = E.length := by
    unfold ei_ct
    rw [List.countP_eq_length]
    simp [ei_Hi]
  rw [e0, e1] at key
  exact key
theorem ei_w_count {post : Int32 → St1 → Prop} (h : ei_K T E a2 a3) {l : List Nat} (h4 : ∀ a, a ∈ l → a < 4) (h6 : l.length ≤ 6)
    (H : ∀ fp fl fh a4, post (nI (E.countP (fun x => ei_px l.reverse x.1))) (fd, nI E.length, fp, fl, fh, a1, a2, a3, a4, a5, a6, a7)) :
    wpX_count post (fd, nI E.length, fp, fl, fh, a1, a2, a3, a4, a5, a6, a7) (nI (ei_er l)) := by
  have hE := ei_K_len h
  unfold wpX_count
  refine ei_w_spread h4 h6 (fun b hb => br_f (by decide) ?_)
  refine ei_w_narrow h h4 (by omega) hb (fun lo hi hR => ?_)
  obtain ⟨r1, r2, _⟩ := hR
  refine pk_le hi lo (fun z => ?_) (fun z => ?_)
  · have e : E.countP (fun x => ei_px l.reverse x.1) = 0 := by omega
    have := H (nI l.length) (nI lo) (nI hi) b
    rw [e] at this
    exact this
  · rw [pk_sub (by omega), show hi - lo = E.countP (fun x => ei_px l.reverse x.1) by omega]
    exact H _ _ _ _
end
end
section
theorem ei_or (a b : Nat) : nI a ||| nI b = nI (a ||| b) := by
  apply Int32.toBitVec_inj.1
  show BitVec.ofNat 32 a ||| BitVec.ofNat 32 b = BitVec.ofNat 32 (a ||| b)
  apply BitVec.eq_of_getLsbD_eq
  intro i hi
  simp [hi]
theorem ei_one : ∀ k, k < 10 → (1 : Int32) <<< (nI k &&& 31) = nI (2 ^ k) := by decide +kernel
theorem ei_set1 {m k : Nat} (hk : k < 10) : nI m ||| ((1 : Int32) <<< (nI k &&& 31)) = nI (m ||| 2 ^ k) := by
  rw [ei_one k hk, ei_or]
/-- a mask of what the entries at lo .. r - 1 have -/
def ei_mk (E : List ei_E) (q : ei_E → Nat → Prop) (lo r m : Nat) : Prop := ∀ j, m.testBit j = true ↔ ∃ r' x, lo ≤ r' ∧ r' < r ∧ E[r']? = some x ∧ q x j
theorem ei_mk_0 (E : List ei_E) (q : ei_E → Nat → Prop) (lo : Nat) : ei_mk E q lo lo 0 := by
  intro j
  rw [Nat.zero_testBit]
  constructor
  · intro h
    exact absurd h (by decide)
  · rintro ⟨r', x, h1, h2, _⟩
    omega
theorem ei_mk_skip {E : List ei_E} {q : ei_E → Nat → Prop} {lo r m : Nat} {x : ei_E} (h : ei_mk E q lo r m) (hx : E[r]? = some x) (hq : ∀ j, ¬ q x j) : ei_mk E q lo (r + 1) m := by
  intro j
  rw [h j]
  constructor
  · rintro ⟨r', y, h1, h2, h3, h4⟩
    exact ⟨r', y, h1, by omega, h3, h4⟩
  · rintro ⟨r', y, h1, h2, h3, h4⟩
    by_cases e : r' = r
    · subst e
      rw [hx] at h3
      injection h3 with h3
      subst h3
      exact absurd h4 (hq j)
    · exact ⟨r', y, h1, by omega, h3, h4⟩
theorem ei_mk_set {E : List ei_E} {q : ei_E → Nat → Prop} {lo r m k : Nat} {x : ei_E} (h : ei_mk E q lo r m) (hlo : lo ≤ r) (hx : E[r]? = some x) (hq : ∀ j, q x j ↔ k = j) : ei_mk E q lo (r + 1) (m ||| 2 ^ k) := by
  intro j
  rw [Nat.testBit_or, Bool.or_eq_true, h j, Nat.testBit_two_pow, decide_eq_true_eq, ← hq j]
  constructor
  · rintro (⟨r', y, h1, h2, h3, h4⟩ | h5)
    · exact ⟨r', y, h1, by omega, h3, h4⟩
    · exact ⟨r, x, hlo, by omega, hx, h5⟩
  · rintro ⟨r', y, h1, h2, h3, h4⟩
    by_cases e : r' = r
    · subst e
      rw [hx] at h3
      injection h3 with h3
      subst h3
      exact Or.inr h4
    · exact Or.inl ⟨r', y, h1, by omega, h3, h4⟩
theorem ei_mk_end {E : List ei_E} {q : ei_E → Nat → Prop} {u : List Nat} {lo hi m : Nat} (h : ei_mk E q lo hi m) (hR : ei_R E u lo hi) : ∀ j, m.testBit j = true ↔ ∃ x, x ∈ E ∧ ei_px u x.1 = true ∧ q x j := by
  intro j
  rw [h j]
  constructor
  · rintro ⟨r', y, h1, h2, h3, h4⟩
    exact ⟨y, List.mem_of_getElem? h3, (hR.2.2 _ _ h3).mp ⟨h1, h2⟩, h4⟩
  · rintro ⟨x, hx, hp, hq⟩
    obtain ⟨r, hr⟩ := List.getElem?_of_mem hx
    have := (hR.2.2 _ _ hr).mpr hp
    exact ⟨r, x, this.1, this.2, hr, hq⟩
section
variable {fd fs fp fl fh : Int32} {a1 a2 a3 a4 a5 a6 a7 : Nat → Int32} {T : Nat → List Nat} {E : List ei_E}
theorem ei_w_before {post : Int32 → St1 → Prop} (h : ei_K T E a2 a3) {l : List Nat} (h4 : ∀ a, a ∈ l → a < 4) (h6 : l.length ≤ 6)
    (H : ∀ m, (∀ j, m.testBit j = true ↔ ∃ x, x ∈ E ∧ ei_px l.reverse x.1 = true ∧ (x.2.2 < 4 ∧ x.2.2 = j)) → ∀ fp fl fh a4, post (nI m) (fd, nI E.length, fp, fl, fh, a1, a2, a3, a4, a5, a6, a7)) :
    wpX_before post (fd, nI E.length, fp, fl, fh, a1, a2, a3, a4, a5, a6, a7) (nI (ei_er l)) := by
  have hE := ei_K_len h
  unfold wpX_before
  refine ei_w_spread h4 h6 (fun b hb => br_f (by decide) ?_)
  refine ei_w_narrow h h4 (by omega) hb (fun lo hi hR => ?_)
  have hR1 := hR.1
  have hR2 := hR.2.1
  refine pk_loop (σ := Nat) (fun n i m => wX_before_24 post fd (nI E.length) (nI l.length) (nI lo) (nI hi) a1 a2 a3 b a5 a6 a7 n (nI m) (nI i)) (fun i m => lo ≤ i ∧ ei_mk E (fun x j => x.2.2 < 4 ∧ x.2.2 = j) lo i m) hi lo 0 (by omega) ⟨Nat.le_refl _, ei_mk_0 _ _ _⟩ ?_ ?_
  · intro n m hm
    exact pk_le hi hi (fun _ => H m (ei_mk_end hm.2 hR) _ _ _ _) (fun z => absurd z (by omega))
  · intro n i m hi2 hm hw
    try dsimp only at hw ⊢
    obtain ⟨x, hx⟩ := ei_at (E := E) (i := i) (by omega)
    have hk := h.2.2.1 i x hx
    have e : a2 (nI i).toNatClampNeg = nI x.2.2 := by rw [nI_clamp (by omega)]; exact hk.1
    refine pk_le hi i (fun z => absurd z (by omega)) (fun _ => ⟨pk_in i 60 (by omega), ?_⟩)
    rw [e]
    refine pk_le 4 x.2.2 (fun z => nm_r (nI_1 i) (hw m ⟨by omega, ei_mk_skip hm.2 hx (fun j hj => ?_)⟩)) (fun z => ⟨pk_in i 60 (by omega), nm_r (ei_set1 (by omega)) (nm_r (nI_1 i) (hw _ ⟨by omega, ei_mk_set hm.2 hm.1 hx (fun j => ?_)⟩))⟩)
    · omega
    · exact ⟨fun g => g.2, fun g => ⟨z, g⟩⟩
theorem ei_w_slotsOf {post : Int32 → St1 → Prop} (h : ei_K T E a2 a3) {l : List Nat} (h4 : ∀ a, a ∈ l → a < 4) (h6 : l.length ≤ 6)
    (H : ∀ m, (∀ j, m.testBit j = true ↔ ∃ x, x ∈ E ∧ ei_px l.reverse x.1 = true ∧ x.2.1 = j) → ∀ fp fl fh a4, post (nI m) (fd, nI E.length, fp, fl, fh, a1, a2, a3, a4, a5, a6, a7)) :
    wpX_slots post (fd, nI E.length, fp, fl, fh, a1, a2, a3, a4, a5, a6, a7) (nI (ei_er l)) := by
  have hE := ei_K_len h
  unfold wpX_slots
  refine ei_w_spread h4 h6 (fun b hb => br_f (by decide) ?_)
  refine ei_w_narrow h h4 (by omega) hb (fun lo hi hR => ?_)
  have hR1 := hR.1
  have hR2 := hR.2.1
  refine pk_loop (σ := Nat) (fun n i m => wX_slots_24 post fd (nI E.length) (nI l.length) (nI lo) (nI hi) a1 a2 a3 b a5 a6 a7 n (nI m) (nI i)) (fun i m => lo ≤ i ∧ ei_mk E (fun x j => x.2.1 = j) lo i m) hi lo 0 (by omega) ⟨Nat.le_refl _, ei_mk_0 _ _ _⟩ ?_ ?_
  · intro n m hm
    exact pk_le hi hi (fun _ => H m (ei_mk_end hm.2 hR) _ _ _ _) (fun z => absurd z (by omega))
  · intro n i m hi2 hm hw
    try dsimp only at hw ⊢
    obtain ⟨s, k, hs, h0, hk, e, hx⟩ := ei_K_get h (r := i) (by omega)
    have h9 := (h.1 s hs).2
    refine pk_le hi i (fun z => absurd z (by omega)) (fun _ => ?_)
    rw [e]
    refine ei_w_numberOf h hs h0 hk ?_
    rw [← e]
    rw [pk_shrN (by omega) _ 4 (by decide), show (16 * s + k) / 2 ^ 4 = s by omega]
    exact nm_r (ei_set1 (by omega)) (nm_r (nI_1 i) (hw _ ⟨by omega, ei_mk_set hm.2 hm.1 hx (fun j => Iff.rfl)⟩))
/-- room for one more letter at the front of the array -/
theorem ei_w_after20 {post : Int32 → St1 → Prop} {l : List Nat} (h6 : l.length ≤ 6) (hl : ei_pl l a4)
    (H : ∀ b, (∀ d, ei_pl (d :: l) (upd b 0 (nI d))) → ∃ n, wX_after_60 post n 0 0 fd fs (nI (l.length + 1)) fl fh a1 a2 a3 b a5 a6 a7) :
    ∃ n, wX_after_20 post (nI l.length) fd fs fp fl fh n (nI l.length) a1 a2 a3 a4 a5 a6 a7 := by
  refine ⟨l.length + 1, pk_loopD (fun n i s => wX_after_20 post (nI l.length) fd fs fp fl fh n (nI i) a1 a2 a3 s a5 a6 a7) (fun i s => i ≤ l.length ∧ (∀ j d, j < i → l[j]? = some d → s j = nI d) ∧ (∀ j d, i ≤ j → l[j]? = some d → s (j + 1) = nI d)) ?_ ?_ l.length a4 ⟨Nat.le_refl _, fun j d _ hj => hl j d hj, fun j d hj hd => ?_⟩⟩
  · intro n s hs
    refine br_t (by decide) (nm_r (nI_1 _) (H s ?_))
    intro d j e hj
    cases j with
    | zero =>
      simp at hj
      subst hj
      exact pk_us
    | succ k =>
      rw [pk_un (by omega)]
      simp at hj
      exact hs.2.2 k e (by omega) hj
  · intro n i s hs hw
    try dsimp only at hw ⊢
    obtain ⟨h1, h2, h3⟩ := hs
    refine pk_le (i + 1) 0 (fun z => absurd z (by omega)) (fun _ => ⟨?_, pk_in (i + 1) 8 (by omega), ?_⟩)
    · rw [nI_pred]
      exact pk_in i 8 (by omega)
    · refine nm_r (e' := upd s (i + 1) (s i)) (by rw [nI_pred, nI_clamp (by omega), nI_clamp (by omega)]) (nm_r (pk_m1 i) (hw _ ⟨by omega, ?_, ?_⟩))
      · intro j d hj hd
        rw [pk_un (by omega)]
        exact h2 j d (by omega) hd
      · intro j d hj hd
        by_cases e : j = i
        · subst e
          rw [pk_us]
          exact h2 j d (by omega) hd
        · rw [pk_un (by omega)]
          exact h3 j d (by omega) hd
  · rw [List.getElem?_eq_none hj] at hd
    exact absurd hd (by simp)
theorem ei_w_after {post : Int32 → St1 → Prop} (h : ei_K T E a2 a3) {l : List Nat} (h4 : ∀ a, a ∈ l → a < 4) (h6 : l.length ≤ 6)
    (H : ∀ m, (∀ j, m.testBit j = true ↔ j < 4 ∧ ∃ x, x ∈ E ∧ ei_px (l.reverse ++ [j]) x.1 = true) → ∀ fp fl fh a4, post (nI m) (fd, nI E.length, fp, fl, fh, a1, a2, a3, a4, a5, a6, a7)) :
    wpX_after post (fd, nI E.length, fp, fl, fh, a1, a2, a3, a4, a5, a6, a7) (nI (ei_er l)) := by
  have hE := ei_K_len h
  unfold wpX_after
  refine ei_w_spread h4 h6 (fun b hb => br_f (by decide) ?_)
  refine ei_w_after20 h6 hb (fun b' hb' => ?_)
  refine pk_loop (σ := Nat × Int32 × Int32 × (Nat → Int32)) (fun n i s => wX_after_60 post n (nI s.1) (nI i) fd (nI E.length) (nI (l.length + 1)) s.2.1 s.2.2.1 a1 a2 a3 s.2.2.2 a5 a6 a7)
    (fun i s => (∀ d, ei_pl (d :: l) (upd s.2.2.2 0 (nI d))) ∧ ∀ j, s.1.testBit j = true ↔ j < i ∧ ∃ x, x ∈ E ∧ ei_px (l.reverse ++ [j]) x.1 = true) 4 0 (0, fl, fh, b') (by omega) ⟨hb', fun j => ⟨fun g => absurd g (by simp), fun g => absurd g.1 (by omega)⟩⟩ ?_ ?_
  · rintro n ⟨m, gl, gh, g4⟩ hm
    exact pk_le 4 4 (fun _ => H m hm.2 _ _ _ _) (fun z => absurd z (by omega))
  · rintro n i ⟨m, gl, gh, g4⟩ hi hm hw
    try dsimp only at hm hw ⊢
    refine pk_le 4 i (fun z => absurd z (by omega)) (fun _ => nm_e ?_)
    refine ei_w_narrow (l := i :: l) h ?_ (by simp; omega) (hm.1 i) (fun lo hi hR => ?_)
    · intro a ha
      rcases List.mem_cons.mp ha with rfl | ha
      · exact hi
      · exact h4 a ha
    · rw [List.reverse_cons] at hR
      have hR1 := hR.1
      have hR2 := hR.2.1
      have keep : ∀ d, ei_pl (d :: l) (upd (upd g4 0 (nI i)) 0 (nI d)) := by
        intro d j e hj
        have := hm.1 d j e hj
        by_cases ej : j = 0
        · subst ej
          rw [pk_us] at this ⊢
          exact this
        · rw [pk_un ej] at this ⊢
          rw [pk_un ej]
          exact this
      refine pk_le hi lo (fun z => nm_r (nI_1 i) (hw (m, nI lo, nI hi, upd g4 0 (nI i)) ⟨keep, fun j => ?_⟩)) (fun z => nm_r (ei_set1 (by omega)) (nm_r (nI_1 i) (hw (m ||| 2 ^ i, nI lo, nI hi, upd g4 0 (nI i)) ⟨keep, fun j => ?_⟩)))
      · have hn : ∀ x, x ∈ E → ¬ ei_px (l.reverse ++ [i]) x.1 = true := List.countP_eq_zero.mp (by omega)
        try dsimp only
        rw [hm.2 j]
        constructor
        · rintro ⟨g1, g2⟩
          exact ⟨by omega, g2⟩
        · rintro ⟨g1, x, g2, g3⟩
          refine ⟨?_, x, g2, g3⟩
          rcases Nat.lt_or_ge j i with y | y
          · exact y
          · have : j = i := by omega
            subst this
            exact absurd g3 (hn x g2)
      · have hp : ∃ x, x ∈ E ∧ ei_px (l.reverse ++ [i]) x.1 = true := List.countP_pos_iff.mp (by omega)
        try dsimp only
        rw [Nat.testBit_or, Bool.or_eq_true, hm.2 j, Nat.testBit_two_pow, decide_eq_true_eq]
        constructor
        · rintro (⟨g1, g2⟩ | g)
          · exact ⟨by omega, g2⟩
          · subst g
            exact ⟨by omega, hp⟩
        · rintro ⟨g1, g2⟩
          rcases Nat.lt_or_ge j i with y | y
          · exact Or.inl ⟨y, g2⟩
          · exact Or.inr (by omega)
end
end
section
section
variable {fd fs fp fl fh : Int32} {a1 a2 a3 a4 a5 a6 a7 : Nat → Int32} {T : Nat → List Nat} {E : List ei_E}
theorem ei_w_insert {post : St1 → Prop} {n r : Nat} {c : Int32} (hn : n < 60) (hr : r ≤ n)
    (H : ∀ b, (∀ j, j < r → b j = a2 j) → b r = c → (∀ j, r < j → j ≤ n → b j = a2 (j - 1)) → post (fd, nI (n + 1), fp, fl, fh, a1, b, a3, a4, a5, a6, a7)) :
    wpX_insert post (fd, nI n, fp, fl, fh, a1, a2, a3, a4, a5, a6, a7) (nI r) c := by
  refine pk_loop (fun fu j s => wX_insert_5 post (nI r) c fd (nI n) fp fl fh fu (nI (n - j)) a1 s a3 a4 a5 a6 a7) (fun j s => (∀ i, i ≤ n - j → s i = a2 i) ∧ (∀ i, n - j < i → i ≤ n → s i = a2 (i - 1))) (n - r) 0 a2 (by omega) ⟨fun _ _ => rfl, fun i h1 h2 => absurd h1 (by omega)⟩ ?_ ?_
  · intro fu s hs
    try dsimp only
    rw [show n - (n - r) = r by omega] at hs ⊢
    refine pk_le r r (fun _ => ⟨pk_in r 60 (by omega), nm_r (e' := upd s r c) (by rw [nI_clamp (by omega)]) (nm_r (nI_1 n) (H _ ?_ pk_us ?_))⟩) (fun z => absurd z (by omega))
    · intro j hj
      rw [pk_un (by omega)]
      exact hs.1 j (by omega)
    · intro j h1 h2
      rw [pk_un (by omega)]
      exact hs.2 j h1 h2
  · intro fu j s hj hs hw
    try dsimp only at hw ⊢
    have e : n - j = (n - (j + 1)) + 1 := by omega
    rw [e] at hs ⊢
    refine pk_le (n - (j + 1) + 1) r (fun z => absurd z (by omega)) (fun _ => ⟨?_, vp_in_nI (by omega) (by omega), ?_⟩)
    · rw [nI_pred]
      exact vp_in_nI (by omega) (by omega)
    · refine nm_r (e' := upd s (n - (j + 1) + 1) (s (n - (j + 1)))) (by rw [nI_pred, nI_clamp (by omega), nI_clamp (by omega)]) (nm_r (pk_m1 _) (hw _ ⟨?_, ?_⟩))
      · intro i hi
        rw [pk_un (by omega)]
        exact hs.1 i (by omega)
      · intro i h1 h2
        by_cases e2 : i = n - (j + 1) + 1
        · subst e2
          rw [pk_us, hs.1 _ (by omega)]
          rfl
        · rw [pk_un e2]
          exact hs.2 i (by omega) h2
/-- the list with an entry put in at its rank -/
def ei_ins (E : List ei_E) (x : ei_E) : List ei_E := E.take (ei_rk E x.1 x.2.1) ++ x :: E.drop (ei_rk E x.1 x.2.1)
theorem ei_ins_rw {x : ei_E} {b : Nat → Int32} (h : ei_rw E a2) (hx : x.2.2 < 10)
    (h1 : ∀ j, j < ei_rk E x.1 x.2.1 → b j = a2 j) (h2 : b (ei_rk E x.1 x.2.1) = nI x.2.2) (h3 : ∀ j, ei_rk E x.1 x.2.1 < j → j ≤ E.length → b j = a2 (j - 1)) : ei_rw (ei_ins E x) b := by
  have hk : ei_rk E x.1 x.2.1 ≤ E.length := ei_ct_le _ _
  intro j y hy
  unfold ei_ins at hy
  rw [List.getElem?_append, List.length_take, Nat.min_eq_left hk] at hy
  split at hy
  · rename_i hj
    rw [List.getElem?_take, if_pos hj] at hy
    rw [h1 j hj]
    exact h j y hy
  · rename_i hj
    by_cases e : j = ei_rk E x.1 x.2.1
    · rw [e, Nat.sub_self, List.getElem?_cons_zero] at hy
      injection hy with hy
      subst hy
      rw [e]
      exact ⟨h2, hx⟩
    · obtain ⟨k, hk2⟩ : ∃ k, j = ei_rk E x.1 x.2.1 + (k + 1) := ⟨j - ei_rk E x.1 x.2.1 - 1, by omega⟩
      rw [hk2, Nat.add_sub_cancel_left, List.getElem?_cons_succ, List.getElem?_drop] at hy
      have hlen := ei_lt_len hy
      rw [h3 j (by omega) (by omega), show j - 1 = ei_rk E x.1 x.2.1 + k by omega]
      exact h _ y hy
theorem ei_ins_len (x : ei_E) : (ei_ins E x).length = E.length + 1 := by
  have := (ei_ins_perm E x (ei_rk E x.1 x.2.1)).length_eq
  simpa [ei_ins] using this
theorem ei_ins_rk (x : ei_E) : ei_rk (ei_ins E x) x.1 x.2.1 = ei_rk E x.1 x.2.1 := by
  have := (ei_ins_perm E x (ei_rk E x.1 x.2.1)).countP_eq (fun y => ei_lt y.2.1 x.2.1 y.1 x.1)
  unfold ei_rk ei_ct at *
  unfold ei_ins ei_rk ei_ct
  rw [this, List.countP_cons, ei_lt_irr]
  simp
/-- the picture while the text D goes into slot s: the endings behind j are in -/
def ei_A (T : Nat → List Nat) (s : Nat) (D : List Nat) (j : Nat) (E : List ei_E) (a2 : Nat → Int32) : Prop :=
  ei_so E ∧ ei_rw E a2 ∧ E.Perm (ei_tl s (D.drop j) ++ ei_full T 6)
theorem ei_A_len {s j : Nat} {D : List Nat} (h4 : ei_T4 T) (hs : s < 6) (h0 : (T s).length = 0) (hD : D.length ≤ 9) (hA : ei_A T s D j E a2) : E.length < 60 := by
  have h1 := hA.2.2.length_eq
  rw [List.length_append, ei_tl_len, List.length_drop] at h1
  have h2 := (ei_full_add (T := T) (s := s) (w := List.replicate 9 0) h0 hs).length_eq
  have h3 : (ei_full (ei_set T s (List.replicate 9 0)) 6).length ≤ 10 * 6 := by
    refine ei_full_len _ 6 (fun k hk => ?_)
    unfold ei_set
    by_cases e : k = s
    · rw [if_pos e]
      simp
    · rw [if_neg e]
      exact (h4 k hk).2
  rw [List.length_append, ei_ent_len, if_neg (by simp), List.length_replicate] at h2
  omega
theorem ei_A_new {s j : Nat} {D : List Nat} (h0 : (T s).length = 0) (hA : ei_A T s D j E a2) : ∀ y, y ∈ E → ¬ (y.1 = D.drop j ∧ y.2.1 = s) := by
  rintro y hy ⟨e1, e2⟩
  rcases List.mem_append.mp (hA.2.2.mem_iff.mp hy) with g | g
  · have := (ei_tl_slot g).2
    rw [e1] at this
    omega
  · obtain ⟨s', hs', h0', i, hi, e⟩ := ei_full_mem.mp g
    rw [e] at e2
    try dsimp only at e2
    subst e2
    exact h0' h0
theorem ei_A_ins {s j : Nat} {D : List Nat} {b : Nat → Int32} (h0 : (T s).length = 0) (hj : j < D.length) (hd : D[j] < 4) (hA : ei_A T s D (j + 1) E a2)
    (h1 : ∀ i, i < ei_rk E (D.drop (j + 1)) s → b i = a2 i) (h2 : b (ei_rk E (D.drop (j + 1)) s) = nI D[j]) (h3 : ∀ i, ei_rk E (D.drop (j + 1)) s < i → i ≤ E.length → b i = a2 (i - 1)) :
    ei_A T s D j (ei_ins E (D.drop (j + 1), s, D[j])) b := by
  refine ⟨ei_ins_so (x := (D.drop (j + 1), s, D[j])) hA.1 (ei_A_new h0 hA), ei_ins_rw (x := (D.drop (j + 1), s, D[j])) hA.2.1 (show D[j] < 10 by omega) h1 h2 h3, ?_⟩
  refine (ei_ins_perm E (D.drop (j + 1), s, D[j]) _).trans ?_
  rw [List.drop_eq_getElem_cons hj]
  exact List.Perm.cons _ hA.2.2
theorem ei_A_I {s j : Nat} {D : List Nat} (h4 : ei_T4 T) (hs : s < 6) (h0 : (T s).length = 0) (hD : D.length ≤ 9) (hD4 : ∀ a, a ∈ D → a < 4) (hj : j < D.length) (hl : ei_ln (ei_set T s D) a3) (hA : ei_A T s D j E a2) :
    ei_I (ei_set T s D) E (D.drop j) s a2 a3 := by
  have hE := ei_A_len h4 hs h0 hD hA
  refine ⟨hl, hA.2.1, by omega, hA.1, ?_, ?_⟩
  · rw [hA.2.2.countP_eq, List.countP_append, ei_emp_tl, ei_emp_full, ei_cn_add h0 (by omega) hs, if_neg (by rw [List.length_drop]; omega)]
    omega
  · refine ei_bal_perm hA.2.2.symm (ei_bal_app ?_ (ei_bal_full T 6 (fun s hs => (h4 s hs).1)))
    intro Q
    exact ei_bal_tl s Q (D.drop j) (fun a ha => hD4 a (List.mem_of_mem_drop ha))
theorem ei_A_end {s : Nat} {D : List Nat} {b : Nat → Int32} (h4 : ei_T4 T) (hs : s < 6) (h0 : (T s).length = 0) (hD0 : D.length ≠ 0) (hD : D.length ≤ 9) (hD4 : ∀ a, a ∈ D → a < 4) (hl : ei_ln (ei_set T s D) a3) (hA : ei_A T s D 0 E a2)
    (h1 : ∀ i, i < ei_rk E D s → b i = a2 i) (h2 : b (ei_rk E D s) = nI (4 + s)) (h3 : ∀ i, ei_rk E D s < i → i ≤ E.length → b i = a2 (i - 1)) :
    ei_K (ei_set T s D) (ei_ins E (D, s, 4 + s)) b a3 := by
  refine ⟨?_, hl, ei_ins_rw (x := (D, s, 4 + s)) hA.2.1 (show 4 + s < 10 by omega) h1 h2 h3, ei_ins_so (x := (D, s, 4 + s)) hA.1 ?_, ?_⟩
  · intro k hk
    unfold ei_set
    by_cases e : k = s
    · rw [if_pos e]
      exact ⟨hD4, hD⟩
    · rw [if_neg e]
      exact h4 k hk
  · have := ei_A_new h0 hA
    rw [List.drop_zero] at this
    exact this
  · refine (ei_ins_perm E (D, s, 4 + s) _).trans ?_
    refine List.Perm.trans ?_ (ei_full_add (w := D) h0 hs).symm
    unfold ei_ent
    rw [if_neg hD0]
    have := hA.2.2
    rw [List.drop_zero] at this
    exact List.Perm.cons _ this
theorem ei_w_add55 {post : Int32 → St1 → Prop} {s : Nat} {D : List Nat} (h4 : ei_T4 T) (hs : s < 6) (h0 : (T s).length = 0) (hD0 : D.length ≠ 0) (hD : D.length ≤ 9) (hD4 : ∀ a, a ∈ D → a < 4) (hl : ei_ln (ei_set T s D) a3) (hd : ei_pl D a1)
    (H : ∀ E' b, ei_K (ei_set T s D) E' b a3 → post (nI E'.length) (0, nI E'.length, fp, fl, fh, a1, b, a3, a4, a5, a6, a7)) (hA : ei_A T s D D.length E a2) :
    ∃ n, wX_add_55 post (nI s) n (nI (ei_rk E (D.drop D.length) s)) (nI D.length + (-1)) fd (nI E.length) fp fl fh a1 a2 a3 a4 a5 a6 a7 := by
  refine ⟨D.length + 1, pk_loopD (σ := List ei_E × (Nat → Int32)) (fun n j u => wX_add_55 post (nI s) n (nI (ei_rk u.1 (D.drop j) s)) (nI j + (-1)) fd (nI u.1.length) fp fl fh a1 u.2 a3 a4 a5 a6 a7) (fun j u => j ≤ D.length ∧ ei_A T s D j u.1 u.2) ?_ ?_ D.length (E, a2) ⟨Nat.le_refl _, hA⟩⟩
  · rintro n ⟨F, b2⟩ ⟨_, hF⟩
    try dsimp only at hF ⊢
    have hE := ei_A_len h4 hs h0 hD hF
    have hk : ei_rk F D s ≤ F.length := ei_ct_le _ _
    rw [List.drop_zero]
    refine br_t (by decide) ?_
    rw [show (4 : Int32) + nI s = nI (4 + s) from nI_add 4 s]
    refine ei_w_insert hE hk (fun b g1 g2 g3 => ?_)
    have hK := ei_A_end h4 hs h0 hD0 hD hD4 hl hF g1 g2 g3
    have := H _ b hK
    rw [ei_ins_len] at this
    exact this
  · rintro n j ⟨F, b2⟩ ⟨hj, hF⟩ hw
    try dsimp only at hF hw ⊢
    have hE := ei_A_len h4 hs h0 hD hF
    have hk : ei_rk F (D.drop (j + 1)) s ≤ F.length := ei_ct_le _ _
    have hj' : j < D.length := by omega
    have hdj : D[j] < 4 := hD4 _ (List.getElem_mem hj')
    have e1 : a1 j = nI D[j] := hd j _ (List.getElem?_eq_getElem hj')
    rw [pk_m1]
    refine br_f (nI_pos (by omega)) ⟨pk_in j 9 (by omega), ?_⟩
    rw [nI_clamp (by omega), e1]
    refine ei_w_insert hE hk (fun b g1 g2 g3 => ⟨pk_in j 9 (by omega), ?_⟩)
    have hN := ei_A_ins h0 hj' hdj hF g1 g2 g3
    have hI := ei_A_I h4 hs h0 hD hD4 hj' hl hN
    have t := hw (ei_ins F (D.drop (j + 1), s, D[j]), b) ⟨by omega, hN⟩
    try dsimp only at t ⊢
    have e2 : ei_rk F (D.drop (j + 1)) s = ei_rk (ei_ins F (D.drop (j + 1), s, D[j])) (D.drop (j + 1)) s := (ei_ins_rk (E := F) (D.drop (j + 1), s, D[j])).symm
    have e3 : F.length + 1 = (ei_ins F (D.drop (j + 1), s, D[j])).length := (ei_ins_len (E := F) (D.drop (j + 1), s, D[j])).symm
    rw [e1, e2, e3]
    refine ei_w_step (P := fun w' s' => ei_lt s' s w' (D.drop (j + 1))) hI (ei_dn_lt _ _) hdj ?_ ?_
    · rw [ei_up_lt, ← List.drop_eq_getElem_cons hj']
      try dsimp only
      rw [ei_lt_irr, Bool.and_false]
    · rw [ei_up_lt, ← List.drop_eq_getElem_cons hj']
      exact nm_e t
theorem ei_sub1 (x : Int32) : x - 1 = x + (-1) := Int32.sub_eq_add_neg ..
theorem ei_w_add {post : Int32 → St1 → Prop} {p : Int32} {D : List Nat} (h : ei_K T E a2 a3) (hD : D.length ≤ 9) (hD4 : ∀ a, a ∈ D → a < 4) (hd : ei_pl D a1)
    (H1 : (p < 0 ∨ nI 6 ≤ p) → post (-1) (nI D.length, nI E.length, fp, fl, fh, a1, a2, a3, a4, a5, a6, a7))
    (H2 : ∀ s, s < 6 → p = nI s → (T s).length ≠ 0 → post (-2) (nI D.length, nI E.length, fp, fl, fh, a1, a2, a3, a4, a5, a6, a7))
    (H3 : ∀ s, s < 6 → p = nI s → (T s).length = 0 → D.length = 0 → post (-4) (nI D.length, nI E.length, fp, fl, fh, a1, a2, a3, a4, a5, a6, a7))
    (H4 : ∀ s, s < 6 → p = nI s → (T s).length = 0 → D.length ≠ 0 → ∀ E' b2 b3, ei_K (ei_set T s D) E' b2 b3 → post (nI E'.length) (0, nI E'.length, fp, fl, fh, a1, b2, b3, a4, a5, a6, a7)) :
    wpX_add post (nI D.length, nI E.length, fp, fl, fh, a1, a2, a3, a4, a5, a6, a7) p := by
  unfold wpX_add
  refine ei_w_bad (fun z => br_f (by decide) (H1 z)) (fun s hs e => br_t rfl ?_)
  subst e
  have hk := h.2.1 s hs
  refine ⟨pk_in s 6 hs, ?_⟩
  rw [nI_clamp (by omega), hk.1]
  refine pk_le (T s).length 0 (fun z => pk_eq D.length 0 (fun y => H3 s hs rfl (by omega) y) (fun y => ⟨pk_in s 6 hs, nm_e ?_⟩)) (fun z => H2 s hs rfl (by omega))
  have hl : ei_ln (ei_set T s D) (upd a3 s (nI D.length)) := by
    intro k hk
    unfold ei_set
    by_cases e : k = s
    · rw [if_pos e, e, pk_us]
      exact ⟨rfl, hD⟩
    · rw [if_neg e, pk_un e]
      exact h.2.1 k hk
  refine ei_w_slots (T := ei_set T s D) (by omega) hl ?_
  have hA : ei_A T s D D.length E a2 := ⟨h.2.2.2.1, h.2.2.1, by rw [List.drop_length]; exact h.2.2.2.2⟩
  have e1 : ei_cn (ei_set T s D) s = ei_rk E (D.drop D.length) s := by
    rw [ei_cn_low (T := ei_set T s D) (T' := T) (fun k hk => by unfold ei_set; rw [if_neg (by omega)]), ← ei_K_top h hs, List.drop_length]
    unfold ei_p
    rw [List.drop_length]
  rw [e1, ei_sub1]
  exact nm_e (ei_w_add55 h.1 hs (by omega) y hD hD4 hl hd (fun E' b hK => H4 s hs rfl (by omega) y E' b _ hK) hA)
end
end
section
section
variable {fd fs fp fl fh : Int32} {a1 a2 a3 a4 a5 a6 a7 : Nat → Int32} {T : Nat → List Nat} {E : List ei_E}
theorem ei_w_delete {post : St1 → Prop} {n r : Nat} (hn : n < 60) (hr : r ≤ n)
    (H : ∀ b, (∀ j, j < r → b j = a2 j) → (∀ j, r ≤ j → j < n → b j = a2 (j + 1)) → post (fd, nI n, fp, fl, fh, a1, b, a3, a4, a5, a6, a7)) :
    wpX_delete post (fd, nI (n + 1), fp, fl, fh, a1, a2, a3, a4, a5, a6, a7) (nI r) := by
  refine nm_r (nI_pred n) ?_
  refine pk_loop (fun fu i s => wX_delete_12 post fd (nI n) fp fl fh fu (nI i) a1 s a3 a4 a5 a6 a7) (fun i s => r ≤ i ∧ (∀ j, j < r → s j = a2 j) ∧ (∀ j, r ≤ j → j < i → s j = a2 (j + 1)) ∧ (∀ j, i ≤ j → s j = a2 j)) n r a2 hr ⟨Nat.le_refl _, fun _ _ => rfl, fun j h1 h2 => absurd h1 (by omega), fun _ _ => rfl⟩ ?_ ?_
  · intro fu s hs
    exact pk_le n n (fun _ => H s hs.2.1 hs.2.2.1) (fun z => absurd z (by omega))
  · intro fu i s hi hs hw
    try dsimp only at hw ⊢
    obtain ⟨h0, h1, h2, h3⟩ := hs
    refine pk_le n i (fun z => absurd z (by omega)) (fun _ => ⟨?_, pk_in i 60 (by omega), ?_⟩)
    · rw [nI_1]
      exact vp_in_nI (by omega) (by omega)
    · refine nm_r (e' := upd s i (s (i + 1))) (by rw [nI_1, nI_clamp (by omega), nI_clamp (by omega)]) (nm_r (nI_1 i) (hw _ ⟨by omega, ?_, ?_, ?_⟩))
      · intro j hj
        rw [pk_un (by omega)]
        exact h1 j hj
      · intro j g1 g2
        by_cases e : j = i
        · subst e
          rw [pk_us]
          exact h3 _ (by omega)
        · rw [pk_un e]
          exact h2 j g1 (by omega)
      · intro j hj
        rw [pk_un (by omega)]
        exact h3 j (by omega)
theorem ei_w_rem95 {post : Int32 → St1 → Prop} {J : Int32 → Int32 → Int32 → Int32 → Int32 → Int32 → (Nat → Int32) → (Nat → Int32) → (Nat → Int32) → (Nat → Int32) → (Nat → Int32) → (Nat → Int32) → (Nat → Int32) → Prop} {x1 : Int32} {n m i : Nat} (hn : n ≤ 9) (hm : m < 60)
    (H : ∀ k, k ≤ n → (∀ j, j ≤ n → a5 j ≤ a5 k) → ∃ r, r ≤ m ∧ a5 k = nI r ∧ ∀ b, (∀ j, j < r → b j = a2 j) → (∀ j, r ≤ j → j < m → b j = a2 (j + 1)) → J (nI (i + 1)) fd (nI m) fp fl fh a1 b a3 a4 (upd a5 k (-1)) a6 a7) :
    ∃ fu, wX_remove_95 post J x1 (nI n) (nI i) fd (nI (m + 1)) fp fl fh a1 a2 a3 a4 a5 a6 a7 fu 0 0 := by
  refine pk_loop (σ := Nat) (fun fu j k => wX_remove_95 post J x1 (nI n) (nI i) fd (nI (m + 1)) fp fl fh a1 a2 a3 a4 a5 a6 a7 fu (nI k) (nI j)) (fun j k => k ≤ n ∧ ∀ j', j' < j → a5 j' ≤ a5 k) (n + 1) 0 0 (by omega) ⟨by omega, fun j' h => absurd h (by omega)⟩ ?_ ?_
  · intro fu k hk
    try dsimp only
    refine pk_lt n (n + 1) (fun _ => ⟨pk_in k 10 (by omega), ?_⟩) (fun z => absurd z (by omega))
    obtain ⟨r, hr, e, hJ⟩ := H k hk.1 (fun j hj => hk.2 j (by omega))
    rw [nI_clamp (by omega), e]
    refine ei_w_delete hm hr (fun b g1 g2 => ⟨pk_in k 10 (by omega), nm_e (nm_r (nI_1 i) (hJ b g1 g2))⟩)
  · intro fu j k hj hk hw
    try dsimp only at hw ⊢
    refine pk_lt n j (fun z => absurd z (by omega)) (fun _ => ⟨pk_in j 10 (by omega), pk_in k 10 (by omega), ?_⟩)
    rw [nI_clamp (by omega), nI_clamp (by omega)]
    refine br_c (fun z => nm_r (nI_1 j) (hw k ⟨hk.1, fun j' hj' => ?_⟩)) (fun z => nm_r (nI_1 j) (hw j ⟨by omega, fun j' hj' => ?_⟩))
    · by_cases e : j' = j
      · rw [e]
        exact z
      · exact hk.2 j' (by omega)
    · by_cases e : j' = j
      · rw [e]
        exact Int32.le_refl _
      · exact Int32.le_trans (hk.2 j' (by omega)) (Int32.le_of_lt (Int32.not_le.mp z))
theorem ei_er_filter {p : ei_E → Bool} : ∀ {E : List ei_E} {r : Nat} {x : ei_E}, E[r]? = some x → p x = false → (E.eraseIdx r).filter p = E.filter p
  | [], r, x, h, _ => by simp at h
  | y :: l, 0, x, h, hp => by
    simp at h
    subst h
    simp [hp]
  | y :: l, r + 1, x, h, hp => by
    simp at h
    rw [List.eraseIdx_cons_succ, List.filter_cons, List.filter_cons, ei_er_filter h hp]
theorem ei_er_count {p : ei_E → Bool} : ∀ {E : List ei_E} {r : Nat} {x : ei_E}, E[r]? = some x → p x = true → E.countP p = (E.eraseIdx r).countP p + 1
  | [], r, x, h, _ => by simp at h
  | y :: l, 0, x, h, hp => by
    simp at h
    subst h
    simp [hp]
  | y :: l, r + 1, x, h, hp => by
    simp at h
    rw [List.eraseIdx_cons_succ, List.countP_cons, List.countP_cons, ei_er_count h hp]
    omega
theorem ei_er_len : ∀ {E : List ei_E} {r : Nat} {x : ei_E}, E[r]? = some x → E.length = (E.eraseIdx r).length + 1
  | [], r, x, h => by simp at h
  | y :: l, 0, x, h => by simp
  | y :: l, r + 1, x, h => by
    simp at h
    rw [List.eraseIdx_cons_succ, List.length_cons, List.length_cons, ← ei_er_len h]
theorem ei_er_get (E : List ei_E) (r j : Nat) : (E.eraseIdx r)[j]? = if j < r then E[j]? else E[j + 1]? := List.getElem?_eraseIdx ..
/-- while endings of slot s are taken out: i of n + 1 are out -/
def ei_B (E0 : List ei_E) (s n i : Nat) (E : List ei_E) (a2 a5 : Nat → Int32) : Prop :=
  ei_rw E a2 ∧ E.filter (fun x => !(x.2.1 == s)) = E0.filter (fun x => !(x.2.1 == s)) ∧ E.countP (fun x => x.2.1 == s) + i = n + 1 ∧ E.length ≤ 60 ∧
  (∀ k, k ≤ n → a5 k = -1 ∨ ∃ r x, a5 k = nI r ∧ E[r]? = some x ∧ x.2.1 = s) ∧
  (∀ k k', k ≤ n → k' ≤ n → k ≠ k' → a5 k = a5 k' → a5 k = -1) ∧
  (∀ r x, E[r]? = some x → x.2.1 = s → ∃ k, k ≤ n ∧ a5 k = nI r)
theorem ei_neg {r : Nat} (h : r < 2 ^ 31) : nI r ≠ -1 := by
  intro e
  have := nI_pos h
  rw [e] at this
  exact this (by decide)
theorem ei_B_step {E0 : List ei_E} {s n i : Nat} (h : ei_B E0 s n i E a2 a5) (hi : i ≤ n) {k : Nat} (hk : k ≤ n) (hmax : ∀ j, j ≤ n → a5 j ≤ a5 k) :
    ∃ m r, E.length = m + 1 ∧ r ≤ m ∧ a5 k = nI r ∧ (E.eraseIdx r).length = m ∧ ∀ b, (∀ j, j < r → b j = a2 j) → (∀ j, r ≤ j → j < m → b j = a2 (j + 1)) → ei_B E0 s n (i + 1) (E.eraseIdx r) b (upd a5 k (-1)) := by
  obtain ⟨h1, h2, h3, h4, h5, h6, h7⟩ := h
  have hpos : 0 < E.countP (fun x => x.2.1 == s) := by omega
  obtain ⟨y, hy, hys⟩ := List.countP_pos_iff.mp hpos
  have hys' : y.2.1 = s := by simpa using hys
  obtain ⟨q, hq⟩ := List.getElem?_of_mem hy
  have hq60 := ei_lt_len hq
  obtain ⟨k0, hk0, e0⟩ := h7 q y hq hys'
  have hne : a5 k ≠ -1 := by
    intro e
    have g := hmax k0 hk0
    rw [e, e0] at g
    have g2 : (0 : Int32) ≤ -1 := Int32.le_trans (nI_pos' (by omega)) g
    exact absurd g2 (by decide)
  obtain ⟨r, x, er, hr, hxs⟩ := (h5 k hk).resolve_left hne
  have hr60 := ei_lt_len hr
  have hlen := ei_er_len hr
  refine ⟨(E.eraseIdx r).length, r, hlen, by omega, er, rfl, ?_⟩
  intro b g1 g2
  have hle : ∀ j, j ≤ n → ∀ q, a5 j = nI q → q < 60 → q ≤ r := by
    intro j hj q hq hq60
    have g := hmax j hj
    rw [hq, er] at g
    exact (nI_leI (by omega) (by omega)).mp g
  refine ⟨?_, ?_, ?_, by omega, ?_, ?_, ?_⟩
  · intro j z hz
    rw [ei_er_get] at hz
    split at hz
    · rename_i hj
      rw [g1 j hj]
      exact h1 j z hz
    · rename_i hj
      have hz60 := ei_lt_len hz
      rw [g2 j (by omega) (by omega)]
      exact h1 _ z hz
  · rw [ei_er_filter hr (by simp [hxs])]
    exact h2
  · have := ei_er_count (p := fun x => x.2.1 == s) hr (by simp [hxs])
    omega
  · intro j hj
    by_cases e : j = k
    · left
      rw [e, pk_us]
    · rw [pk_un e]
      rcases h5 j hj with g | ⟨q', z, gq, gz, gs⟩
      · exact Or.inl g
      · right
        have hz60 := ei_lt_len gz
        have hle' := hle j hj q' gq (by omega)
        have hneq : q' ≠ r := by
          intro e2
          subst e2
          have := h6 j k hj hk e (by rw [gq, er])
          rw [gq] at this
          exact ei_neg (by omega) this
        refine ⟨q', z, gq, ?_, gs⟩
        rw [ei_er_get, if_pos (by omega)]
        exact gz
  · intro j j' hj hj' hne2 heq
    by_cases e : j = k
    · rw [e, pk_us]
    · rw [pk_un e] at heq ⊢
      by_cases e' : j' = k
      · rw [e', pk_us] at heq
        exact heq
      · rw [pk_un e'] at heq
        exact h6 j j' hj hj' hne2 heq
  · intro q' z hz hzs
    rw [ei_er_get] at hz
    split at hz
    · rename_i hj
      obtain ⟨j, hj2, ej⟩ := h7 q' z hz hzs
      have hz60 := ei_lt_len hz
      refine ⟨j, hj2, ?_⟩
      have : j ≠ k := by
        intro e
        rw [e, er, nI_eq (by omega) (by omega)] at ej
        omega
      rw [pk_un this]
      exact ej
    · rename_i hj
      obtain ⟨j, hj2, ej⟩ := h7 (q' + 1) z hz hzs
      have hz60 := ei_lt_len hz
      have := hle j hj2 (q' + 1) ej (by omega)
      omega
theorem ei_B_end {s n : Nat} (h : ei_K T E a2 a3) {F : List ei_E} {b2 b5 : Nat → Int32} (hB : ei_B E s n (n + 1) F b2 b5) (hs : s < 6) : ei_K (ei_set T s []) F b2 (upd a3 s 0) := by
  obtain ⟨h1, h2, h3, h4, _⟩ := hB
  have e0 : F.countP (fun x => x.2.1 == s) = 0 := by omega
  have e1 : F.filter (fun x => !(x.2.1 == s)) = F := by
    rw [List.filter_eq_self]
    intro x hx
    have := List.countP_eq_zero.mp e0 x hx
    simpa using this
  have e2 : F = E.filter (fun x => !(x.2.1 == s)) := by rw [← h2, e1]
  refine ⟨?_, ?_, h1, ?_, ?_⟩
  · intro k hk
    unfold ei_set
    by_cases e : k = s
    · rw [if_pos e]
      exact ⟨by simp, by simp⟩
    · rw [if_neg e]
      exact h.1 k hk
  · intro k hk
    unfold ei_set
    by_cases e : k = s
    · rw [if_pos e, e, pk_us]
      exact ⟨rfl, by simp⟩
    · rw [if_neg e, pk_un e]
      exact h.2.1 k hk
  · rw [e2]
    exact h.2.2.2.1.sublist List.filter_sublist
  · rw [e2, ← ei_full_rem]
    exact h.2.2.2.2.filter _
theorem ei_p_inj (h : ei_K T E a2 a3) {s i s' i' : Nat} (hs : s < 6) (h0 : (T s).length ≠ 0) (hi : i ≤ (T s).length) (hs' : s' < 6) (h0' : (T s').length ≠ 0) (hi' : i' ≤ (T s').length) (e : ei_p T E s i = ei_p T E s' i') : s = s' ∧ i = i' := by
  have g := ei_K_at h hs h0 hi
  have g' := ei_K_at h hs' h0' hi'
  rw [e, g'] at g
  injection g with g
  have e1 := congrArg (fun x => x.2.1) g
  have e2 := congrArg (fun x => x.1.length) g
  try dsimp only at e1 e2
  subst e1
  rw [List.length_drop, List.length_drop] at e2
  exact ⟨rfl, by omega⟩
theorem ei_B_0 (h : ei_K T E a2 a3) {s : Nat} (hs : s < 6) (h0 : (T s).length ≠ 0) (h5 : ∀ k, k ≤ (T s).length → a5 k = nI (ei_p T E s ((T s).length - k))) : ei_B E s (T s).length 0 E a2 a5 := by
  have hE := ei_K_len h
  refine ⟨h.2.2.1, rfl, ?_, hE, ?_, ?_, ?_⟩
  · rw [h.2.2.2.2.countP_eq, ei_full_own, if_pos hs, ei_ent_len, if_neg h0]
  · intro k hk
    exact Or.inr ⟨_, _, h5 k hk, ei_K_at h hs h0 (by omega), rfl⟩
  · intro k k' hk hk' hne e
    rw [h5 k hk, h5 k' hk'] at e
    have l1 := ei_K_lt h hs h0 (show (T s).length - k ≤ (T s).length by omega)
    have l2 := ei_K_lt h hs h0 (show (T s).length - k' ≤ (T s).length by omega)
    rw [nI_eq (by omega) (by omega)] at e
    have := (ei_p_inj h hs h0 (by omega) hs h0 (by omega) e).2
    omega
  · intro r x hr hx
    obtain ⟨s', i', hs', h0', hi', e, g⟩ := ei_K_get h (ei_lt_len hr)
    rw [hr] at g
    injection g with g
    subst g
    try dsimp only at hx
    subst hx
    refine ⟨(T s').length - i', by omega, ?_⟩
    rw [h5 _ (by omega), e, show (T s').length - ((T s').length - i') = i' by omega]
theorem ei_w_rem83 {post : Int32 → St1 → Prop} {s : Nat} (h : ei_K T E a2 a3) (hs : s < 6)
    (H : ∀ E' b2 b3 b5, ei_K (ei_set T s []) E' b2 b3 → post (nI E'.length) (fd, nI E'.length, fp, fl, fh, a1, b2, b3, a4, b5, a6, a7))
    (hB : ei_B E s (T s).length 0 E a2 a5) :
    ∃ fu, wX_remove_83 post (nI s) (nI (T s).length) fu 0 fd (nI E.length) fp fl fh a1 a2 a3 a4 a5 a6 a7 := by
  have h9 := (h.1 s hs).2
  refine pk_loop (σ := List ei_E × (Nat → Int32) × (Nat → Int32)) (fun fu i u => wX_remove_83 post (nI s) (nI (T s).length) fu (nI i) fd (nI u.1.length) fp fl fh a1 u.2.1 a3 a4 u.2.2 a6 a7) (fun i u => ei_B E s (T s).length i u.1 u.2.1 u.2.2) ((T s).length + 1) 0 (E, a2, a5) (by omega) hB ?_ ?_
  · rintro fu ⟨F, b2, b5⟩ hF
    try dsimp only at hF ⊢
    exact pk_lt (T s).length ((T s).length + 1) (fun _ => ⟨pk_in s 6 hs, nm_r (e' := upd a3 s 0) (by rw [nI_clamp (by omega)]) (H _ _ _ _ (ei_B_end h hF hs))⟩) (fun z => absurd z (by omega))
  · rintro fu i ⟨F, b2, b5⟩ hi hF hw
    try dsimp only at hF hw ⊢
    refine pk_lt (T s).length i (fun z => absurd z (by omega)) (fun _ => ?_)
    have hp : 0 < F.length := by
      have g1 := hF.2.2.1
      have g2 : F.countP (fun x => x.2.1 == s) ≤ F.length := List.countP_le_length
      omega
    have hF60 := hF.2.2.2.1
    obtain ⟨m, hm⟩ : ∃ m, F.length = m + 1 := ⟨F.length - 1, by omega⟩
    rw [hm]
    refine ei_w_rem95 h9 (by omega) (fun k hk hmax => ?_)
    obtain ⟨m', r, e1, e2, e3, e4, e5⟩ := ei_B_step hF (by omega) hk hmax
    have em : m' = m := by omega
    subst em
    refine ⟨r, e2, e3, fun b g1 g2 => ?_⟩
    have t := hw (F.eraseIdx r, b, upd b5 k (-1)) (e5 b g1 g2)
    try dsimp only at t
    rw [e4] at t
    exact t
theorem ei_w_remove {post : Int32 → St1 → Prop} {p : Int32} (h : ei_K T E a2 a3)
    (H1 : (p < 0 ∨ nI 6 ≤ p) → post (-1) (fd, nI E.length, fp, fl, fh, a1, a2, a3, a4, a5, a6, a7))
    (H2 : ∀ s, s < 6 → p = nI s → (T s).length = 0 → post (-4) (fd, nI E.length, fp, fl, fh, a1, a2, a3, a4, a5, a6, a7))
    (H3 : ∀ s, s < 6 → p = nI s → (T s).length ≠ 0 → ∀ E' b2 b3 b5, ei_K (ei_set T s []) E' b2 b3 → post (nI E'.length) (fd, nI E'.length, fp, fl, fh, a1, b2, b3, a4, b5, a6, a7)) :
    wpX_remove post (fd, nI E.length, fp, fl, fh, a1, a2, a3, a4, a5, a6, a7) p := by
  unfold wpX_remove
  refine ei_w_bad (fun z => br_f (by decide) (H1 z)) (fun s hs e => br_t rfl ?_)
  subst e
  have hk := h.2.1 s hs
  have hE := ei_K_len h
  refine ⟨pk_in s 6 hs, ?_⟩
  rw [nI_clamp (by omega), hk.1]
  refine pk_eq (T s).length 0 (fun z => H2 s hs rfl z) (fun z => ⟨pk_in s 6 hs, nm_e ?_⟩)
  refine ei_w_slots (T := T) (by omega) h.2.1 ?_
  rw [← ei_K_top h hs]
  refine pk_loop (fun fu i b5 => wX_remove_38 post (nI s) (nI (T s).length) fd (nI E.length) fp fl fh fu (nI (ei_p T E s ((T s).length - i))) (nI i) a1 a2 a3 a4 b5 a6 a7) (fun i b5 => ∀ k, k < i → b5 k = nI (ei_p T E s ((T s).length - k))) ((T s).length + 1) 0 a5 (by omega) (fun k hk => absurd hk (by omega)) ?_ ?_
  · intro fu b5 hb
    refine pk_lt (T s).length ((T s).length + 1) (fun _ => ?_) (fun z => absurd z (by omega))
    exact ei_w_rem83 h hs (H3 s hs rfl z) (ei_B_0 h hs z (fun k hk => hb k (by omega)))
  · intro fu i b5 hi hb hw
    try dsimp only at hw ⊢
    have l1 := ei_K_lt h hs z (show (T s).length - i ≤ (T s).length by omega)
    have hnew : ∀ k, k < i + 1 → upd b5 i (nI (ei_p T E s ((T s).length - i))) k = nI (ei_p T E s ((T s).length - k)) := by
      intro k hk
      by_cases e : k = i
      · rw [e, pk_us]
      · rw [pk_un e]
        exact hb k (by omega)
    have t := hw _ hnew
    refine pk_lt (T s).length i (fun z => absurd z (by omega)) (fun _ => ⟨pk_in i 10 (by omega), nm_r (e' := upd b5 i (nI (ei_p T E s ((T s).length - i)))) (by rw [nI_clamp (by omega)]) ⟨vp_in_nI (by omega) (by omega), ?_⟩⟩)
    rw [nI_clamp (by omega)]
    by_cases e : i = (T s).length
    · rw [show (T s).length - i = 0 by omega] at t ⊢
      rw [show (T s).length - (i + 1) = 0 by omega] at t
      refine pk_le 4 (4 + s) (fun _ => nm_r (nI_1 i) t) (fun z => absurd z (by omega)) (hy := ?_)
      rw [ei_K_row h hs z (by omega)]
      rfl
    · have e2 : (T s).length - i = ((T s).length - (i + 1)) + 1 := by omega
      rw [e2] at t l1 ⊢
      have h4 := (ei_pr_lt h.1 hs (show (T s).length - (i + 1) < (T s).length by omega)).1
      refine pk_le 4 (ei_pr (T s) s ((T s).length - (i + 1) + 1)) (fun z => absurd z (by omega)) (fun _ => ⟨vp_in_nI (by omega) (by omega), ?_⟩) (hy := ei_K_row h hs z (by omega))
      exact ei_K_step h hs (by omega) (nm_r (nI_1 i) t)
end
end
section
/-- what unpack has written: all slots below s, and in s from i0 on -/
def ei_N (T : Nat → List Nat) (E : List ei_E) (s i0 : Nat) (a6 a7 : Nat → Int32) : Prop :=
  ∀ s' i', s' < 6 → (T s').length ≠ 0 → i' ≤ (T s').length → (s' < s ∨ (s' = s ∧ i0 ≤ i')) → a7 (ei_p T E s' i') = nI (16 * s' + i') ∧ (0 < i' → a6 (9 * s' + i' - 1) = nI (ei_pr (T s') s' i'))
section
variable {fd fs fp fl fh : Int32} {a1 a2 a3 a4 a5 a6 a7 : Nat → Int32} {T : Nat → List Nat} {E : List ei_E}
theorem ei_N_upd (h : ei_K T E a2 a3) {s i : Nat} {b6 : Nat → Int32} (hs : s < 6) (h0 : (T s).length ≠ 0) (hi : i ≤ (T s).length) (hN : ei_N T E s (i + 1) a6 a7)
    (h6 : ∀ j, j ≠ 9 * s + i - 1 → b6 j = a6 j) (h6i : 0 < i → b6 (9 * s + i - 1) = nI (ei_pr (T s) s i)) (h60 : i = 0 → b6 = a6) : ei_N T E s i b6 (upd a7 (ei_p T E s i) (nI (16 * s + i))) := by
  intro s' i' hs' h0' hi' hc
  have h9 := (h.1 s hs).2
  have h9' := (h.1 s' hs').2
  by_cases e : s' = s ∧ i' = i
  · obtain ⟨rfl, rfl⟩ := e
    rw [pk_us]
    exact ⟨rfl, h6i⟩
  · have hne : ei_p T E s' i' ≠ ei_p T E s i := by
      intro g
      exact e (ei_p_inj h hs' h0' hi' hs h0 hi g)
    rw [pk_un hne]
    have g := hN s' i' hs' h0' hi' (by omega)
    refine ⟨g.1, fun hp => ?_⟩
    by_cases e0 : i = 0
    · rw [h60 e0]
      exact g.2 hp
    · rw [h6 _ (by omega)]
      exact g.2 hp
theorem ei_w_unpack21 {post : St1 → Prop} {J : Int32 → (Nat → Int32) → (Nat → Int32) → (Nat → Int32) → (Nat → Int32) → (Nat → Int32) → (Nat → Int32) → (Nat → Int32) → Prop} (h : ei_K T E a2 a3) {s : Nat} (hs : s < 6) (h0 : (T s).length ≠ 0)
    (H : ∀ b6 b7, ei_N T E s 0 b6 b7 → J (nI (s + 1)) a1 a2 a3 a4 a5 b6 b7) (hN : ei_N T E s ((T s).length + 1) a6 a7) :
    ∃ fu, wX_unpack_21 post J (nI s) fd (nI E.length) fp fl fh fu (nI (ei_p T E s (T s).length)) (nI (T s).length) a1 a2 a3 a4 a5 a6 a7 := by
  have hE := ei_K_len h
  have h9 := (h.1 s hs).2
  have hk := (h.2.1 s hs).1
  have key := pk_loopD (σ := (Nat → Int32) × (Nat → Int32)) (fun fu j u => wX_unpack_21 post J (nI s) fd (nI E.length) fp fl fh fu (nI (ei_p T E s (j - 1))) (nI j + (-1)) a1 a2 a3 a4 a5 u.1 u.2) (fun j u => j ≤ (T s).length + 1 ∧ ei_N T E s j u.1 u.2) ?_ ?_ ((T s).length + 1) (a6, a7) ⟨Nat.le_refl _, hN⟩
  · try dsimp only at key
    rw [pk_m1, Nat.add_sub_cancel] at key
    exact ⟨_, key⟩
  · rintro n ⟨b6, b7⟩ ⟨_, hN⟩
    exact br_t (by decide) (nm_r (nI_1 s) (H b6 b7 hN))
  · rintro n j ⟨b6, b7⟩ ⟨hj, hN⟩ hw
    try dsimp only at hN hw ⊢
    rw [pk_m1, Nat.add_sub_cancel]
    have l1 := ei_K_lt h hs h0 (show j ≤ (T s).length by omega)
    refine br_f (nI_pos (by omega)) ⟨pk_in s 6 hs, ?_⟩
    rw [nI_clamp (show s < 2 ^ 31 by omega), hk]
    refine pk_le (T s).length 0 (fun z => absurd z (by omega)) (fun _ => ⟨vp_in_nI (by omega) (by omega), ?_⟩)
    rw [nI_clamp (show ei_p T E s j < 2 ^ 31 by omega)]
    refine nm_r (e' := upd b7 (ei_p T E s j) (nI (16 * s + j))) (by rw [show (16 : Int32) = nI 16 from rfl, pk_mul, nI_add]) ?_
    refine pk_le j 0 (fun z => ?_) (fun z => ⟨vp_in_nI (by omega) (by omega), ?_, ?_⟩)
    · have ej : j = 0 := by omega
      subst ej
      refine nm_e ?_
      have t := hw (b6, upd b7 (ei_p T E s 0) (nI (16 * s + 0))) ⟨by omega, ei_N_upd h hs h0 (by omega) hN (fun _ _ => rfl) (fun g => absurd g (by omega)) (fun _ => rfl)⟩
      exact t
    · obtain ⟨k, rfl⟩ : ∃ k, j = k + 1 := ⟨j - 1, by omega⟩
      rw [show (9 : Int32) = nI 9 from rfl, pk_mul, nI_add, show s * 9 + (k + 1) = (s * 9 + k) + 1 by omega, nI_pred]
      exact vp_in_nI (by omega) (by omega)
    · obtain ⟨k, rfl⟩ : ∃ k, j = k + 1 := ⟨j - 1, by omega⟩
      refine nm_r (e' := upd b6 (9 * s + (k + 1) - 1) (nI (ei_pr (T s) s (k + 1)))) ?_ ⟨vp_in_nI (by omega) (by omega), ?_⟩
      · rw [show (9 : Int32) = nI 9 from rfl, pk_mul, nI_add, show s * 9 + (k + 1) = (s * 9 + k) + 1 by omega, nI_pred, nI_clamp (by omega), ei_K_row h hs h0 (by omega), show 9 * s + (k + 1) - 1 = s * 9 + k by omega]
      · refine ei_K_step h hs (by omega) (nm_e ?_)
        have t := hw (upd b6 (9 * s + (k + 1) - 1) (nI (ei_pr (T s) s (k + 1))), upd b7 (ei_p T E s (k + 1)) (nI (16 * s + (k + 1)))) ⟨by omega, ei_N_upd h hs h0 (by omega) hN (fun _ g => pk_un g) (fun _ => pk_us) (fun g => absurd g (by omega))⟩
        try dsimp only at t
        rw [Nat.add_sub_cancel] at t
        exact t
theorem ei_w_unpack {post : St1 → Prop} (h : ei_K T E a2 a3)
    (H : ∀ b6 b7, ei_N T E 6 10 b6 b7 → post (fd, nI E.length, fp, fl, fh, a1, a2, a3, a4, a5, b6, b7)) :
    wpX_unpack post (fd, nI E.length, fp, fl, fh, a1, a2, a3, a4, a5, a6, a7) := by
  refine pk_loop (σ := (Nat → Int32) × (Nat → Int32)) (fun fu s u => wX_unpack_2 post fd (nI E.length) fp fl fh fu (nI s) a1 a2 a3 a4 a5 u.1 u.2) (fun s u => ei_N T E s 10 u.1 u.2) 6 0 (a6, a7) (by omega) ?_ ?_ ?_
  · intro s' i' hs' h0' hi' hc
    have := (h.1 s' hs').2
    omega
  · rintro fu ⟨b6, b7⟩ hN
    exact pk_le 6 6 (fun _ => H b6 b7 hN) (fun z => absurd z (by omega))
  · rintro fu s ⟨b6, b7⟩ hs hN hw
    try dsimp only at hN hw ⊢
    have hk := (h.2.1 s hs).1
    refine pk_le 6 s (fun z => absurd z (by omega)) (fun _ => ?_)
    refine ei_w_slots (T := T) (by omega) h.2.1 ⟨pk_in s 6 hs, nm_r (e' := nI (T s).length) (by rw [nI_clamp (by omega)]; exact hk) ?_⟩
    by_cases h0 : (T s).length = 0
    · refine ⟨1, ?_⟩
      rw [h0]
      refine br_f (by decide) ⟨pk_in s 6 hs, ?_⟩
      rw [nI_clamp (by omega), hk, h0]
      refine br_t (by decide) (nm_r (nI_1 s) (hw (b6, b7) ?_))
      intro s' i' hs' h0' hi' hc
      refine hN s' i' hs' h0' hi' ?_
      have := (h.1 s' hs').2
      rcases hc with hc | hc
      · by_cases e : s' = s
        · subst e
          exact absurd h0 h0'
        · exact Or.inl (by omega)
      · omega
    · rw [← ei_K_top h hs]
      refine ei_w_unpack21 h hs h0 (fun c6 c7 hN' => hw (c6, c7) ?_) ?_
      · intro s' i' hs' h0' hi' hc
        refine hN' s' i' hs' h0' hi' ?_
        have := (h.1 s' hs').2
        omega
      · intro s' i' hs' h0' hi' hc
        refine hN s' i' hs' h0' hi' ?_
        by_cases e : s' = s
        · subst e
          omega
        · exact Or.inl (by omega)
theorem ei_lcp_nil (w : List Nat) : ei_lcp w [] = 0 := by cases w <;> rfl
theorem ei_lcp_le : ∀ (w v : List Nat), ei_lcp w v ≤ w.length
  | [], _ => by simp [ei_lcp]
  | _ :: _, [] => by simp [ei_lcp]
  | a :: t, b :: u => by
    have := ei_lcp_le t u
    simp only [ei_lcp, List.length_cons]
    split <;> omega
theorem ei_w_common {post : Int32 → Prop} (h : ei_K T E a2 a3) (hN : ei_N T E 6 10 a6 a7) {r : Nat} (hr : r + 1 < E.length)
    (H : ∀ x y, E[r]? = some x → E[r + 1]? = some y → post (nI (ei_lcp x.1 y.1))) :
    wpX_commonAt post (fd, nI E.length, fp, fl, fh, a1, a2, a3, a4, a5, a6, a7) (nI r) := by
  have hE := ei_K_len h
  obtain ⟨s, i, hs, h0, hi, e, hx⟩ := ei_K_get h (r := r) (by omega)
  obtain ⟨t, j, ht, h0', hj, e', hy⟩ := ei_K_get h hr
  have hp := H _ _ hx hy
  try dsimp only at hp
  have h9 := (h.1 s hs).2
  have h9' := (h.1 t ht).2
  have n1 : a7 (nI r).toNatClampNeg = nI (16 * s + i) := by
    rw [nI_clamp (by omega), e]
    exact (hN s i hs h0 hi (Or.inl hs)).1
  have n2 : a7 (nI r + 1).toNatClampNeg = nI (16 * t + j) := by
    rw [nI_1, nI_clamp (by omega), e']
    exact (hN t j ht h0' hj (Or.inl ht)).1
  have v2 : vp_in (nI r + 1) 60 := by
    rw [nI_1]
    exact vp_in_nI (by omega) (by omega)
  refine ⟨pk_in r 60 (by omega), nm_r (e' := nI s) ?_ ⟨v2, nm_r (e' := nI t) ?_ ⟨pk_in r 60 (by omega), nm_r (e' := nI i) ?_ ⟨v2, nm_r (e' := nI j) ?_ ?_⟩⟩⟩⟩
  · rw [n1, pk_shrN (by omega) _ 4 (by decide), show (16 * s + i) / 2 ^ 4 = s by omega]
  · rw [n2, pk_shrN (by omega) _ 4 (by decide), show (16 * t + j) / 2 ^ 4 = t by omega]
  · rw [n1, pk_andN (by omega) 4 (by decide), show (16 * s + i) % 2 ^ 4 = i by omega]
  · rw [n2, pk_andN (by omega) 4 (by decide), show (16 * t + j) % 2 ^ 4 = j by omega]
  refine pk_loop (σ := Nat) (fun fu k m => wX_commonAt_50 post (nI s) (nI t) fd (nI E.length) fp fl fh a1 a2 a3 a4 a5 a6 a7 fu (nI (i + k)) (nI (j + k)) (nI m) (nI k))
    (fun k m => (m = k ∧ ei_lcp ((T s).drop i) ((T t).drop j) = k + ei_lcp ((T s).drop (i + k)) ((T t).drop (j + k))) ∨ (m < k ∧ ei_lcp ((T s).drop i) ((T t).drop j) = m)) 9 0 0 (by omega) (Or.inl ⟨rfl, by simp⟩) ?_ ?_
  · intro fu m hm
    have em : m = ei_lcp ((T s).drop i) ((T t).drop j) := by
      rcases hm with ⟨g1, g2⟩ | ⟨_, g2⟩
      · rw [g1, g2, List.drop_eq_nil_of_le (by omega)]
        rfl
      · exact g2.symm
    rw [em]
    exact pk_le 9 9 (fun _ => hp) (fun z => absurd z (by omega))
  · intro fu k m hk hm hw
    try dsimp only at hw ⊢
    have hm9 : m ≤ k := by omega
    have fin : ei_lcp ((T s).drop (i + k)) ((T t).drop (j + k)) = 0 → post (nI m) := by
      intro g
      have em : ei_lcp ((T s).drop i) ((T t).drop j) = m := by omega
      rw [← em]
      exact hp
    have ks : a3 (nI s).toNatClampNeg = nI (T s).length := by
      rw [nI_clamp (by omega)]
      exact (h.2.1 s hs).1
    have kt : a3 (nI t).toNatClampNeg = nI (T t).length := by
      rw [nI_clamp (by omega)]
      exact (h.2.1 t ht).1
    refine pk_le 9 k (fun z => absurd z (by omega)) (fun _ => ⟨pk_in s 6 hs, ?_⟩)
    rw [ks, kt]
    refine pk_le (T s).length (i + k) (fun z => fin (by rw [List.drop_eq_nil_of_le z]; rfl)) (fun z => ⟨pk_in t 6 ht, ?_⟩)
    refine pk_le (T t).length (j + k) (fun y => fin (by rw [List.drop_eq_nil_of_le y]; exact ei_lcp_nil _)) (fun y => ?_)
    refine pk_eq m k (fun em => ?_) (fun em => ?_)
    · subst em
      obtain ⟨c4, cd⟩ := ei_pr_lt h.1 hs z
      obtain ⟨d4, dd⟩ := ei_pr_lt h.1 ht y
      have l1 : nI s * 9 + nI (i + m) = nI (9 * s + (i + m + 1) - 1) := by
        rw [show (9 : Int32) = nI 9 from rfl, pk_mul, nI_add, show 9 * s + (i + m + 1) - 1 = s * 9 + (i + m) by omega]
      have l2 : nI t * 9 + nI (j + m) = nI (9 * t + (j + m + 1) - 1) := by
        rw [show (9 : Int32) = nI 9 from rfl, pk_mul, nI_add, show 9 * t + (j + m + 1) - 1 = t * 9 + (j + m) by omega]
      have r1 := (hN s (i + m + 1) hs h0 (by omega) (Or.inl hs)).2 (by omega)
      have r2 := (hN t (j + m + 1) ht h0' (by omega) (Or.inl ht)).2 (by omega)
      have tot : ei_lcp ((T s).drop i) ((T t).drop j) = m + ei_lcp ((T s).drop (i + m)) ((T t).drop (j + m)) := by
        rcases hm with g | g
        · exact g.2
        · omega
      rw [cd, dd] at tot
      rw [l1, l2, nI_clamp (by omega), nI_clamp (by omega), r1, r2]
      refine ⟨vp_in_nI (by omega) (by omega), vp_in_nI (by omega) (by omega), ?_⟩
      refine pk_eq (ei_pr (T s) s (i + m + 1)) (ei_pr (T t) t (j + m + 1)) (fun q => nm_r (nI_1 m) (nm_r (nI_1 _) (nm_r (nI_1 _) (nm_r (nI_1 m) (hw (m + 1) (Or.inl ⟨rfl, ?_⟩)))))) (fun q => nm_r (nI_1 _) (nm_r (nI_1 _) (nm_r (nI_1 m) (hw m (Or.inr ⟨by omega, ?_⟩)))))
      · rw [tot, ei_lcp, if_pos q]
        rw [show i + (m + 1) = i + m + 1 by omega, show j + (m + 1) = j + m + 1 by omega]
        omega
      · rw [tot, ei_lcp, if_neg q]
        omega
    · have : ei_lcp ((T s).drop i) ((T t).drop j) = m := by omega
      rw [← this]
      exact hp
end
end
section
/-- the words of a list of entries -/
def ei_wd (E : List ei_E) : List (List Nat) := E.map (fun x => x.1)
theorem ei_S_drop : ∀ {W : List (List Nat)} {r : Nat} {w v : List Nat}, W[r]? = some w → W[r + 1]? = some v → ei_S (W.drop r) = ei_lcp w v + ei_S (W.drop (r + 1))
  | [], r, w, v, h, _ => by simp at h
  | [a], 0, w, v, _, g => by simp at g
  | a :: b :: l, 0, w, v, h, g => by
    simp at h g
    subst h g
    rfl
  | a :: l, r + 1, w, v, h, g => by
    simp at h g
    rw [List.drop_succ_cons, List.drop_succ_cons]
    exact ei_S_drop h g
theorem ei_X_drop : ∀ {W : List (List Nat)} {r : Nat} {w v : List Nat}, W[r]? = some w → W[r + 1]? = some v → ei_X (W.drop r) = max (ei_lcp w v) (ei_X (W.drop (r + 1)))
  | [], r, w, v, h, _ => by simp at h
  | [a], 0, w, v, _, g => by simp at g
  | a :: b :: l, 0, w, v, h, g => by
    simp at h g
    subst h g
    rfl
  | a :: l, r + 1, w, v, h, g => by
    simp at h g
    rw [List.drop_succ_cons, List.drop_succ_cons]
    exact ei_X_drop h g
theorem ei_S_short {W : List (List Nat)} (h : W.length ≤ 1) : ei_S W = 0 := by
  match W, h with
  | [], _ => rfl
  | [_], _ => rfl
  | _ :: _ :: _, h => simp at h
theorem ei_X_short {W : List (List Nat)} (h : W.length ≤ 1) : ei_X W = 0 := by
  match W, h with
  | [], _ => rfl
  | [_], _ => rfl
  | _ :: _ :: _, h => simp at h
/-- the sum of n (n + 1) / 2 -/
def ei_sq (T : Nat → List Nat) : Nat → Nat
  | 0 => 0
  | s + 1 => ei_sq T s + (T s).length * ((T s).length + 1) / 2
theorem ei_wd_get {E : List ei_E} {r : Nat} {x : ei_E} (h : E[r]? = some x) : (ei_wd E)[r]? = some x.1 := by
  unfold ei_wd
  rw [List.getElem?_map, h]
  rfl
section
variable {fd fs fp fl fh : Int32} {a1 a2 a3 a4 a5 a6 a7 : Nat → Int32} {T : Nat → List Nat} {E : List ei_E}
theorem ei_w_dist42 {post : Int32 → St1 → Prop} (h : ei_K T E a2 a3) (hN : ei_N T E 6 10 a6 a7) {Q : Nat}
    (H : post (nI Q - nI (ei_S (ei_wd E))) (fd, nI E.length, fp, fl, fh, a1, a2, a3, a4, a5, a6, a7)) :
    ∃ fu, wX_distinct_42 post fd (nI E.length) fp fl fh a1 a2 a3 a4 a5 a6 a7 fu (nI Q) 0 := by
  have hE := ei_K_len h
  have hwl : (ei_wd E).length = E.length := by simp [ei_wd]
  refine pk_loop (σ := Int32) (fun fu r x => wX_distinct_42 post fd (nI E.length) fp fl fh a1 a2 a3 a4 a5 a6 a7 fu x (nI r)) (fun r x => x = nI Q - nI (ei_S (ei_wd E)) + nI (ei_S ((ei_wd E).drop r))) (E.length - 1) 0 (nI Q) (by omega) ?_ ?_ ?_
  · rw [List.drop_zero]
    grind
  · intro fu x hx
    try dsimp only
    have es : ei_S ((ei_wd E).drop (E.length - 1)) = 0 := ei_S_short (by rw [List.length_drop]; omega)
    have ex : x = nI Q - nI (ei_S (ei_wd E)) := by
      rw [hx, es, nI_0, Int32.add_zero]
    rw [ex]
    exact pk_le E.length (E.length - 1 + 1) (fun _ => H) (fun z => absurd z (by omega)) (hy := nI_1 _)
  · intro fu r x hr hx hw
    try dsimp only at hw ⊢
    refine pk_le E.length (r + 1) (fun z => absurd z (by omega)) (fun _ => ?_) (hy := nI_1 r)
    refine ei_w_common h hN (by omega) (fun y z hy hz => nm_e (nm_r (nI_1 r) (hw _ ?_)))
    rw [hx, ei_S_drop (ei_wd_get hy) (ei_wd_get hz), ← nI_add]
    grind
theorem ei_w_distinct {post : Int32 → St1 → Prop} (h : ei_K T E a2 a3)
    (H : ∀ b6 b7, post (nI (ei_sq T 6) - nI (ei_S (ei_wd E))) (fd, nI E.length, fp, fl, fh, a1, a2, a3, a4, a5, b6, b7)) :
    wpX_distinct post (fd, nI E.length, fp, fl, fh, a1, a2, a3, a4, a5, a6, a7) := by
  refine ei_w_unpack h (fun b6 b7 hN => ?_)
  refine pk_loop (σ := Unit) (fun fu s _ => wX_distinct_8 post fd (nI E.length) fp fl fh a1 a2 a3 a4 a5 b6 b7 fu (nI (ei_sq T s)) (nI s)) (fun _ _ => True) 6 0 () (by omega) trivial ?_ ?_
  · intro fu _ _
    exact pk_le 6 6 (fun _ => ei_w_dist42 h hN (H b6 b7)) (fun z => absurd z (by omega))
  · intro fu s _ hs _ hw
    have t := hw () trivial
    try dsimp only at t ⊢
    have h9 := (h.1 s hs).2
    have hq : (T s).length * ((T s).length + 1) ≤ 9 * 10 := Nat.mul_le_mul h9 (by omega)
    refine pk_le 6 s (fun z => absurd z (by omega)) (fun _ => ⟨pk_in s 6 hs, pk_in s 6 hs, by decide, nm_r ?_ (nm_r (nI_1 s) t)⟩)
    rw [nI_clamp (by omega), (h.2.1 s hs).1, nI_1, pk_mul, show (2 : Int32) = nI 2 from rfl, pk_div (by omega) (by omega) (by omega), nI_add]
    rfl
theorem ei_w_repeated {post : Int32 → St1 → Prop} (h : ei_K T E a2 a3)
    (H : ∀ b6 b7, post (nI (ei_X (ei_wd E))) (fd, nI E.length, fp, fl, fh, a1, a2, a3, a4, a5, b6, b7)) :
    wpX_repeated post (fd, nI E.length, fp, fl, fh, a1, a2, a3, a4, a5, a6, a7) := by
  have hE := ei_K_len h
  have hwl : (ei_wd E).length = E.length := by simp [ei_wd]
  refine ei_w_unpack h (fun b6 b7 hN => ?_)
  refine pk_loop (σ := Nat) (fun fu r b => wX_repeated_8 post fd (nI E.length) fp fl fh a1 a2 a3 a4 a5 b6 b7 fu (nI b) (nI r)) (fun r b => b ≤ 9 ∧ max b (ei_X ((ei_wd E).drop r)) = ei_X (ei_wd E)) (E.length - 1) 0 0 (by omega) ⟨by omega, by simp⟩ ?_ ?_
  · intro fu b hb
    try dsimp only
    have es : ei_X ((ei_wd E).drop (E.length - 1)) = 0 := ei_X_short (by rw [List.length_drop]; omega)
    have eb : b = ei_X (ei_wd E) := by
      rw [← hb.2, es]
      omega
    rw [eb]
    exact pk_le E.length (E.length - 1 + 1) (fun _ => H b6 b7) (fun z => absurd z (by omega)) (hy := nI_1 _)
  · intro fu r b hr hb hw
    try dsimp only at hw ⊢
    refine pk_le E.length (r + 1) (fun z => absurd z (by omega)) (fun _ => ?_) (hy := nI_1 r)
    refine ei_w_common h hN (by omega) (fun y z hy hz => ?_)
    have e := ei_X_drop (ei_wd_get hy) (ei_wd_get hz)
    have l := ei_lcp_le y.1 z.1
    have ly : y.1.length ≤ 9 := by
      obtain ⟨s, hs, h0, i, hi, ey⟩ := ei_full_mem.mp (h.2.2.2.2.mem_iff.mp (List.mem_of_getElem? hy))
      have := (h.1 s hs).2
      rw [ey, List.length_drop]
      omega
    refine pk_le (ei_lcp y.1 z.1) b (fun q => nm_r (nI_1 r) (hw b ⟨hb.1, ?_⟩)) (fun q => nm_r (nI_1 r) (hw _ ⟨by omega, ?_⟩))
    · rw [← hb.2, e]
      omega
    · rw [← hb.2, e]
      omega
end
end
section
/-- the turned texts -/
def ei_TC (T : Nat → List Nat) : Nat → List Nat := fun s => ei_cm (T s)
def ei_cE (x : ei_E) : ei_E := (ei_cm x.1, x.2.1, if x.2.2 < 4 then 3 - x.2.2 else x.2.2)
theorem ei_cm_len (w : List Nat) : (ei_cm w).length = w.length := by simp [ei_cm]
theorem ei_cm_lt {w : List Nat} : ∀ a, a ∈ ei_cm w → a < 4 := by
  intro a ha
  obtain ⟨b, _, rfl⟩ := List.mem_map.mp ha
  omega
theorem ei_tl_cm (s : Nat) : ∀ {w : List Nat}, (∀ a, a ∈ w → a < 4) → ei_tl s (ei_cm w) = (ei_tl s w).map ei_cE
  | [], _ => rfl
  | a :: t, h => by
    have ih := ei_tl_cm s (w := t) (fun b hb => h b (List.mem_cons_of_mem _ hb))
    have ha : a < 4 := h a (List.mem_cons_self ..)
    show (ei_cm t, s, 3 - a) :: ei_tl s (ei_cm t) = ei_cE (t, s, a) :: (ei_tl s t).map ei_cE
    rw [ih]
    simp [ei_cE, ha]
theorem ei_ent_cm (s : Nat) {w : List Nat} (h : ∀ a, a ∈ w → a < 4) : ei_ent s (ei_cm w) = (ei_ent s w).map ei_cE := by
  unfold ei_ent
  rw [ei_cm_len]
  by_cases e : w.length = 0
  · rw [if_pos e, if_pos e]
    rfl
  · rw [if_neg e, if_neg e, ei_tl_cm s h, List.map_cons]
    have : ¬ 4 + s < 4 := by omega
    simp [ei_cE, this]
theorem ei_full_cm {T : Nat → List Nat} : ∀ {n : Nat}, (∀ s, s < n → ∀ a, a ∈ T s → a < 4) → ei_full (ei_TC T) n = (ei_full T n).map ei_cE
  | 0, _ => rfl
  | n + 1, h => by
    simp only [ei_full, List.map_append]
    rw [ei_full_cm (fun s hs => h s (by omega)), show ei_TC T n = ei_cm (T n) from rfl, ei_ent_cm n (h n (by omega))]
theorem ei_TC_set (T : Nat → List Nat) (s : Nat) (w : List Nat) : ei_set (ei_TC T) s (ei_cm w) = ei_TC (ei_set T s w) := by
  funext k
  unfold ei_set ei_TC
  by_cases e : k = s
  · simp only [if_pos e]
  · simp only [if_neg e]
theorem ei_TC_4 {T : Nat → List Nat} (h : ei_T4 T) : ei_T4 (ei_TC T) := fun s hs => ⟨ei_cm_lt, by unfold ei_TC; rw [ei_cm_len]; exact (h s hs).2⟩
theorem ei_px_cm : ∀ {u w : List Nat}, (∀ a, a ∈ u → a < 4) → (∀ a, a ∈ w → a < 4) → ei_px (ei_cm u) (ei_cm w) = ei_px u w
  | [], _, _, _ => rfl
  | _ :: _, [], _, _ => rfl
  | c :: u, a :: t, hu, hw => by
    have ih := ei_px_cm (u := u) (w := t) (fun b hb => hu b (List.mem_cons_of_mem _ hb)) (fun b hb => hw b (List.mem_cons_of_mem _ hb))
    have hc : c < 4 := hu c (List.mem_cons_self ..)
    have ha : a < 4 := hw a (List.mem_cons_self ..)
    show (3 - c == 3 - a && ei_px (ei_cm u) (ei_cm t)) = (c == a && ei_px u t)
    rw [ih]
    by_cases e : c = a
    · subst e
      simp
    · have e1 : (3 - c == 3 - a) = false := by simp; omega
      have e2 : (c == a) = false := by simp [e]
      rw [e1, e2]
theorem ei_full_w4 {T : Nat → List Nat} (h : ei_T4 T) {x : ei_E} (hx : x ∈ ei_full T 6) : ∀ a, a ∈ x.1 → a < 4 := by
  obtain ⟨s, hs, h0, i, hi, rfl⟩ := ei_full_mem.mp hx
  intro a ha
  exact (h s hs).1 a (List.mem_of_mem_drop ha)
theorem ei_full_cm6 {T : Nat → List Nat} (h : ei_T4 T) : ei_full (ei_TC T) 6 = (ei_full T 6).map ei_cE := ei_full_cm (fun s hs => (h s hs).1)
theorem ei_cnt_cm {T : Nat → List Nat} (h : ei_T4 T) {u : List Nat} (hu : ∀ a, a ∈ u → a < 4) : (ei_full (ei_TC T) 6).countP (fun x => ei_px (ei_cm u) x.1) = (ei_full T 6).countP (fun x => ei_px u x.1) := by
  rw [ei_full_cm6 h, List.countP_map]
  apply ei_cong
  intro x hx
  exact ei_px_cm hu (ei_full_w4 h hx)
theorem ei_wd_cm {T : Nat → List Nat} (h : ei_T4 T) : ei_wd (ei_full (ei_TC T) 6) = (ei_wd (ei_full T 6)).map ei_cm := by
  rw [ei_full_cm6 h]
  unfold ei_wd
  rw [List.map_map, List.map_map]
  rfl
theorem ei_wd_4 {T : Nat → List Nat} (h : ei_T4 T) : ∀ w, w ∈ ei_wd (ei_full T 6) → ∀ a, a ∈ w → a < 4 := by
  intro w hw
  obtain ⟨x, hx, rfl⟩ := List.mem_map.mp hw
  exact ei_full_w4 h hx
theorem ei_sq_cm (T : Nat → List Nat) : ∀ n, ei_sq (ei_TC T) n = ei_sq T n
  | 0 => rfl
  | n + 1 => by
    simp only [ei_sq, ei_sq_cm T n]
    unfold ei_TC
    rw [ei_cm_len]
theorem ei_GG {T : Nat → List Nat} (h : ei_T4 T) : ei_G 9 (ei_wd (ei_full (ei_TC T) 6)) = ei_G 9 (ei_wd (ei_full T 6)) := by
  rw [ei_wd_cm h, ei_G_cm 9 (ei_wd_4 h)]
theorem ei_MM {T : Nat → List Nat} (h : ei_T4 T) : ei_M 9 (ei_wd (ei_full (ei_TC T) 6)) = ei_M 9 (ei_wd (ei_full T 6)) := by
  rw [ei_wd_cm h, ei_M_cm 9 (ei_wd_4 h)]
theorem ei_len_cm {T : Nat → List Nat} (h : ei_T4 T) : (ei_full (ei_TC T) 6).length = (ei_full T 6).length := by
  rw [ei_full_cm6 h, List.length_map]
/-- an object that holds the texts T and the draft D -/
def ei_O (T : Nat → List Nat) (D : List Nat) (u : St1) : Prop :=
  ∃ E, u.1 = nI D.length ∧ u.2.1 = nI E.length ∧ D.length ≤ 9 ∧ (∀ a, a ∈ D → a < 4) ∧ ei_pl D u.2.2.2.2.2.1 ∧ ei_K T E u.2.2.2.2.2.2.1 u.2.2.2.2.2.2.2.1
section
variable {u : St1} {T : Nat → List Nat} {D : List Nat}
theorem ei_O_4 (h : ei_O T D u) : ei_T4 T := by
  obtain ⟨E, _, _, _, _, _, hK⟩ := h
  exact hK.1
theorem ei_K_S {E : List ei_E} {a2 a3 : Nat → Int32} (h : ei_K T E a2 a3) : ei_S (ei_wd E) = ei_G 9 (ei_wd (ei_full T 6)) := by
  have hp : (ei_wd E).Perm (ei_wd (ei_full T 6)) := h.2.2.2.2.map _
  rw [← ei_G_perm 9 hp]
  refine ei_S_G 9 ?_ ?_ ?_
  · unfold ei_wd
    rw [List.pairwise_map]
    exact h.2.2.2.1.imp (fun g => ei_lt_le g)
  · intro w hw
    exact ei_wd_4 h.1 w (hp.mem_iff.mp hw)
  · intro w hw
    obtain ⟨x, hx, rfl⟩ := List.mem_map.mp (hp.mem_iff.mp hw)
    obtain ⟨s, hs, h0, i, hi, rfl⟩ := ei_full_mem.mp hx
    have := (h.1 s hs).2
    rw [List.length_drop]
    omega
theorem ei_K_X {E : List ei_E} {a2 a3 : Nat → Int32} (h : ei_K T E a2 a3) : ei_X (ei_wd E) = ei_M 9 (ei_wd (ei_full T 6)) := by
  have hp : (ei_wd E).Perm (ei_wd (ei_full T 6)) := h.2.2.2.2.map _
  rw [← ei_M_perm 9 hp]
  refine ei_X_M 9 ?_ ?_ ?_
  · unfold ei_wd
    rw [List.pairwise_map]
    exact h.2.2.2.1.imp (fun g => ei_lt_le g)
  · intro w hw
    exact ei_wd_4 h.1 w (hp.mem_iff.mp hw)
  · intro w hw
    obtain ⟨x, hx, rfl⟩ := List.mem_map.mp (hp.mem_iff.mp hw)
    obtain ⟨s, hs, h0, i, hi, rfl⟩ := ei_full_mem.mp hx
    have := (h.1 s hs).2
    rw [List.length_drop]
    omega
theorem ei_o_endings {post : Int32 → Prop} (h : ei_O T D u) (H : post (nI (ei_full T 6).length)) : wpX_endings post u := by
  obtain ⟨fd, fs, fp, fl, fh, a1, a2, a3, a4, a5, a6, a7⟩ := u
  obtain ⟨E, e1, e2, hD, hD4, hd, hK⟩ := h
  try dsimp only at e1 e2 hd hK
  subst e1 e2
  rw [← hK.2.2.2.2.length_eq] at H
  exact H
theorem ei_o_distinct {post : Int32 → St1 → Prop} (h : ei_O T D u) (H : ∀ u', ei_O T D u' → post (nI (ei_sq T 6) - nI (ei_G 9 (ei_wd (ei_full T 6)))) u') : wpX_distinct post u := by
  obtain ⟨fd, fs, fp, fl, fh, a1, a2, a3, a4, a5, a6, a7⟩ := u
  obtain ⟨E, e1, e2, hD, hD4, hd, hK⟩ := h
  try dsimp only at e1 e2 hd hK
  subst e1 e2
  rw [← ei_K_S hK] at H
  exact ei_w_distinct hK (fun b6 b7 => H _ ⟨E, rfl, rfl, hD, hD4, hd, hK⟩)
theorem ei_o_repeated {post : Int32 → St1 → Prop} (h : ei_O T D u) (H : ∀ u', ei_O T D u' → post (nI (ei_M 9 (ei_wd (ei_full T 6)))) u') : wpX_repeated post u := by
  obtain ⟨fd, fs, fp, fl, fh, a1, a2, a3, a4, a5, a6, a7⟩ := u
  obtain ⟨E, e1, e2, hD, hD4, hd, hK⟩ := h
  try dsimp only at e1 e2 hd hK
  subst e1 e2
  rw [← ei_K_X hK] at H
  exact ei_w_repeated hK (fun b6 b7 => H _ ⟨E, rfl, rfl, hD, hD4, hd, hK⟩)
theorem ei_o_count {post : Int32 → St1 → Prop} (h : ei_O T D u) {l : List Nat} (h4 : ∀ a, a ∈ l → a < 4) (h6 : l.length ≤ 6) (H : ∀ u', ei_O T D u' → post (nI ((ei_full T 6).countP (fun x => ei_px l.reverse x.1))) u') : wpX_count post u (nI (ei_er l)) := by
  obtain ⟨fd, fs, fp, fl, fh, a1, a2, a3, a4, a5, a6, a7⟩ := u
  obtain ⟨E, e1, e2, hD, hD4, hd, hK⟩ := h
  try dsimp only at e1 e2 hd hK
  subst e1 e2
  rw [← hK.2.2.2.2.countP_eq] at H
  exact ei_w_count hK h4 h6 (fun fp fl fh a4 => H _ ⟨E, rfl, rfl, hD, hD4, hd, hK⟩)
theorem ei_o_before {post : Int32 → St1 → Prop} (h : ei_O T D u) {l : List Nat} (h4 : ∀ a, a ∈ l → a < 4) (h6 : l.length ≤ 6) (H : ∀ m u', (∀ j, m.testBit j = true ↔ ∃ x, x ∈ ei_full T 6 ∧ ei_px l.reverse x.1 = true ∧ (x.2.2 < 4 ∧ x.2.2 = j)) → ei_O T D u' → post (nI m) u') : wpX_before post u (nI (ei_er l)) := by
  obtain ⟨fd, fs, fp, fl, fh, a1, a2, a3, a4, a5, a6, a7⟩ := u
  obtain ⟨E, e1, e2, hD, hD4, hd, hK⟩ := h
  try dsimp only at e1 e2 hd hK
  subst e1 e2
  refine ei_w_before hK h4 h6 (fun m hm fp fl fh a4 => H m _ (fun j => ?_) ⟨E, rfl, rfl, hD, hD4, hd, hK⟩)
  rw [hm j]
  simp only [hK.2.2.2.2.mem_iff]
theorem ei_o_slots {post : Int32 → St1 → Prop} (h : ei_O T D u) {l : List Nat} (h4 : ∀ a, a ∈ l → a < 4) (h6 : l.length ≤ 6) (H : ∀ m u', (∀ j, m.testBit j = true ↔ ∃ x, x ∈ ei_full T 6 ∧ ei_px l.reverse x.1 = true ∧ x.2.1 = j) → ei_O T D u' → post (nI m) u') : wpX_slots post u (nI (ei_er l)) := by
  obtain ⟨fd, fs, fp, fl, fh, a1, a2, a3, a4, a5, a6, a7⟩ := u
  obtain ⟨E, e1, e2, hD, hD4, hd, hK⟩ := h
  try dsimp only at e1 e2 hd hK
  subst e1 e2
  refine ei_w_slotsOf hK h4 h6 (fun m hm fp fl fh a4 => H m _ (fun j => ?_) ⟨E, rfl, rfl, hD, hD4, hd, hK⟩)
  rw [hm j]
  simp only [hK.2.2.2.2.mem_iff]
theorem ei_o_after {post : Int32 → St1 → Prop} (h : ei_O T D u) {l : List Nat} (h4 : ∀ a, a ∈ l → a < 4) (h6 : l.length ≤ 6) (H : ∀ m u', (∀ j, m.testBit j = true ↔ j < 4 ∧ ∃ x, x ∈ ei_full T 6 ∧ ei_px (l.reverse ++ [j]) x.1 = true) → ei_O T D u' → post (nI m) u') : wpX_after post u (nI (ei_er l)) := by
  obtain ⟨fd, fs, fp, fl, fh, a1, a2, a3, a4, a5, a6, a7⟩ := u
  obtain ⟨E, e1, e2, hD, hD4, hd, hK⟩ := h
  try dsimp only at e1 e2 hd hK
  subst e1 e2
  refine ei_w_after hK h4 h6 (fun m hm fp fl fh a4 => H m _ (fun j => ?_) ⟨E, rfl, rfl, hD, hD4, hd, hK⟩)
  rw [hm j]
  simp only [hK.2.2.2.2.mem_iff]
theorem ei_o_length {post : Int32 → Prop} (h : ei_O T D u) {p : Int32} (H1 : (p < 0 ∨ nI 6 ≤ p) → post (-1)) (H0 : ∀ s, s < 6 → p = nI s → post (nI (T s).length)) : wpX_length post u p := by
  obtain ⟨fd, fs, fp, fl, fh, a1, a2, a3, a4, a5, a6, a7⟩ := u
  obtain ⟨E, e1, e2, hD, hD4, hd, hK⟩ := h
  try dsimp only at e1 e2 hd hK
  exact ei_w_length hK.2.1 H1 H0
theorem ei_o_rank {post : Int32 → Prop} (h : ei_O T D u) {m : Nat} (hm : m < 96) (H1 : ei_vd T m = false → post (-4)) (H0 : ei_vd T m = true → ∀ r, r < 60 → post (nI r)) : wpX_rank post u (nI m) := by
  obtain ⟨fd, fs, fp, fl, fh, a1, a2, a3, a4, a5, a6, a7⟩ := u
  obtain ⟨E, e1, e2, hD, hD4, hd, hK⟩ := h
  try dsimp only at e1 e2 hd hK
  subst e1 e2
  exact ei_w_rank hK hm H1 H0
theorem ei_o_draft {post : Int32 → St1 → Prop} (h : ei_O T D u) {x : Int32} (H1 : (x < 0 ∨ nI 4 ≤ x) → post (-1) u) (H2 : ∀ d, d < 4 → x = nI d → D.length = 9 → post (-2) u)
    (H3 : ∀ d, d < 4 → x = nI d → D.length ≠ 9 → ∀ u', ei_O T (D ++ [d]) u' → post (nI (D.length + 1)) u') : wpX_draft post u x := by
  obtain ⟨fd, fs, fp, fl, fh, a1, a2, a3, a4, a5, a6, a7⟩ := u
  obtain ⟨E, e1, e2, hD, hD4, hd, hK⟩ := h
  try dsimp only at e1 e2 hd hK
  subst e1 e2
  refine br_c (fun z => H1 (Or.inl z)) (fun z => br_c (fun y => ?_) (fun y => H1 (Or.inr (Int32.not_lt.mp y))))
  rcases pk_ix x (n := 4) (by omega) with g | g | ⟨d, hd4, e⟩
  · exact absurd g z
  · exact absurd y (Int32.not_lt.mpr g)
  · subst e
    refine pk_eq D.length 9 (fun q => H2 d hd4 rfl q) (fun q => ⟨pk_in D.length 9 (by omega), nm_r (e' := upd a1 D.length (nI d)) (by rw [nI_clamp (by omega)]) (nm_r (nI_1 _) (H3 d hd4 rfl q _ ⟨E, ?_, rfl, ?_, ?_, ?_, hK⟩))⟩)
    · simp
    · simp
      omega
    · intro a ha
      rcases List.mem_append.mp ha with g | g
      · exact hD4 a g
      · simp at g
        omega
    · intro j c hj
      try dsimp only
      rw [List.getElem?_append] at hj
      split at hj
      · rename_i hlt
        rw [pk_un (by omega)]
        exact hd j c hj
      · rename_i hge
        have hj0 : j = D.length := by
          rcases Nat.lt_or_ge j (D.length + 1) with g | g
          · omega
          · rw [List.getElem?_eq_none (by simp; omega)] at hj
            exact absurd hj (by simp)
        subst hj0
        rw [pk_us]
        simp at hj
        rw [hj]
theorem ei_o_scrap {post : St1 → Prop} (h : ei_O T D u) (H : ∀ u', ei_O T [] u' → post u') : wpX_scrap post u := by
  obtain ⟨fd, fs, fp, fl, fh, a1, a2, a3, a4, a5, a6, a7⟩ := u
  obtain ⟨E, e1, e2, hD, hD4, hd, hK⟩ := h
  try dsimp only at e1 e2 hd hK
  exact H _ ⟨E, rfl, e2, by simp, by simp, by intro j d hj; simp at hj, hK⟩
theorem ei_o_add {post : Int32 → St1 → Prop} {p : Int32} (h : ei_O T D u) (H1 : (p < 0 ∨ nI 6 ≤ p) → post (-1) u)
    (H2 : ∀ s, s < 6 → p = nI s → (T s).length ≠ 0 → post (-2) u)
    (H3 : ∀ s, s < 6 → p = nI s → (T s).length = 0 → D.length = 0 → post (-4) u)
    (H4 : ∀ s, s < 6 → p = nI s → (T s).length = 0 → D.length ≠ 0 → ∀ u', ei_O (ei_set T s D) [] u' → post (nI (ei_full (ei_set T s D) 6).length) u') : wpX_add post u p := by
  obtain ⟨fd, fs, fp, fl, fh, a1, a2, a3, a4, a5, a6, a7⟩ := u
  obtain ⟨E, e1, e2, hD, hD4, hd, hK⟩ := h
  try dsimp only at e1 e2 hd hK
  subst e1 e2
  refine ei_w_add hK hD hD4 hd H1 H2 H3 (fun s hs e h0 hD0 E' b2 b3 hK' => ?_)
  rw [hK'.2.2.2.2.length_eq]
  refine H4 s hs e h0 hD0 _ ⟨E', rfl, ?_, by simp, by simp, by intro j d hj; simp at hj, hK'⟩
  try dsimp only
  rw [hK'.2.2.2.2.length_eq]
theorem ei_o_remove {post : Int32 → St1 → Prop} {p : Int32} (h : ei_O T D u) (H1 : (p < 0 ∨ nI 6 ≤ p) → post (-1) u)
    (H2 : ∀ s, s < 6 → p = nI s → (T s).length = 0 → post (-4) u)
    (H3 : ∀ s, s < 6 → p = nI s → (T s).length ≠ 0 → ∀ u', ei_O (ei_set T s []) D u' → post (nI (ei_full (ei_set T s []) 6).length) u') : wpX_remove post u p := by
  obtain ⟨fd, fs, fp, fl, fh, a1, a2, a3, a4, a5, a6, a7⟩ := u
  obtain ⟨E, e1, e2, hD, hD4, hd, hK⟩ := h
  try dsimp only at e1 e2 hd hK
  subst e1 e2
  refine ei_w_remove hK H1 H2 (fun s hs e h0 E' b2 b3 b5 hK' => ?_)
  rw [hK'.2.2.2.2.length_eq]
  refine H3 s hs e h0 _ ⟨E', rfl, ?_, hD, hD4, hd, hK'⟩
  try dsimp only
  rw [hK'.2.2.2.2.length_eq]
end
end
section
section
variable {u v : St1} {T : Nat → List Nat} {D : List Nat}
theorem ei_t_draft {post : Int32 → St1 → Prop} {o : Nat} {x : Int32} (ho : o < 10) (H : wpX_draft post u x) : wpL_turn post u (nI o) x := by
  obtain ⟨fd, fs, fp, fl, fh, a1, a2, a3, a4, a5, a6, a7⟩ := u
  refine nm_r (e' := nI o) (by rw [pk_andN (by omega) 4 (by decide), show o % 2 ^ 4 = o by omega]) ?_
  exact br_f (nI_ge (b := 10) ho (by decide)) H
theorem ei_t_add {post : Int32 → St1 → Prop} {o : Nat} {x : Int32} (ho : 10 ≤ o) (ho' : o < 13) (H : wpX_add post u x) : wpL_turn post u (nI o) x := by
  obtain ⟨fd, fs, fp, fl, fh, a1, a2, a3, a4, a5, a6, a7⟩ := u
  refine nm_r (e' := nI o) (by rw [pk_andN (by omega) 4 (by decide), show o % 2 ^ 4 = o by omega]) ?_
  exact br_t (nI_le (a := 10) ho (by omega)) (br_f (nI_ge (b := 13) ho' (by decide)) H)
theorem ei_t_remove {post : Int32 → St1 → Prop} {o : Nat} {x : Int32} (ho : 13 ≤ o) (ho' : o < 15) (H : wpX_remove post u x) : wpL_turn post u (nI o) x := by
  obtain ⟨fd, fs, fp, fl, fh, a1, a2, a3, a4, a5, a6, a7⟩ := u
  refine nm_r (e' := nI o) (by rw [pk_andN (by omega) 4 (by decide), show o % 2 ^ 4 = o by omega]) ?_
  exact br_t (nI_le (a := 10) (by omega) (by omega)) (br_t (nI_le (a := 13) ho (by omega)) (br_f (nI_ge (b := 15) ho' (by decide)) H))
theorem ei_t_scrap {post : Int32 → St1 → Prop} {x : Int32} (H1 : x ≤ 11 → post 0 u) (H2 : ¬ x ≤ 11 → wpX_scrap (post 0) u) : wpL_turn post u (nI 15) x := by
  obtain ⟨fd, fs, fp, fl, fh, a1, a2, a3, a4, a5, a6, a7⟩ := u
  refine nm_r (e' := nI 15) (by decide) ?_
  exact br_t (by decide) (br_t (by decide) (br_t (by decide) (br_c H1 H2)))
theorem ei_rng6 {p : Int32} {s : Nat} (hs : s < 6) (e : p = nI s) (z : p < 0 ∨ nI 6 ≤ p) : False := by
  subst e
  rcases z with z | z
  · exact nI_pos (by omega) z
  · exact nI_ge hs (by decide) z
theorem ei_rng4 {p : Int32} {s : Nat} (hs : s < 4) (e : p = nI s) (z : p < 0 ∨ nI 4 ≤ p) : False := by
  subst e
  rcases z with z | z
  · exact nI_pos (by omega) z
  · exact nI_ge hs (by decide) z
theorem ei_same {p : Int32} {s s' : Nat} (hs : s < 6) (hs' : s' < 6) (e : p = nI s) (e' : p = nI s') : s = s' := (nI_eq (by omega) (by omega)).mp (e.symm.trans e')
theorem ei_TC_len (T : Nat → List Nat) (s : Nat) : (ei_TC T s).length = (T s).length := ei_cm_len _
theorem ei_2draft {post : Int32 → St1 → Prop} {x y : Int32} (hu : ei_O T D u) (hv : ei_O (ei_TC T) (ei_cm D) v) (hxy : ((x < 0 ∨ nI 4 ≤ x) ∧ y = x) ∨ (∃ d, d < 4 ∧ x = nI d ∧ y = nI (3 - d)))
    (H : ∀ r T' D' u', ei_O T' D' u' → (∀ ψ : Int32 → St1 → Prop, (∀ v', ei_O (ei_TC T') (ei_cm D') v' → ψ r v') → wpX_draft ψ v y) → post r u') : wpX_draft post u x := by
  rcases hxy with ⟨z, e⟩ | ⟨d, hd, ex, ey⟩
  · subst e
    refine ei_o_draft hu (fun _ => H _ T D u hu (fun ψ hψ => ?_)) (fun d hd e => absurd z (fun z => ei_rng4 hd e z)) (fun d hd e => absurd z (fun z => ei_rng4 hd e z))
    exact ei_o_draft hv (fun _ => hψ _ hv) (fun d hd e => absurd z (fun z => ei_rng4 hd e z)) (fun d hd e => absurd z (fun z => ei_rng4 hd e z))
  · subst ex ey
    refine ei_o_draft hu (fun z => absurd z (fun z => ei_rng4 hd rfl z)) (fun d' hd' e h9 => ?_) (fun d' hd' e h9 u' hu' => ?_)
    · refine H _ T D u hu (fun ψ hψ => ?_)
      refine ei_o_draft hv (fun z => absurd z (fun z => ei_rng4 (show 3 - d < 4 by omega) rfl z)) (fun _ _ _ _ => hψ _ hv) (fun _ _ _ h9' => absurd h9 (by rw [ei_cm_len] at h9'; exact h9'))
    · have ed : d = d' := (nI_eq (by omega) (by omega)).mp e
      subst ed
      refine H _ T (D ++ [d]) u' hu' (fun ψ hψ => ?_)
      refine ei_o_draft hv (fun z => absurd z (fun z => ei_rng4 (show 3 - d < 4 by omega) rfl z)) (fun _ _ _ h9' => absurd (by rw [ei_cm_len] at h9'; exact h9') h9) (fun d2 hd2 e2 _ v' hv' => ?_)
      have ed2 : 3 - d = d2 := (nI_eq (by omega) (by omega)).mp e2
      subst ed2
      rw [ei_cm_len]
      refine hψ v' ?_
      have : ei_cm (D ++ [d]) = ei_cm D ++ [3 - d] := by simp [ei_cm]
      rw [this]
      exact hv'
theorem ei_2add {post : Int32 → St1 → Prop} {p : Int32} (hu : ei_O T D u) (hv : ei_O (ei_TC T) (ei_cm D) v)
    (H : ∀ r T' D' u', ei_O T' D' u' → (∀ ψ : Int32 → St1 → Prop, (∀ v', ei_O (ei_TC T') (ei_cm D') v' → ψ r v') → wpX_add ψ v p) → post r u') : wpX_add post u p := by
  refine ei_o_add hu (fun z => ?_) (fun s hs e h0 => ?_) (fun s hs e h0 hD0 => ?_) (fun s hs e h0 hD0 u' hu' => ?_)
  · refine H _ T D u hu (fun ψ hψ => ?_)
    exact ei_o_add hv (fun _ => hψ _ hv) (fun s hs e => absurd z (ei_rng6 hs e)) (fun s hs e => absurd z (ei_rng6 hs e)) (fun s hs e => absurd z (ei_rng6 hs e))
  · refine H _ T D u hu (fun ψ hψ => ?_)
    refine ei_o_add hv (fun z => absurd z (ei_rng6 hs e)) (fun _ _ _ _ => hψ _ hv) (fun s' hs' e' h0' => ?_) (fun s' hs' e' h0' => ?_)
    · have := ei_same hs hs' e e'
      subst this
      rw [ei_TC_len] at h0'
      exact absurd h0' h0
    · have := ei_same hs hs' e e'
      subst this
      rw [ei_TC_len] at h0'
      exact absurd h0' h0
  · refine H _ T D u hu (fun ψ hψ => ?_)
    refine ei_o_add hv (fun z => absurd z (ei_rng6 hs e)) (fun s' hs' e' h0' => ?_) (fun _ _ _ _ _ => hψ _ hv) (fun s' hs' e' h0' hD' => ?_)
    · have := ei_same hs hs' e e'
      subst this
      rw [ei_TC_len] at h0'
      exact absurd h0 h0'
    · rw [ei_cm_len] at hD'
      exact absurd hD0 hD'
  · refine H _ (ei_set T s D) [] u' hu' (fun ψ hψ => ?_)
    refine ei_o_add hv (fun z => absurd z (ei_rng6 hs e)) (fun s' hs' e' h0' => ?_) (fun s' hs' e' h0' hD' => ?_) (fun s' hs' e' _ _ v' hv' => ?_)
    · have := ei_same hs hs' e e'
      subst this
      rw [ei_TC_len] at h0'
      exact absurd h0 h0'
    · rw [ei_cm_len] at hD'
      exact absurd hD' hD0
    · have := ei_same hs hs' e e'
      subst this
      rw [ei_TC_set] at hv' ⊢
      rw [ei_len_cm (ei_O_4 hu')]
      exact hψ v' hv'
theorem ei_2remove {post : Int32 → St1 → Prop} {p : Int32} (hu : ei_O T D u) (hv : ei_O (ei_TC T) (ei_cm D) v)
    (H : ∀ r T' D' u', ei_O T' D' u' → (∀ ψ : Int32 → St1 → Prop, (∀ v', ei_O (ei_TC T') (ei_cm D') v' → ψ r v') → wpX_remove ψ v p) → post r u') : wpX_remove post u p := by
  refine ei_o_remove hu (fun z => ?_) (fun s hs e h0 => ?_) (fun s hs e h0 u' hu' => ?_)
  · refine H _ T D u hu (fun ψ hψ => ?_)
    exact ei_o_remove hv (fun _ => hψ _ hv) (fun s hs e => absurd z (ei_rng6 hs e)) (fun s hs e => absurd z (ei_rng6 hs e))
  · refine H _ T D u hu (fun ψ hψ => ?_)
    refine ei_o_remove hv (fun z => absurd z (ei_rng6 hs e)) (fun _ _ _ _ => hψ _ hv) (fun s' hs' e' h0' => ?_)
    have := ei_same hs hs' e e'
    subst this
    rw [ei_TC_len] at h0'
    exact absurd h0 h0'
  · refine H _ (ei_set T s []) D u' hu' (fun ψ hψ => ?_)
    refine ei_o_remove hv (fun z => absurd z (ei_rng6 hs e)) (fun s' hs' e' h0' => ?_) (fun s' hs' e' _ v' hv' => ?_)
    · have := ei_same hs hs' e e'
      subst this
      rw [ei_TC_len] at h0'
      exact absurd h0' h0
    · have := ei_same hs hs' e e'
      subst this
      have e2 : ei_set (ei_TC T) s [] = ei_TC (ei_set T s []) := ei_TC_set T s []
      rw [e2] at hv' ⊢
      rw [ei_len_cm (ei_O_4 hu')]
      exact hψ v' hv'
theorem ei_2turn {post : Int32 → St1 → Prop} {o : Nat} {x y : Int32} (ho : o < 16) (hu : ei_O T D u) (hv : ei_O (ei_TC T) (ei_cm D) v)
    (hxy : (o < 10 → ((x < 0 ∨ nI 4 ≤ x) ∧ y = x) ∨ (∃ d, d < 4 ∧ x = nI d ∧ y = nI (3 - d)))) (hy : 10 ≤ o → y = x)
    (H : ∀ r T' D' u', ei_O T' D' u' → (∀ ψ : Int32 → St1 → Prop, (∀ v', ei_O (ei_TC T') (ei_cm D') v' → ψ r v') → wpL_turn ψ v (nI o) y) → post r u') : wpL_turn post u (nI o) x := by
  by_cases h1 : o < 10
  · refine ei_t_draft h1 (ei_2draft hu hv (hxy h1) (fun r T' D' u' hu' hψ => H r T' D' u' hu' (fun ψ g => ei_t_draft h1 (hψ ψ g))))
  · have e := hy (by omega)
    subst e
    by_cases h2 : o < 13
    · exact ei_t_add (by omega) h2 (ei_2add hu hv (fun r T' D' u' hu' hψ => H r T' D' u' hu' (fun ψ g => ei_t_add (by omega) h2 (hψ ψ g))))
    · by_cases h3 : o < 15
      · exact ei_t_remove (by omega) h3 (ei_2remove hu hv (fun r T' D' u' hu' hψ => H r T' D' u' hu' (fun ψ g => ei_t_remove (by omega) h3 (hψ ψ g))))
      · have h4 : o = 15 := by omega
        subst h4
        refine ei_t_scrap (fun z => H 0 T D u hu (fun ψ g => ei_t_scrap (fun _ => g v hv) (fun z' => absurd z z'))) (fun z => ei_o_scrap hu (fun u' hu' => H 0 T [] u' hu' (fun ψ g => ei_t_scrap (fun z' => absurd z' z) (fun _ => ei_o_scrap hv (fun v' hv' => g v' hv')))))
end
end
section
theorem ei_w_pattern {post : Int32 → Prop} {x : Int32} (H : ∀ l : List Nat, (∀ a, a ∈ l → a < 4) → l.length ≤ 6 → post (nI (ei_er l))) : wpL_pattern post () x := by
  obtain ⟨j, hj, ej⟩ := pk_andE x (m := 7) 3 (by decide)
  refine ⟨by decide, nm_r (e' := nI (j % 7)) ?_ ?_⟩
  · rw [ej]
    exact pk_rem (d := 7) (by omega) (by decide) (by decide)
  · refine pk_loop (σ := List Nat) (fun n i l => wL_pattern_12 post x (nI (j % 7)) n (nI (ei_er l)) (nI i)) (fun i l => (∀ a, a ∈ l → a < 4) ∧ l.length ≤ i) 6 0 [] (by omega) ⟨by simp, by simp⟩ ?_ ?_
    · intro n l hl
      exact pk_le 6 6 (fun _ => H l hl.1 hl.2) (fun z => absurd z (by omega))
    · intro n i l hi hl hw
      try dsimp only at hw ⊢
      refine pk_le 6 i (fun z => absurd z (by omega)) (fun _ => pk_le (j % 7) i (fun _ => nm_r (nI_1 i) (hw l ⟨hl.1, by omega⟩)) (fun _ => ?_))
      obtain ⟨d, hd, ed⟩ := pk_andE (x >>> ((3 + (2 * nI i)) &&& 31)) (m := 3) 2 (by decide)
      refine nm_r (e' := nI (ei_er (d :: l))) ?_ (nm_r (nI_1 i) (hw (d :: l) ⟨?_, by simp; omega⟩))
      · rw [ed, show (4 : Int32) = nI 4 from rfl, pk_mul, nI_add]
        rfl
      · intro a ha
        rcases List.mem_cons.mp ha with rfl | ha
        · exact hd
        · exact hl.1 a ha
theorem ei_er_cm : ∀ {l : List Nat}, (∀ a, a ∈ l → a < 4) → ei_er l + ei_er (ei_cm l) + 1 = 3 * 4 ^ l.length
  | [], _ => rfl
  | d :: l, h => by
    have ih := ei_er_cm (l := l) (fun a ha => h a (List.mem_cons_of_mem _ ha))
    have hd : d < 4 := h d (List.mem_cons_self ..)
    show (4 * ei_er l + d) + (4 * ei_er (ei_cm l) + (3 - d)) + 1 = 3 * 4 ^ (l.length + 1)
    rw [Nat.pow_succ]
    omega
theorem ei_q {l : List Nat} (h : ∀ a, a ∈ l → a < 4) (h6 : l.length ≤ 6) : ((3 * nI (4 ^ l.length)) - 1) - nI (ei_er l) = nI (ei_er (ei_cm l)) := by
  have e := ei_er_cm h
  rw [show (3 : Int32) = nI 3 from rfl, pk_mul, show (1 : Int32) = nI 1 from rfl, pk_sub (by omega), pk_sub (by omega)]
  congr 1
  omega
theorem ei_turn16 : ∀ m, m < 16 → ∀ m', m' < 16 → (∀ j, j < 4 → m'.testBit j = m.testBit (3 - j)) →
    (((((nI m) &&& 1) <<< ((3 : Int32) &&& 31)) ||| (((nI m) &&& 2) <<< ((1 : Int32) &&& 31))) ||| (((nI m) &&& 4) >>> ((1 : Int32) &&& 31))) ||| (((nI m) &&& 8) >>> ((3 : Int32) &&& 31)) = nI m' := by decide +kernel
theorem ei_w_turned {post : Int32 → Prop} {m m' : Nat} (hm : m < 16) (hm' : m' < 16) (h : ∀ j, j < 4 → m'.testBit j = m.testBit (3 - j)) (H : post (nI m')) : wpL_turned post () (nI m) := by
  show post _
  rw [ei_turn16 m hm m' hm' h]
  exact H
theorem ei_16 {m : Nat} (h : ∀ j, m.testBit j = true → j < 4) : m < 16 := by
  refine Nat.lt_pow_two_of_testBit (n := 4) m (fun i hi => ?_)
  cases e : m.testBit i with
  | false => rfl
  | true =>
    have := h i e
    omega
/-- what holds of some entry of the turned texts -/
theorem ei_ex_cm {T : Nat → List Nat} (h : ei_T4 T) {w : List Nat} (hw : ∀ a, a ∈ w → a < 4) {q q' : ei_E → Prop} (hq : ∀ x, x ∈ ei_full T 6 → (q' (ei_cE x) ↔ q x)) :
    (∃ x, x ∈ ei_full (ei_TC T) 6 ∧ ei_px (ei_cm w) x.1 = true ∧ q' x) ↔ ∃ x, x ∈ ei_full T 6 ∧ ei_px w x.1 = true ∧ q x := by
  rw [ei_full_cm6 h]
  constructor
  · rintro ⟨y, hy, h1, h2⟩
    obtain ⟨x, hx, rfl⟩ := List.mem_map.mp hy
    exact ⟨x, hx, by rw [← ei_px_cm hw (ei_full_w4 h hx)]; exact h1, (hq x hx).mp h2⟩
  · rintro ⟨x, hx, h1, h2⟩
    exact ⟨ei_cE x, List.mem_map.mpr ⟨x, hx, rfl⟩, by rw [← ei_px_cm hw (ei_full_w4 h hx)] at h1; exact h1, (hq x hx).mpr h2⟩
theorem ei_cm_rev (l : List Nat) : (ei_cm l).reverse = ei_cm l.reverse := by
  unfold ei_cm
  rw [List.map_reverse]
theorem ei_slots_cm {T : Nat → List Nat} (h : ei_T4 T) {l : List Nat} (hl : ∀ a, a ∈ l → a < 4) {m m' : Nat}
    (hm : ∀ j, m.testBit j = true ↔ ∃ x, x ∈ ei_full T 6 ∧ ei_px l.reverse x.1 = true ∧ x.2.1 = j)
    (hm' : ∀ j, m'.testBit j = true ↔ ∃ x, x ∈ ei_full (ei_TC T) 6 ∧ ei_px (ei_cm l).reverse x.1 = true ∧ x.2.1 = j) : m' = m := by
  apply Nat.eq_of_testBit_eq
  intro j
  rw [Bool.eq_iff_iff, hm j, hm' j, ei_cm_rev]
  exact ei_ex_cm (w := l.reverse) h (fun a ha => hl a (List.mem_reverse.mp ha)) (q := fun x => x.2.1 = j) (q' := fun x => x.2.1 = j) (fun x _ => Iff.rfl)
theorem ei_before_cm {T : Nat → List Nat} (h : ei_T4 T) {l : List Nat} (hl : ∀ a, a ∈ l → a < 4) {m m' : Nat}
    (hm : ∀ j, m.testBit j = true ↔ ∃ x, x ∈ ei_full T 6 ∧ ei_px l.reverse x.1 = true ∧ (x.2.2 < 4 ∧ x.2.2 = j))
    (hm' : ∀ j, m'.testBit j = true ↔ ∃ x, x ∈ ei_full (ei_TC T) 6 ∧ ei_px (ei_cm l).reverse x.1 = true ∧ (x.2.2 < 4 ∧ x.2.2 = j)) : m < 16 ∧ m' < 16 ∧ ∀ j, j < 4 → m'.testBit j = m.testBit (3 - j) := by
  refine ⟨ei_16 (fun j hj => ?_), ei_16 (fun j hj => ?_), fun j hj => ?_⟩
  · obtain ⟨x, _, _, h1, h2⟩ := (hm j).mp hj
    omega
  · obtain ⟨x, _, _, h1, h2⟩ := (hm' j).mp hj
    omega
  · rw [Bool.eq_iff_iff, hm (3 - j), hm' j, ei_cm_rev]
    refine ei_ex_cm (w := l.reverse) h (fun a ha => hl a (List.mem_reverse.mp ha)) (q := fun x => x.2.2 < 4 ∧ x.2.2 = 3 - j) (q' := fun x => x.2.2 < 4 ∧ x.2.2 = j) (fun x _ => ?_)
    unfold ei_cE
    try dsimp only
    by_cases e : x.2.2 < 4
    · rw [if_pos e]
      omega
    · rw [if_neg e]
      omega
theorem ei_after_cm {T : Nat → List Nat} (h : ei_T4 T) {l : List Nat} (hl : ∀ a, a ∈ l → a < 4) {m m' : Nat}
    (hm : ∀ j, m.testBit j = true ↔ j < 4 ∧ ∃ x, x ∈ ei_full T 6 ∧ ei_px (l.reverse ++ [j]) x.1 = true)
    (hm' : ∀ j, m'.testBit j = true ↔ j < 4 ∧ ∃ x, x ∈ ei_full (ei_TC T) 6 ∧ ei_px ((ei_cm l).reverse ++ [j]) x.1 = true) : m < 16 ∧ m' < 16 ∧ ∀ j, j < 4 → m'.testBit j = m.testBit (3 - j) := by
  refine ⟨ei_16 (fun j hj => ((hm j).mp hj).1), ei_16 (fun j hj => ((hm' j).mp hj).1), fun j hj => ?_⟩
  have e : (ei_cm l).reverse ++ [j] = ei_cm (l.reverse ++ [3 - j]) := by
    rw [ei_cm_rev]
    unfold ei_cm
    rw [List.map_append]
    have : 3 - (3 - j) = j := by omega
    simp [this]
  have hw : ∀ a, a ∈ l.reverse ++ [3 - j] → a < 4 := by
    intro a ha
    rcases List.mem_append.mp ha with g | g
    · exact hl a (List.mem_reverse.mp g)
    · simp at g
      omega
  have g := ei_ex_cm (w := l.reverse ++ [3 - j]) h hw (q := fun _ => True) (q' := fun _ => True) (fun x _ => Iff.rfl)
  simp only [and_true] at g
  rw [Bool.eq_iff_iff, hm (3 - j), hm' j, e, g]
  constructor
  · rintro ⟨_, g2⟩
    exact ⟨by omega, g2⟩
  · rintro ⟨_, g2⟩
    exact ⟨hj, g2⟩
/-- how many numbers below m name an ending -/
def ei_vc (T : Nat → List Nat) : Nat → Nat
  | 0 => 0
  | m + 1 => ei_vc T m + (if ei_vd T m = true then 1 else 0)
theorem ei_vc_16 (T : Nat → List Nat) (n : Nat) : ∀ k, k ≤ 16 → ei_vc T (16 * n + k) = ei_vc T (16 * n) + (if (T n).length = 0 then 0 else min k ((T n).length + 1))
  | 0, _ => by simp
  | k + 1, h => by
    have ih := ei_vc_16 T n k (by omega)
    have e1 : (16 * n + k) / 16 = n := by omega
    have e2 : (16 * n + k) % 16 = k := by omega
    show ei_vc T (16 * n + k) + (if ei_vd T (16 * n + k) = true then 1 else 0) = _
    rw [ih]
    unfold ei_vd
    rw [e1, e2]
    by_cases h0 : (T n).length = 0
    · simp [h0]
    · by_cases h1 : k ≤ (T n).length
      · simp [h0, h1]
        omega
      · simp [h0, h1]
        omega
theorem ei_vc_full (T : Nat → List Nat) : ∀ n, (∀ s, s < n → (T s).length ≤ 9) → ei_vc T (16 * n) = (ei_full T n).length
  | 0, _ => rfl
  | n + 1, h => by
    have ih := ei_vc_full T n (fun s hs => h s (by omega))
    have h9 := h n (by omega)
    rw [show 16 * (n + 1) = 16 * n + 16 by omega, ei_vc_16 T n 16 (by omega), ih]
    simp only [ei_full, List.length_append, ei_ent_len]
    split <;> omega
theorem ei_full_out {T : Nat → List Nat} {s : Nat} (hs : s < 6) (h0 : (T s).length ≠ 0) : (ei_full T 6).length = (ei_full (ei_set T s []) 6).length + (T s).length + 1 := by
  have h1 := ei_full_own T s 6
  rw [if_pos hs, ei_ent_len, if_neg h0] at h1
  have h2 : (ei_full (ei_set T s []) 6).length = (ei_full T 6).countP (fun x => !(x.2.1 == s)) := by
    rw [← ei_full_rem, List.countP_eq_length_filter]
  have h3 : (ei_full T 6).countP (fun _ => true) = (ei_full T 6).countP (fun x => x.2.1 == s) + (ei_full T 6).countP (fun x => !(x.2.1 == s)) := by
    apply ei_split
    intro x _
    cases (x.2.1 == s) <;> rfl
  have h4 : (ei_full T 6).countP (fun _ => true) = (ei_full T 6).length := by simp
  omega
theorem ei_vd_set {T : Nat → List Nat} {s m : Nat} : ei_vd (ei_set T s []) m = (ei_vd T m && !(m / 16 == s)) := by
  unfold ei_vd ei_set
  by_cases e : m / 16 = s
  · simp [e]
  · simp [e]
theorem ei_vd_cm (T : Nat → List Nat) (m : Nat) : ei_vd (ei_TC T) m = ei_vd T m := by
  unfold ei_vd
  rw [ei_TC_len]
theorem ei_w_465 {post : Int32 → Prop} {L : Nat} {xs : Nat → Int32} {J : Int32 → Int32 → Prop} {x4 x6 x7 x10 x11 : Int32} {z : Int32} {s m kc ks : Nat} {eud eus eup eul euh : Int32} {eu1 eu2 eu3 eu4 eu5 eu6 eu7 : Nat → Int32} {evd evs evp evl evh : Int32} {ev1 ev2 ev3 ev4 ev5 ev6 ev7 : Nat → Int32} (hm : m < 96) (hs : s < 6)
    (h1 : m / 16 = s → x11 = -4) (h2 : m / 16 ≠ s → (0 ≤ x10 ↔ 0 ≤ x11)) (H : J z (nI (m + 1))) :
    wL_law_465 post L xs J x4 (nI s) x6 x7 (nI m) x10 x11 z kc ks eud eus eup eul euh eu1 eu2 eu3 eu4 eu5 eu6 eu7 evd evs evp evl evh ev1 ev2 ev3 ev4 ev5 ev6 ev7 := by
  have e : nI m >>> ((4 : Int32) &&& 31) = nI (m / 16) := by
    rw [pk_shrN (by omega) _ 4 (by decide)]
  unfold wL_law_465
  rw [e]
  refine pk_eq (m / 16) s (fun g => br_t (h1 g) (nm_r (nI_1 m) H)) (fun g => ?_)
  have h := h2 g
  refine br_c (fun a => ?_) (fun a => ?_)
  · exact br_t (h.mp a) (br_t rfl (nm_r (nI_1 m) H))
  · exact br_f (fun b => a (h.mpr b)) (br_t rfl (nm_r (nI_1 m) H))
theorem ei_w_423 {post : Int32 → Prop} {L : Nat} {xs : Nat → Int32} {T : Nat → List Nat} {D D' : List Nat} {kc ks s : Nat} {eud eus eup eul euh : Int32} {eu1 eu2 eu3 eu4 eu5 eu6 eu7 : Nat → Int32} {evd evs evp evl evh : Int32} {ev1 ev2 ev3 ev4 ev5 ev6 ev7 : Nat → Int32}
    (hu : ei_O (ei_set T s []) D (eud, eus, eup, eul, euh, eu1, eu2, eu3, eu4, eu5, eu6, eu7)) (hv : ei_O (ei_TC T) D' (evd, evs, evp, evl, evh, ev1, ev2, ev3, ev4, ev5, ev6, ev7)) (h4 : ei_T4 T) (hs : s < 6) (h0 : (T s).length ≠ 0) (H : post 1) :
    ∃ fu, wL_law_423 post L xs (nI (ei_full T 6).length) (nI s) (nI (T s).length) (nI (ei_full (ei_set T s []) 6).length) kc ks eud eus eup eul euh eu1 eu2 eu3 eu4 eu5 eu6 eu7 evd evs evp evl evh ev1 ev2 ev3 ev4 ev5 ev6 ev7 fu 0 0 := by
  have hlen := ei_full_out hs h0
  have h4' := ei_O_4 hu
  have hb : (ei_full (ei_set T s []) 6).length ≤ 10 * 6 := ei_full_len _ 6 (fun k hk => (h4' k hk).2)
  have hvc : ei_vc (ei_set T s []) (16 * 6) = (ei_full (ei_set T s []) 6).length := ei_vc_full _ 6 (fun k hk => (h4' k hk).2)
  have h9 := (h4 s hs).2
  refine pk_loop (σ := Unit) (fun fu m _ => wL_law_423 post L xs (nI (ei_full T 6).length) (nI s) (nI (T s).length) (nI (ei_full (ei_set T s []) 6).length) kc ks eud eus eup eul euh eu1 eu2 eu3 eu4 eu5 eu6 eu7 evd evs evp evl evh ev1 ev2 ev3 ev4 ev5 ev6 ev7 fu (nI (ei_vc (ei_set T s []) m)) (nI m)) (fun _ _ => True) 96 0 () (by omega) trivial ?_ ?_
  · intro fu _ _
    try dsimp only
    refine pk_le 96 96 (fun _ => br_t ?_ (br_t ?_ ?_)) (fun z => absurd z (by omega))
    · rw [pk_sub (by omega), show (1 : Int32) = nI 1 from rfl, pk_sub (by omega)]
      congr 1
      omega
    · exact congrArg nI hvc
    · refine ei_o_length hu (fun z => absurd z (ei_rng6 hs rfl)) (fun s' hs' e => ?_)
      have := ei_same hs hs' rfl e
      subst this
      have e0 : (ei_set T s [] s).length = 0 := by simp [ei_set]
      rw [e0]
      exact br_t rfl H
  · intro fu m _ hm _ hw
    have t := hw () trivial
    try dsimp only at t ⊢
    have hset := ei_vd_set (T := T) (s := s) (m := m)
    have hc := ei_vd_cm T m
    have evc : ei_vc (ei_set T s []) (m + 1) = ei_vc (ei_set T s []) m + (if ei_vd (ei_set T s []) m = true then 1 else 0) := rfl
    refine pk_le 96 m (fun z => absurd z (by omega)) (fun _ => ?_)
    refine ei_o_rank hv hm (fun g1 => ?_) (fun g1 r1 hr1 => ?_)
    · rw [hc] at g1
      rw [g1, Bool.false_and] at hset
      rw [evc, hset] at t
      refine ei_o_rank hu hm (fun g2 => ?_) (fun g2 => absurd (hset.symm.trans g2) (by decide))
      refine br_t (by decide) ?_
      exact ei_w_465 hm hs (fun _ => rfl) (fun _ => Iff.rfl) t
    · rw [hc] at g1
      rw [g1, Bool.true_and] at hset
      refine ei_o_rank hu hm (fun g2 => ?_) (fun g2 r2 hr2 => ?_)
      · rw [g2] at hset
        have es : m / 16 = s := by simpa using hset
        rw [evc, g2] at t
        refine br_f (nI_pos (by omega)) (br_t (by decide) ?_)
        exact ei_w_465 hm hs (fun _ => rfl) (fun g => absurd es g) t
      · rw [g2] at hset
        have es : ¬ m / 16 = s := by
          intro e
          rw [e] at hset
          simp at hset
        rw [evc, g2, if_pos rfl] at t
        refine br_f (nI_pos (by omega)) (br_f (nI_pos (by omega)) ?_)
        rw [nI_1]
        exact ei_w_465 hm hs (fun g => absurd g es) (fun _ => ⟨fun _ => nI_pos' (by omega), fun _ => nI_pos' (by omega)⟩) t
end
section
theorem ei_w_261 {post : Int32 → Prop} {L : Nat} {xs : Nat → Int32} {J : Int32 → Int32 → Int32 → Int32 → Int32 → Int32 → (Nat → Int32) → (Nat → Int32) → (Nat → Int32) → (Nat → Int32) → (Nat → Int32) → (Nat → Int32) → (Nat → Int32) → Int32 → Int32 → Int32 → Int32 → Int32 → (Nat → Int32) → (Nat → Int32) → (Nat → Int32) → (Nat → Int32) → (Nat → Int32) → (Nat → Int32) → (Nat → Int32) → Prop} {x3 : Int32} {i kc ks : Nat} {T : Nat → List Nat} {D : List Nat} {l : List Nat} {eud eus eup eul euh : Int32} {eu1 eu2 eu3 eu4 eu5 eu6 eu7 : Nat → Int32} {evd evs evp evl evh : Int32} {ev1 ev2 ev3 ev4 ev5 ev6 ev7 : Nat → Int32}
    (hu : ei_O T D (eud, eus, eup, eul, euh, eu1, eu2, eu3, eu4, eu5, eu6, eu7)) (hv : ei_O (ei_TC T) (ei_cm D) (evd, evs, evp, evl, evh, ev1, ev2, ev3, ev4, ev5, ev6, ev7)) (h4 : ∀ a, a ∈ l → a < 4) (h6 : l.length ≤ 6)
    (H : ∀ u v : St1, ei_O T D u → ei_O (ei_TC T) (ei_cm D) v → J (nI (i + 1)) u.1 u.2.1 u.2.2.1 u.2.2.2.1 u.2.2.2.2.1 u.2.2.2.2.2.1 u.2.2.2.2.2.2.1 u.2.2.2.2.2.2.2.1 u.2.2.2.2.2.2.2.2.1 u.2.2.2.2.2.2.2.2.2.1 u.2.2.2.2.2.2.2.2.2.2.1 u.2.2.2.2.2.2.2.2.2.2.2 v.1 v.2.1 v.2.2.1 v.2.2.2.1 v.2.2.2.2.1 v.2.2.2.2.2.1 v.2.2.2.2.2.2.1 v.2.2.2.2.2.2.2.1 v.2.2.2.2.2.2.2.2.1 v.2.2.2.2.2.2.2.2.2.1 v.2.2.2.2.2.2.2.2.2.2.1 v.2.2.2.2.2.2.2.2.2.2.2) :
    wL_law_261 post L xs J x3 (nI i) (nI (ei_er l)) (nI (4 ^ l.length)) kc ks eud eus eup eul euh eu1 eu2 eu3 eu4 eu5 eu6 eu7 evd evs evp evl evh ev1 ev2 ev3 ev4 ev5 ev6 ev7 := by
  have hT := ei_O_4 hu
  have hc6 : (ei_cm l).length ≤ 6 := by
    rw [ei_cm_len]
    exact h6
  refine nm_r (ei_q h4 h6) ?_
  refine ei_o_count hu h4 h6 ?_
  rintro ⟨ead, eas, eap, eal, eah, ea1, ea2, ea3, ea4, ea5, ea6, ea7⟩ hA
  refine ei_o_after hA h4 h6 ?_
  rintro ma ⟨ebd, ebs, ebp, ebl, ebh, eb1, eb2, eb3, eb4, eb5, eb6, eb7⟩ hma hB
  refine ei_o_before hB h4 h6 ?_
  rintro mb ⟨ecd, ecs, ecp, ecl, ech, ec1, ec2, ec3, ec4, ec5, ec6, ec7⟩ hmb hC
  refine ei_o_count (l := ei_cm l) hv ei_cm_lt hc6 ?_
  rintro ⟨ewd, ews, ewp, ewl, ewh, ew1, ew2, ew3, ew4, ew5, ew6, ew7⟩ hW
  refine br_t ?_ ?_
  · rw [ei_cm_rev, ei_cnt_cm hT (fun a ha => h4 a (List.mem_reverse.mp ha))]
  refine ei_o_slots (l := ei_cm l) hW ei_cm_lt hc6 ?_
  rintro ms' ⟨exd, exs, exp, exl, exh, ex1, ex2, ex3, ex4, ex5, ex6, ex7⟩ hms' hX
  refine ei_o_slots hC h4 h6 ?_
  rintro ms ⟨egd, egs, egp, egl, egh, eg1, eg2, eg3, eg4, eg5, eg6, eg7⟩ hms hG
  refine br_t ?_ ?_
  · rw [ei_slots_cm hT h4 hms hms']
  refine ei_o_after (l := ei_cm l) hX ei_cm_lt hc6 ?_
  rintro ma' ⟨eyd, eys, eyp, eyl, eyh, ey1, ey2, ey3, ey4, ey5, ey6, ey7⟩ hma' hY
  obtain ⟨a1, a2, a3⟩ := ei_after_cm hT h4 hma hma'
  refine ei_w_turned a1 a2 a3 (br_t rfl ?_)
  refine ei_o_before (l := ei_cm l) hY ei_cm_lt hc6 ?_
  rintro mb' ⟨ezd, ezs, ezp, ezl, ezh, ez1, ez2, ez3, ez4, ez5, ez6, ez7⟩ hmb' hZ
  obtain ⟨b1, b2, b3⟩ := ei_before_cm hT h4 hmb hmb'
  refine ei_w_turned b1 b2 b3 (br_t rfl ?_)
  exact nm_r (nI_1 i) (H (egd, egs, egp, egl, egh, eg1, eg2, eg3, eg4, eg5, eg6, eg7) (ezd, ezs, ezp, ezl, ezh, ez1, ez2, ez3, ez4, ez5, ez6, ez7) hG hZ)
theorem ei_unit {l : List Nat} (h4 : ∀ a, a ∈ l → a < 4) (h6 : l.length ≤ 6) {A : Int32 → Prop} (H : A (nI (4 ^ l.length))) :
    ((nI (ei_er l) ≤ 4095 → (((nI (ei_er l) ≤ 1023 → (((nI (ei_er l) ≤ 255 → (((nI (ei_er l) ≤ 63 → (((nI (ei_er l) ≤ 15 → (((nI (ei_er l) ≤ 3 → A 1) ∧ (¬ nI (ei_er l) ≤ 3 → A 4)))) ∧ (¬ nI (ei_er l) ≤ 15 → A 16)))) ∧ (¬ nI (ei_er l) ≤ 63 → A 64)))) ∧ (¬ nI (ei_er l) ≤ 255 → A 256)))) ∧ (¬ nI (ei_er l) ≤ 1023 → A 1024)))) ∧ (¬ nI (ei_er l) ≤ 4095 → A 4096)) := by
  have hb := ei_er_bd h4
  have hl := ei_er_lt h4 h6
  have hk : l.length = 0 ∨ l.length = 1 ∨ l.length = 2 ∨ l.length = 3 ∨ l.length = 4 ∨ l.length = 5 ∨ l.length = 6 := by omega
  rcases hk with e | e | e | e | e | e | e <;> rw [e] at hb H <;>
    exact pk_le (ei_er l) 4095 (fun z1 => pk_le (ei_er l) 1023 (fun z2 => pk_le (ei_er l) 255 (fun z3 => pk_le (ei_er l) 63 (fun z4 => pk_le (ei_er l) 15 (fun z5 => pk_le (ei_er l) 3 (fun z6 => by first | exact H | (exfalso; omega)) (fun z6 => by first | exact H | (exfalso; omega))) (fun z5 => by first | exact H | (exfalso; omega))) (fun z4 => by first | exact H | (exfalso; omega))) (fun z3 => by first | exact H | (exfalso; omega))) (fun z2 => by first | exact H | (exfalso; omega))) (fun z1 => by first | exact H | (exfalso; omega))
theorem ei_w_160 {post : Int32 → Prop} {L : Nat} {xs : Nat → Int32} {x3 : Int32} {kc ks : Nat} {T : Nat → List Nat} {D : List Nat} {u v : St1}
    (hu : ei_O T D u) (hv : ei_O (ei_TC T) (ei_cm D) v) (H : post 1) :
    ∃ fu, wL_law_160 post L xs x3 kc ks fu 0 u.1 u.2.1 u.2.2.1 u.2.2.2.1 u.2.2.2.2.1 u.2.2.2.2.2.1 u.2.2.2.2.2.2.1 u.2.2.2.2.2.2.2.1 u.2.2.2.2.2.2.2.2.1 u.2.2.2.2.2.2.2.2.2.1 u.2.2.2.2.2.2.2.2.2.2.1 u.2.2.2.2.2.2.2.2.2.2.2 v.1 v.2.1 v.2.2.1 v.2.2.2.1 v.2.2.2.2.1 v.2.2.2.2.2.1 v.2.2.2.2.2.2.1 v.2.2.2.2.2.2.2.1 v.2.2.2.2.2.2.2.2.1 v.2.2.2.2.2.2.2.2.2.1 v.2.2.2.2.2.2.2.2.2.2.1 v.2.2.2.2.2.2.2.2.2.2.2 := by
  refine pk_loop (σ := St1 × St1) (fun fu i s => wL_law_160 post L xs x3 kc ks fu (nI i) s.1.1 s.1.2.1 s.1.2.2.1 s.1.2.2.2.1 s.1.2.2.2.2.1 s.1.2.2.2.2.2.1 s.1.2.2.2.2.2.2.1 s.1.2.2.2.2.2.2.2.1 s.1.2.2.2.2.2.2.2.2.1 s.1.2.2.2.2.2.2.2.2.2.1 s.1.2.2.2.2.2.2.2.2.2.2.1 s.1.2.2.2.2.2.2.2.2.2.2.2 s.2.1 s.2.2.1 s.2.2.2.1 s.2.2.2.2.1 s.2.2.2.2.2.1 s.2.2.2.2.2.2.1 s.2.2.2.2.2.2.2.1 s.2.2.2.2.2.2.2.2.1 s.2.2.2.2.2.2.2.2.2.1 s.2.2.2.2.2.2.2.2.2.2.1 s.2.2.2.2.2.2.2.2.2.2.2.1 s.2.2.2.2.2.2.2.2.2.2.2.2) (fun _ s => ei_O T D s.1 ∧ ei_O (ei_TC T) (ei_cm D) s.2) 24 0 (u, v) (by omega) ⟨hu, hv⟩ ?_ ?_
  · rintro fu ⟨⟨eud, eus, eup, eul, euh, eu1, eu2, eu3, eu4, eu5, eu6, eu7⟩, ⟨evd, evs, evp, evl, evh, ev1, ev2, ev3, ev4, ev5, ev6, ev7⟩⟩ ⟨hU, hV⟩
    try dsimp only at hU hV ⊢
    have hT := ei_O_4 hU
    refine pk_le 24 24 (fun _ => ?_) (fun z => absurd z (by omega))
    obtain ⟨s, hs8, es⟩ := pk_andE x3 (m := 7) 3 (by decide)
    refine ei_o_endings hU (nm_r es ?_)
    refine ei_o_length hU (fun z => ?_) (fun s' hs' e => ?_)
    · refine ei_o_remove hU (fun _ => ?_) (fun s' hs' e' => absurd z (ei_rng6 hs' e')) (fun s' hs' e' => absurd z (ei_rng6 hs' e'))
      refine br_f (by decide) (pk_le s 5 (fun q => absurd z (ei_rng6 (show s < 6 by omega) rfl)) (fun _ => br_t rfl H))
    · have e0 := (nI_eq (by omega) (by omega)).mp e
      subst e0
      have h9 := (hT s hs').2
      refine ei_o_remove hU (fun z => absurd z (ei_rng6 hs' rfl)) (fun s2 hs2 e2 h0 => ?_) (fun s2 hs2 e2 h0 => ?_)
      · have := ei_same hs' hs2 rfl e2
        subst this
        rw [h0]
        exact br_f (by decide) (pk_le s 5 (fun _ => br_t rfl H) (fun q => absurd q (by omega)))
      · have := ei_same hs' hs2 rfl e2
        subst this
        rintro ⟨ead, eas, eap, eal, eah, ea1, ea2, ea3, ea4, ea5, ea6, ea7⟩ hA
        refine br_t (nI_le (a := 1) (by omega) (by omega)) ?_
        exact ei_w_423 hA hV hT hs' h0 H
  · rintro fu i ⟨⟨eud, eus, eup, eul, euh, eu1, eu2, eu3, eu4, eu5, eu6, eu7⟩, ⟨evd, evs, evp, evl, evh, ev1, ev2, ev3, ev4, ev5, ev6, ev7⟩⟩ hi ⟨hU, hV⟩ hw
    try dsimp only at hU hV hw ⊢
    refine pk_le 24 i (fun z => absurd z (by omega)) (fun _ => ?_)
    refine ei_w_pattern (fun l h4 h6 => ?_)
    exact ei_unit h4 h6 (A := fun z => wL_law_261 post L xs (wL_law_160 post L xs x3 kc ks fu) x3 (nI i) (nI (ei_er l)) z kc ks eud eus eup eul euh eu1 eu2 eu3 eu4 eu5 eu6 eu7 evd evs evp evl evh ev1 ev2 ev3 ev4 ev5 ev6 ev7) (ei_w_261 hU hV h4 h6 (fun u' v' hu' hv' => hw (u', v') ⟨hu', hv'⟩))
theorem ei_w_85 {post : Int32 → Prop} {L : Nat} {xs : Nat → Int32} {J : Int32 → Int32 → Int32 → Int32 → Int32 → Int32 → (Nat → Int32) → (Nat → Int32) → (Nat → Int32) → (Nat → Int32) → (Nat → Int32) → (Nat → Int32) → (Nat → Int32) → Int32 → Int32 → Int32 → Int32 → Int32 → (Nat → Int32) → (Nat → Int32) → (Nat → Int32) → (Nat → Int32) → (Nat → Int32) → (Nat → Int32) → (Nat → Int32) → Prop} {x3 x6 z0 : Int32} {k o kc ks : Nat} {T : Nat → List Nat} {D : List Nat} {eud eus eup eul euh : Int32} {eu1 eu2 eu3 eu4 eu5 eu6 eu7 : Nat → Int32} {evd evs evp evl evh : Int32} {ev1 ev2 ev3 ev4 ev5 ev6 ev7 : Nat → Int32}
    (ho : o < 16) (hu : ei_O T D (eud, eus, eup, eul, euh, eu1, eu2, eu3, eu4, eu5, eu6, eu7)) (hv : ei_O (ei_TC T) (ei_cm D) (evd, evs, evp, evl, evh, ev1, ev2, ev3, ev4, ev5, ev6, ev7))
    (hxy : (o < 10 → ((x6 < 0 ∨ nI 4 ≤ x6) ∧ z0 = x6) ∨ (∃ d, d < 4 ∧ x6 = nI d ∧ z0 = nI (3 - d)))) (hy : 10 ≤ o → z0 = x6)
    (H : ∀ (T' : Nat → List Nat) (D' : List Nat) (u v : St1), ei_O T' D' u → ei_O (ei_TC T') (ei_cm D') v → J (nI (k + 2)) u.1 u.2.1 u.2.2.1 u.2.2.2.1 u.2.2.2.2.1 u.2.2.2.2.2.1 u.2.2.2.2.2.2.1 u.2.2.2.2.2.2.2.1 u.2.2.2.2.2.2.2.2.1 u.2.2.2.2.2.2.2.2.2.1 u.2.2.2.2.2.2.2.2.2.2.1 u.2.2.2.2.2.2.2.2.2.2.2 v.1 v.2.1 v.2.2.1 v.2.2.2.1 v.2.2.2.2.1 v.2.2.2.2.2.1 v.2.2.2.2.2.2.1 v.2.2.2.2.2.2.2.1 v.2.2.2.2.2.2.2.2.1 v.2.2.2.2.2.2.2.2.2.1 v.2.2.2.2.2.2.2.2.2.2.1 v.2.2.2.2.2.2.2.2.2.2.2) :
    wL_law_85 post L xs J x3 (nI k) (nI o) x6 z0 kc ks eud eus eup eul euh eu1 eu2 eu3 eu4 eu5 eu6 eu7 evd evs evp evl evh ev1 ev2 ev3 ev4 ev5 ev6 ev7 := by
  refine ei_2turn ho hu hv hxy hy ?_
  rintro r T' D' ⟨ead, eas, eap, eal, eah, ea1, ea2, ea3, ea4, ea5, ea6, ea7⟩ hA hψ
  refine hψ _ ?_
  rintro ⟨ebd, ebs, ebp, ebl, ebh, eb1, eb2, eb3, eb4, eb5, eb6, eb7⟩ hB
  refine br_t rfl (nm_r (e' := nI (k + 2)) ?_ (H T' D' (ead, eas, eap, eal, eah, ea1, ea2, ea3, ea4, ea5, ea6, ea7) (ebd, ebs, ebp, ebl, ebh, eb1, eb2, eb3, eb4, eb5, eb6, eb7) hA hB))
  rw [show (2 : Int32) = nI 2 from rfl, nI_add]
theorem ei_w_32 {post : Int32 → Prop} {L : Nat} {xs : Nat → Int32} {x3 : Int32} {kc ks : Nat} {T : Nat → List Nat} {D : List Nat} {u v : St1} (hL : L ≤ 260)
    (hu : ei_O T D u) (hv : ei_O (ei_TC T) (ei_cm D) v) (H : post 1) :
    ∃ fu, wL_law_32 post L xs x3 kc ks fu 1 u.1 u.2.1 u.2.2.1 u.2.2.2.1 u.2.2.2.2.1 u.2.2.2.2.2.1 u.2.2.2.2.2.2.1 u.2.2.2.2.2.2.2.1 u.2.2.2.2.2.2.2.2.1 u.2.2.2.2.2.2.2.2.2.1 u.2.2.2.2.2.2.2.2.2.2.1 u.2.2.2.2.2.2.2.2.2.2.2 v.1 v.2.1 v.2.2.1 v.2.2.2.1 v.2.2.2.2.1 v.2.2.2.2.2.1 v.2.2.2.2.2.2.1 v.2.2.2.2.2.2.2.1 v.2.2.2.2.2.2.2.2.1 v.2.2.2.2.2.2.2.2.2.1 v.2.2.2.2.2.2.2.2.2.2.1 v.2.2.2.2.2.2.2.2.2.2.2 := by
  refine pk_loop (σ := St1 × St1) (fun fu j s => wL_law_32 post L xs x3 kc ks fu (nI (2 * j + 1)) s.1.1 s.1.2.1 s.1.2.2.1 s.1.2.2.2.1 s.1.2.2.2.2.1 s.1.2.2.2.2.2.1 s.1.2.2.2.2.2.2.1 s.1.2.2.2.2.2.2.2.1 s.1.2.2.2.2.2.2.2.2.1 s.1.2.2.2.2.2.2.2.2.2.1 s.1.2.2.2.2.2.2.2.2.2.2.1 s.1.2.2.2.2.2.2.2.2.2.2.2 s.2.1 s.2.2.1 s.2.2.2.1 s.2.2.2.2.1 s.2.2.2.2.2.1 s.2.2.2.2.2.2.1 s.2.2.2.2.2.2.2.1 s.2.2.2.2.2.2.2.2.1 s.2.2.2.2.2.2.2.2.2.1 s.2.2.2.2.2.2.2.2.2.2.1 s.2.2.2.2.2.2.2.2.2.2.2.1 s.2.2.2.2.2.2.2.2.2.2.2.2) (fun _ s => ∃ T D, ei_O T D s.1 ∧ ei_O (ei_TC T) (ei_cm D) s.2) ((L - 1) / 2) 0 (u, v) (by omega) ⟨T, D, hu, hv⟩ ?_ ?_
  · rintro fu ⟨⟨eud, eus, eup, eul, euh, eu1, eu2, eu3, eu4, eu5, eu6, eu7⟩, ⟨evd, evs, evp, evl, evh, ev1, ev2, ev3, ev4, ev5, ev6, ev7⟩⟩ ⟨T, D, hU, hV⟩
    try dsimp only at hU hV ⊢
    have hT := ei_O_4 hU
    refine pk_le L (2 * ((L - 1) / 2) + 1 + 1) (fun _ => ?_) (fun z => absurd z (by omega)) (hy := nI_1 _)
    refine ei_o_endings hU (ei_o_endings hV (br_t ?_ ?_))
    · rw [ei_len_cm hT]
    refine ei_o_distinct hU ?_
    rintro ⟨ead, eas, eap, eal, eah, ea1, ea2, ea3, ea4, ea5, ea6, ea7⟩ hA
    refine ei_o_distinct hV ?_
    rintro ⟨ebd, ebs, ebp, ebl, ebh, eb1, eb2, eb3, eb4, eb5, eb6, eb7⟩ hB
    refine br_t ?_ ?_
    · rw [ei_sq_cm, ei_GG hT]
    refine ei_o_repeated hA ?_
    rintro ⟨ecd, ecs, ecp, ecl, ech, ec1, ec2, ec3, ec4, ec5, ec6, ec7⟩ hC
    refine ei_o_repeated hB ?_
    rintro ⟨egd, egs, egp, egl, egh, eg1, eg2, eg3, eg4, eg5, eg6, eg7⟩ hG
    refine br_t ?_ ?_
    · rw [ei_MM hT]
    exact ei_w_160 hC hG H
  · rintro fu j ⟨⟨eud, eus, eup, eul, euh, eu1, eu2, eu3, eu4, eu5, eu6, eu7⟩, ⟨evd, evs, evp, evl, evh, ev1, ev2, ev3, ev4, ev5, ev6, ev7⟩⟩ hj ⟨T, D, hU, hV⟩ hw
    try dsimp only at hU hV hw ⊢
    refine pk_le L (2 * j + 1 + 1) (fun z => absurd z (by omega)) (fun _ => ⟨vp_in_nI (by omega) (by omega), ?_⟩) (hy := nI_1 _)
    obtain ⟨o, ho, eo⟩ := pk_andE (xs (nI (2 * j + 1)).toNatClampNeg) (m := 15) 4 (by decide)
    have ho' : o < 16 := ho
    refine nm_r eo ⟨?_, nm_e ?_⟩
    · rw [nI_1]
      exact vp_in_nI (by omega) (by omega)
    generalize xs (nI (2 * j + 1) + 1).toNatClampNeg = x
    have hH : ∀ (T' : Nat → List Nat) (D' : List Nat) (u v : St1), ei_O T' D' u → ei_O (ei_TC T') (ei_cm D') v → wL_law_32 post L xs x3 kc ks fu (nI (2 * j + 1 + 2)) u.1 u.2.1 u.2.2.1 u.2.2.2.1 u.2.2.2.2.1 u.2.2.2.2.2.1 u.2.2.2.2.2.2.1 u.2.2.2.2.2.2.2.1 u.2.2.2.2.2.2.2.2.1 u.2.2.2.2.2.2.2.2.2.1 u.2.2.2.2.2.2.2.2.2.2.1 u.2.2.2.2.2.2.2.2.2.2.2 v.1 v.2.1 v.2.2.1 v.2.2.2.1 v.2.2.2.2.1 v.2.2.2.2.2.1 v.2.2.2.2.2.2.1 v.2.2.2.2.2.2.2.1 v.2.2.2.2.2.2.2.2.1 v.2.2.2.2.2.2.2.2.2.1 v.2.2.2.2.2.2.2.2.2.2.1 v.2.2.2.2.2.2.2.2.2.2.2 := by
      intro T' D' u' v' hu' hv'
      exact hw (u', v') ⟨T', D', hu', hv'⟩
    refine pk_le 10 o (fun z => ?_) (fun z => br_c (fun g => ?_) (fun g => br_c (fun g2 => ?_) (fun g2 => ?_)))
    · exact ei_w_85 ho' hU hV (fun q => absurd q (by omega)) (fun _ => rfl) hH
    · exact ei_w_85 ho' hU hV (fun _ => Or.inl ⟨Or.inl g, rfl⟩) (fun q => absurd q (by omega)) hH
    · refine ei_w_85 ho' hU hV (fun _ => Or.inl ⟨Or.inr ?_, rfl⟩) (fun q => absurd q (by omega)) hH
      rcases pk_ix x (n := 4) (by omega) with y | y | ⟨d, hd, rfl⟩
      · exact absurd y g
      · exact y
      · exact absurd g2 (nI_nlt (a := 3) (b := d) (by omega) (by omega))
    · rcases pk_ix x (n := 4) (by omega) with y | y | ⟨d, hd, rfl⟩
      · exact absurd y g
      · exact absurd (show (3 : Int32) < x from Int32.lt_of_lt_of_le (show (3 : Int32) < nI 4 by decide) y) g2
      · refine ei_w_85 ho' hU hV (fun _ => Or.inr ⟨d, hd, rfl, ?_⟩) (fun q => absurd q (by omega)) hH
        rw [show (3 : Int32) = nI 3 from rfl, pk_sub (by omega)]
theorem ei_start : ei_O (fun _ => []) [] ((0, 0, 0, 0, 0, (fun _ => 0), (fun _ => 0), (fun _ => 0), (fun _ => 0), (fun _ => 0), (fun _ => 0), (fun _ => 0)) : St1) := by
  refine ⟨[], rfl, rfl, by simp, by simp, ?_, ?_, ?_, ?_, List.Pairwise.nil, ?_⟩
  · intro j d hj
    simp at hj
  · intro s hs
    exact ⟨by simp, by simp⟩
  · intro k hk
    exact ⟨rfl, by simp⟩
  · intro r x hx
    simp at hx
  · exact List.Perm.refl []
theorem i_vc (xs : Nat → Int32) (L : Nat) (hL : L ≤ 260) : wpL_law (fun r => r = 1) L xs := by
  refine ⟨7, 207, by decide, by decide, ?_⟩
  refine ⟨by decide, by decide, by decide, by decide, by decide, by decide, by decide, by decide, by decide, by decide, by decide, by decide, by decide, by decide, ?_⟩
  refine ⟨by decide, by decide, 7, 207, by decide, by decide, ?_⟩
  refine ⟨by decide, by decide, by decide, by decide, by decide, by decide, by decide, by decide, by decide, by decide, by decide, by decide, by decide, by decide, ?_⟩
  refine pk_le L 0 (fun z => ?_) (fun z => ⟨pk_in 0 L (by omega), nm_e ?_⟩)
  · exact ei_w_32 hL ei_start ei_start rfl
  · exact ei_w_32 hL ei_start ei_start rfl
end
