section
/-- what reachedFrom holds: 0 for unreached, n + 1 for reached from n -/
def cq_v : Nat → Int32
  | 0 => -1
  | n + 1 => nI n
def cq_u (f : Nat → Nat) (k x : Nat) : Nat → Nat := fun j => if j = k then x else f j
theorem cq_us {f : Nat → Nat} {k x : Nat} : cq_u f k x k = x := if_pos rfl
theorem cq_un {f : Nat → Nat} {k x j : Nat} (h : j ≠ k) : cq_u f k x j = f j := if_neg h
/-- the picture of a search: how many in the queue, reached from, the queue -/
abbrev cq_S : Type := Nat × (Nat → Nat) × (Nat → Nat)
def cq_push (s : cq_S) (x p : Nat) : cq_S := (s.1 + 1, cq_u s.2.1 p (x + 1), cq_u s.2.2 s.1 p)
def cq_in (g : Nat → Nat → Bool) (x p : Nat) (s : cq_S) : cq_S := if s.2.1 p = 0 ∧ g x p = true then cq_push s x p else s
def cq_row (g : Nat → Nat → Bool) (x : Nat) (s : cq_S) : Nat → cq_S
  | 0 => s
  | n + 1 => cq_in g x n (cq_row g x s n)
def cq_st (g : Nat → Nat → Bool) (k : Nat) (s : cq_S) : cq_S := if k < s.1 then cq_row g (s.2.2 k) s 11 else s
def cq_bfs (g : Nat → Nat → Bool) : Nat → cq_S
  | 0 => (1, cq_u (fun _ => 0) 9 10, cq_u (fun _ => 0) 0 9)
  | k + 1 => cq_st g k (cq_bfs g k)
def cq_b (n : Nat) : Nat := if n = 0 then 0 else 1
theorem cq_b1 (n : Nat) : cq_b n ≤ 1 := by unfold cq_b; split <;> omega
theorem cq_bs (n : Nat) : cq_b (n + 1) = 1 := if_neg (by omega)
def cq_W (s : cq_S) : Prop := s.1 = 1 + cq_b (s.2.1 3) + cq_b (s.2.1 7) + cq_b (s.2.1 10) ∧ (∀ i, i < s.1 → s.2.2 i < 11) ∧ s.2.1 9 ≠ 0 ∧ ∀ j, s.2.1 j < 12
theorem cq_W4 {s : cq_S} (h : cq_W s) : s.1 ≤ 4 := by
  have h1 := cq_b1 (s.2.1 3)
  have h2 := cq_b1 (s.2.1 7)
  have h3 := cq_b1 (s.2.1 10)
  have h4 := h.1
  omega
theorem cq_W_push {s : cq_S} {x p : Nat} (hx11 : x < 11) (h : cq_W s) (h0 : s.2.1 p = 0) (hp : p = 3 ∨ p = 7 ∨ p = 10) : cq_W (cq_push s x p) := by
  obtain ⟨h1, h2, h3, h4⟩ := h
  have hb : cq_b (s.2.1 p) = 0 := by rw [h0]; rfl
  have hx := cq_bs x
  refine ⟨?_, ?_, ?_, ?_⟩
  · show s.1 + 1 = 1 + cq_b (cq_u s.2.1 p (x + 1) 3) + cq_b (cq_u s.2.1 p (x + 1) 7) + cq_b (cq_u s.2.1 p (x + 1) 10)
    rcases hp with rfl | rfl | rfl
    · rw [cq_us, cq_un (show (7 : Nat) ≠ 3 by decide), cq_un (show (10 : Nat) ≠ 3 by decide)]
      omega
    · rw [cq_us, cq_un (show (3 : Nat) ≠ 7 by decide), cq_un (show (10 : Nat) ≠ 7 by decide)]
      omega
    · rw [cq_us, cq_un (show (3 : Nat) ≠ 10 by decide), cq_un (show (7 : Nat) ≠ 10 by decide)]
      omega
  · intro i hi
    have hi' : i < s.1 + 1 := hi
    show cq_u s.2.2 s.1 p i < 11
    by_cases e : i = s.1
    · rw [e, cq_us]
      omega
    · rw [cq_un e]
      exact h2 i (by omega)
  · show cq_u s.2.1 p (x + 1) 9 ≠ 0
    rw [cq_un (show (9 : Nat) ≠ p by omega)]
    exact h3
  · intro j
    show cq_u s.2.1 p (x + 1) j < 12
    by_cases e : j = p
    · rw [e, cq_us]
      omega
    · rw [cq_un e]
      exact h4 j
theorem cq_row_W {g : Nat → Nat → Bool} {x : Nat} {s : cq_S} (hg : ∀ x p, g x p = true → p = 3 ∨ p = 7 ∨ p = 10) (hx : x < 11) (h : cq_W s) : ∀ n, cq_W (cq_row g x s n) := by
  intro n
  induction n with
  | zero => exact h
  | succ n ih =>
    show cq_W (cq_in g x n (cq_row g x s n))
    unfold cq_in
    split
    · next e => exact cq_W_push hx ih e.1 (hg _ _ e.2)
    · exact ih
theorem cq_row_k {g : Nat → Nat → Bool} {x : Nat} {s : cq_S} : ∀ n, s.1 ≤ (cq_row g x s n).1 ∧ ∀ k, k < s.1 → (cq_row g x s n).2.2 k = s.2.2 k := by
  intro n
  induction n with
  | zero => exact ⟨Nat.le_refl _, fun _ _ => rfl⟩
  | succ n ih =>
    obtain ⟨h1, h2⟩ := ih
    show s.1 ≤ (cq_in g x n (cq_row g x s n)).1 ∧ ∀ k, k < s.1 → (cq_in g x n (cq_row g x s n)).2.2 k = s.2.2 k
    unfold cq_in
    split
    · refine ⟨?_, fun k hk => ?_⟩
      · show s.1 ≤ (cq_row g x s n).1 + 1
        omega
      · show cq_u (cq_row g x s n).2.2 (cq_row g x s n).1 n k = s.2.2 k
        rw [cq_un (show k ≠ (cq_row g x s n).1 by omega)]
        exact h2 k hk
    · exact ⟨h1, h2⟩
theorem cq_bfs_W {g : Nat → Nat → Bool} (hg : ∀ x p, g x p = true → p = 3 ∨ p = 7 ∨ p = 10) : ∀ n, cq_W (cq_bfs g n) := by
  intro n
  induction n with
  | zero =>
    refine ⟨rfl, fun i hi => ?_, (show (10 : Nat) ≠ 0 by decide), fun j => ?_⟩
    · have hi' : i < 1 := hi
      have e : i = 0 := by omega
      subst e
      show 9 < 11
      decide
    · show cq_u (fun _ => 0) 9 10 j < 12
      by_cases e : j = 9
      · rw [e, cq_us]
        omega
      · rw [cq_un e]
        omega
  | succ n ih =>
    show cq_W (cq_st g n (cq_bfs g n))
    unfold cq_st
    split
    · next e => exact cq_row_W hg (ih.2.1 n e) ih 11
    · exact ih
theorem cq_bfs_s {g : Nat → Nat → Bool} {k : Nat} (h : (cq_bfs g k).1 ≤ k) : ∀ j, cq_bfs g (k + j) = cq_bfs g k := by
  intro j
  induction j with
  | zero => rfl
  | succ j ih =>
    show cq_st g (k + j) (cq_bfs g (k + j)) = cq_bfs g k
    rw [ih]
    exact if_neg (by omega)
/-- state and picture of a search -/
def cq_M (s : cq_S) (qe : Int32) (r q : Nat → Int32) : Prop := qe = nI s.1 ∧ (∀ j, j < 11 → r j = cq_v (s.2.1 j)) ∧ (∀ i, i < s.1 → q i = nI (s.2.2 i))
theorem cq_M_push {s : cq_S} {qe : Int32} {r q : Nat → Int32} {x p : Nat} (h : cq_M s qe r q) : cq_M (cq_push s x p) (nI (s.1 + 1)) (upd r p (nI x)) (upd q s.1 (nI p)) := by
  refine ⟨rfl, fun j hj => ?_, fun i hi => ?_⟩
  · show upd r p (nI x) j = cq_v (cq_u s.2.1 p (x + 1) j)
    by_cases e : j = p
    · rw [e, pk_us, cq_us]
      rfl
    · rw [pk_un e, cq_un e]
      exact h.2.1 j hj
  · have hi' : i < s.1 + 1 := hi
    show upd q s.1 (nI p) i = nI (cq_u s.2.2 s.1 p i)
    by_cases e : i = s.1
    · rw [e, pk_us, cq_us]
    · rw [pk_un e, cq_un e]
      exact h.2.2 i (by omega)
/-- the search by the signs of eight lines: a table -/
def cq_g (b1 b2 b3 b4 b5 b6 b7 b8 : Bool) (x p : Nat) : Bool := (p == 3 || p == 7 || p == 10) && (if 11 * x + p = 102 then b1 else if 11 * x + p = 106 then b2 else if 11 * x + p = 43 then b3 else if 11 * x + p = 87 then b4 else if 11 * x + p = 40 then b5 else if 11 * x + p = 80 then b6 else if 11 * x + p = 113 then b7 else if 11 * x + p = 117 then b8 else false)
def cq_ok (b1 b2 b3 b4 b5 b6 : Bool) (s : cq_S) : Bool :=
  if (b1 && b3) = true then s.2.1 10 == 4 && s.2.1 3 == 10
  else if (b2 && b4) = true then s.2.1 10 == 8 && s.2.1 7 == 10
  else if (b1 && (b5 && b4)) = true then s.2.1 10 == 8 && (s.2.1 7 == 4 && s.2.1 3 == 10)
  else if (b2 && (b6 && b3)) = true then s.2.1 10 == 4 && (s.2.1 3 == 8 && s.2.1 7 == 10)
  else s.2.1 10 == 0
theorem cq_tab : ∀ b1 b2 b3 b4 b5 b6 b7 b8 : Bool, cq_ok b1 b2 b3 b4 b5 b6 (cq_bfs (cq_g b1 b2 b3 b4 b5 b6 b7 b8) 4) = true := by decide +kernel
/-- the lines that may have room -/
def cq_L : List Nat := [102, 106, 43, 87, 40, 80, 42, 86, 113, 117]
def cq_sup (C : Nat → Nat) : Prop := ∀ k, k ∉ cq_L → C k = 0
def cq_G (C : Nat → Nat) (x p : Nat) : Bool := (p == 3 || p == 7 || p == 10) && decide (0 < C (11 * x + p))
theorem cq_G_t {C : Nat → Nat} {x p : Nat} (hp : p = 3 ∨ p = 7 ∨ p = 10) (h : 0 < C (11 * x + p)) : cq_G C x p = true := by
  unfold cq_G
  rw [decide_eq_true h, Bool.and_true]
  rcases hp with rfl | rfl | rfl <;> rfl
theorem cq_G_f {C : Nat → Nat} {x p : Nat} (h : C (11 * x + p) = 0) : ¬ cq_G C x p = true := by
  unfold cq_G
  rw [h]
  simp
theorem cq_G_p {C : Nat → Nat} : ∀ x p, cq_G C x p = true → p = 3 ∨ p = 7 ∨ p = 10 := by
  intro x p h
  unfold cq_G at h
  simp only [Bool.and_eq_true, Bool.or_eq_true, beq_iff_eq] at h
  have := h.1
  omega
theorem cq_G_eq {C : Nat → Nat} (h : cq_sup C) : cq_G C = cq_g (decide (0 < C 102)) (decide (0 < C 106)) (decide (0 < C 43)) (decide (0 < C 87)) (decide (0 < C 40)) (decide (0 < C 80)) (decide (0 < C 113)) (decide (0 < C 117)) := by
  funext x p
  unfold cq_G cq_g
  by_cases hp : (p == 3 || p == 7 || p == 10) = true
  · rw [hp, Bool.true_and, Bool.true_and]
    by_cases e1 : 11 * x + p = 102
    · rw [if_pos e1, e1]
    rw [if_neg e1]
    by_cases e2 : 11 * x + p = 106
    · rw [if_pos e2, e2]
    rw [if_neg e2]
    by_cases e3 : 11 * x + p = 43
    · rw [if_pos e3, e3]
    rw [if_neg e3]
    by_cases e4 : 11 * x + p = 87
    · rw [if_pos e4, e4]
    rw [if_neg e4]
    by_cases e5 : 11 * x + p = 40
    · rw [if_pos e5, e5]
    rw [if_neg e5]
    by_cases e6 : 11 * x + p = 80
    · rw [if_pos e6, e6]
    rw [if_neg e6]
    by_cases e7 : 11 * x + p = 113
    · rw [if_pos e7, e7]
    rw [if_neg e7]
    by_cases e8 : 11 * x + p = 117
    · rw [if_pos e8, e8]
    rw [if_neg e8]
    have hz : C (11 * x + p) = 0 := h _ (by
      simp only [Bool.or_eq_true, beq_iff_eq] at hp
      simp only [cq_L, List.mem_cons, List.not_mem_nil, or_false]
      omega)
    rw [hz]
    rfl
  · rw [Bool.eq_false_iff.mpr hp, Bool.false_and, Bool.false_and]
/-- what a search from the zero end leaves: one of four ways, or none -/
def cq_R (C : Nat → Nat) (r : Nat → Int32) : Prop :=
  (0 < C 102 ∧ 0 < C 43 ∧ r 10 = nI 3 ∧ r 3 = nI 9) ∨ (0 < C 106 ∧ 0 < C 87 ∧ r 10 = nI 7 ∧ r 7 = nI 9) ∨ (0 < C 102 ∧ 0 < C 40 ∧ 0 < C 87 ∧ r 10 = nI 7 ∧ r 7 = nI 3 ∧ r 3 = nI 9) ∨ (0 < C 106 ∧ 0 < C 80 ∧ 0 < C 43 ∧ r 10 = nI 3 ∧ r 3 = nI 7 ∧ r 7 = nI 9) ∨ (r 10 = -1 ∧ (C 102 = 0 ∨ C 43 = 0) ∧ (C 106 = 0 ∨ C 87 = 0) ∧ (C 102 = 0 ∨ C 40 = 0 ∨ C 87 = 0) ∧ (C 106 = 0 ∨ C 80 = 0 ∨ C 43 = 0))
theorem cq_M_R {C : Nat → Nat} {qe : Int32} {r q : Nat → Int32} (h : cq_sup C) (hM : cq_M (cq_bfs (cq_G C) 4) qe r q) : cq_R C r := by
  have t := cq_tab (decide (0 < C 102)) (decide (0 < C 106)) (decide (0 < C 43)) (decide (0 < C 87)) (decide (0 < C 40)) (decide (0 < C 80)) (decide (0 < C 113)) (decide (0 < C 117))
  rw [← cq_G_eq h] at t
  generalize cq_bfs (cq_G C) 4 = s at t hM
  have r10 := hM.2.1 10 (by omega)
  have r3 := hM.2.1 3 (by omega)
  have r7 := hM.2.1 7 (by omega)
  unfold cq_ok at t
  by_cases c1 : 0 < C 102 ∧ 0 < C 43
  · rw [if_pos (by simp only [Bool.and_eq_true, decide_eq_true_eq]; exact c1)] at t
    simp only [Bool.and_eq_true, beq_iff_eq] at t
    exact Or.inl ⟨c1.1, c1.2, by rw [r10, t.1]; rfl, by rw [r3, t.2]; rfl⟩
  rw [if_neg (by simp only [Bool.and_eq_true, decide_eq_true_eq]; exact c1)] at t
  by_cases c2 : 0 < C 106 ∧ 0 < C 87
  · rw [if_pos (by simp only [Bool.and_eq_true, decide_eq_true_eq]; exact c2)] at t
    simp only [Bool.and_eq_true, beq_iff_eq] at t
    exact Or.inr (Or.inl ⟨c2.1, c2.2, by rw [r10, t.1]; rfl, by rw [r7, t.2]; rfl⟩)
  rw [if_neg (by simp only [Bool.and_eq_true, decide_eq_true_eq]; exact c2)] at t
  by_cases c3 : 0 < C 102 ∧ 0 < C 40 ∧ 0 < C 87
  · rw [if_pos (by simp only [Bool.and_eq_true, decide_eq_true_eq]; exact c3)] at t
    simp only [Bool.and_eq_true, beq_iff_eq] at t
    exact Or.inr (Or.inr (Or.inl ⟨c3.1, c3.2.1, c3.2.2, by rw [r10, t.1]; rfl, by rw [r7, t.2.1]; rfl, by rw [r3, t.2.2]; rfl⟩))
  rw [if_neg (by simp only [Bool.and_eq_true, decide_eq_true_eq]; exact c3)] at t
  by_cases c4 : 0 < C 106 ∧ 0 < C 80 ∧ 0 < C 43
  · rw [if_pos (by simp only [Bool.and_eq_true, decide_eq_true_eq]; exact c4)] at t
    simp only [Bool.and_eq_true, beq_iff_eq] at t
    exact Or.inr (Or.inr (Or.inr (Or.inl ⟨c4.1, c4.2.1, c4.2.2, by rw [r10, t.1]; rfl, by rw [r3, t.2.1]; rfl, by rw [r7, t.2.2]; rfl⟩)))
  rw [if_neg (by simp only [Bool.and_eq_true, decide_eq_true_eq]; exact c4)] at t
  simp only [beq_iff_eq] at t
  exact Or.inr (Or.inr (Or.inr (Or.inr ⟨by rw [r10, t]; rfl, by omega, by omega, by omega, by omega⟩)))
end
section
theorem cq_ix (x i : Nat) : (11 : Int32) * nI x + nI i = nI (11 * x + i) := by
  rw [show (11 : Int32) = nI 11 from rfl, pk_mul, nI_add]
theorem cq_99 (p : Nat) : (99 : Int32) + nI p = nI (99 + p) := by
  rw [show (99 : Int32) = nI 99 from rfl, nI_add]
theorem cq_fil {s : Nat → Int32} {i k : Nat} {x : Int32} (hk : k = i) (h : ∀ j, j < i → s j = x) : ∀ j, j < i + 1 → upd s k x j = x := by
  intro j hj
  rw [hk]
  by_cases e : j = i
  · rw [e, pk_us]
  · rw [pk_un e]
    exact h j (by omega)
/-- the room array and its picture -/
def cq_rm (rm : Nat → Int32) (C : Nat → Nat) : Prop := ∀ k, k < 121 → rm k = nI (C k)
abbrev cq_J : Type := Int32 → Int32 → (Nat → Int32) → (Nat → Int32) → (Nat → Int32) → (Nat → Int32) → (Nat → Int32) → (Nat → Int32) → (Nat → Int32) → (Nat → Int32) → (Nat → Int32) → (Nat → Int32) → Prop
section
variable {post : St2 → Prop} {a1 a2 a3 a4 a5 a6 a7 rm : Nat → Int32} {C : Nat → Nat}
theorem cq_58 {J : cq_J} {k : Nat} {s : cq_S} {qe : Int32} {r q : Nat → Int32} (hR : cq_rm rm C) (hS : cq_sup C) (hB : ∀ k, C k < 2 ^ 30) (hk : k < s.1) (hW : cq_W s) (hM : cq_M s qe r q)
    (H : ∀ qe r q, cq_M (cq_row (cq_G C) (s.2.2 k) s 11) qe r q → J (nI (k + 1)) qe a1 a2 a3 a4 a5 a6 a7 rm r q) :
    ∃ n, wX_search_58 post J (nI k) n 0 qe a1 a2 a3 a4 a5 a6 a7 rm r q := by
  have hk4 : k < 4 := by
    have := cq_W4 hW
    omega
  have hx : s.2.2 k < 11 := hW.2.1 k hk
  refine pk_loop (σ := Int32 × (Nat → Int32) × (Nat → Int32)) (fun n i t => wX_search_58 post J (nI k) n (nI i) t.1 a1 a2 a3 a4 a5 a6 a7 rm t.2.1 t.2.2) (fun i t => cq_M (cq_row (cq_G C) (s.2.2 k) s i) t.1 t.2.1 t.2.2) 11 0 (qe, r, q) (by omega) hM ?_ ?_
  · intro n t h
    exact pk_le 11 11 (fun _ => nm_r (nI_1 k) (H t.1 t.2.1 t.2.2 h)) (fun z => absurd z (by omega))
  · rintro n i ⟨qe, r, q⟩ hi h hw
    have hWi := cq_row_W (g := cq_G C) (x := s.2.2 k) cq_G_p hx hW i
    have hK := cq_row_k (g := cq_G C) (x := s.2.2 k) (s := s) i
    have hw' : ∀ qe r q, cq_M (cq_in (cq_G C) (s.2.2 k) i (cq_row (cq_G C) (s.2.2 k) s i)) qe r q → wX_search_58 post J (nI k) n (nI (i + 1)) qe a1 a2 a3 a4 a5 a6 a7 rm r q := fun qe r q h => hw (qe, r, q) h
    have h' : cq_M (cq_row (cq_G C) (s.2.2 k) s i) qe r q := h
    clear hw h H hM
    generalize cq_row (cq_G C) (s.2.2 k) s i = w at h' hw' hWi hK
    have hwk := hK.2 k hk
    have hkw : k < w.1 := by omega
    have hw4 := cq_W4 hWi
    generalize s.2.2 k = x at hx hw' hwk
    obtain ⟨rfl, hr, hq⟩ := h'
    show wX_search_58 post J (nI k) (n + 1) (nI i) (nI w.1) a1 a2 a3 a4 a5 a6 a7 rm r q
    refine pk_le 11 i (fun z => absurd z (by omega)) (fun _ => ⟨pk_in i 11 hi, ?_⟩)
    rw [nI_clamp (show i < 2 ^ 31 by omega)]
    have er := hr i hi
    by_cases hp : w.2.1 i = 0
    · rw [hp] at er
      refine br_f (by rw [er]; decide) ⟨pk_in k 11 (by omega), ?_⟩
      rw [nI_clamp (show k < 2 ^ 31 by omega), hq k hkw, hwk, cq_ix x i]
      refine ⟨pk_in (11 * x + i) 121 (by omega), ?_⟩
      rw [nI_clamp (show 11 * x + i < 2 ^ 31 by omega), hR (11 * x + i) (by omega)]
      have hc := hB (11 * x + i)
      refine pk_le (C (11 * x + i)) 0 (fun z => ?_) (fun z => ⟨pk_in k 11 (by omega), pk_in i 11 hi, ?_⟩)
      · have e : cq_in (cq_G C) x i w = w := if_neg (fun e => cq_G_f (by omega) e.2)
        rw [e] at hw'
        exact nm_r (nI_1 i) (hw' (nI w.1) r q ⟨rfl, hr, hq⟩)
      · have hi9 : i ≠ 9 := by
          intro e
          rw [e] at hp
          exact hWi.2.2.1 hp
        have hi3 : i = 3 ∨ i = 7 ∨ i = 10 := by
          by_cases hm : 11 * x + i ∈ cq_L
          · simp only [cq_L, List.mem_cons, List.not_mem_nil, or_false] at hm
            omega
          · have := hS _ hm
            omega
        have e : cq_in (cq_G C) x i w = cq_push w x i := if_pos ⟨hp, cq_G_t hi3 z⟩
        rw [e] at hw'
        refine nm_e ⟨pk_in w.1 11 (by omega), nm_e ?_⟩
        rw [nI_clamp (show w.1 < 2 ^ 31 by omega)]
        exact nm_r (nI_1 _) (nm_r (nI_1 i) (hw' _ _ _ (cq_M_push (qe := nI w.1) ⟨rfl, hr, hq⟩)))
    · have e : cq_in (cq_G C) x i w = w := if_neg (fun e => hp e.1)
      rw [e] at hw'
      have hy := hWi.2.2.2 i
      have tb : ∀ y, y < 12 → y ≠ 0 → (0 : Int32) ≤ cq_v y := by decide
      exact br_t (by rw [er]; exact tb _ hy hp) (nm_r (nI_1 i) (hw' (nI w.1) r q ⟨rfl, hr, hq⟩))
theorem cq_42 {qe : Int32} {r q : Nat → Int32} (hR : cq_rm rm C) (hS : cq_sup C) (hB : ∀ k, C k < 2 ^ 30) (h0 : cq_M (cq_bfs (cq_G C) 0) qe r q)
    (H : ∀ qe r q, cq_R C r → post (qe, a1, a2, a3, a4, a5, a6, a7, rm, r, q)) :
    ∃ n, wX_search_42 post n 0 qe a1 a2 a3 a4 a5 a6 a7 rm r q := by
  refine loop_m (σ := Nat × Int32 × (Nat → Int32) × (Nat → Int32)) (fun n t => wX_search_42 post n (nI t.1) t.2.1 a1 a2 a3 a4 a5 a6 a7 rm t.2.2.1 t.2.2.2) (fun t => t.1 ≤ 4 ∧ cq_M (cq_bfs (cq_G C) t.1) t.2.1 t.2.2.1 t.2.2.2) (fun t => 5 - t.1) ?_ (0, qe, r, q) ⟨Nat.zero_le 4, h0⟩
  rintro n ⟨k, qe, r, q⟩ ⟨hk, hM⟩ ih
  have hk : k ≤ 4 := hk
  have hM : cq_M (cq_bfs (cq_G C) k) qe r q := hM
  have hW := cq_bfs_W (g := cq_G C) cq_G_p k
  have hc := cq_W4 hW
  have ih' : ∀ qe r q, k + 1 ≤ 4 → cq_M (cq_bfs (cq_G C) (k + 1)) qe r q → wX_search_42 post n (nI (k + 1)) qe a1 a2 a3 a4 a5 a6 a7 rm r q := fun qe r q h1 h2 => ih (k + 1, qe, r, q) ⟨h1, h2⟩ (show 5 - (k + 1) < 5 - k by omega)
  show wX_search_42 post (n + 1) (nI k) qe a1 a2 a3 a4 a5 a6 a7 rm r q
  refine pk_le (cq_bfs (cq_G C) k).1 k (fun z => ?_) (fun z => ?_) hM.1 rfl (by omega) (by omega)
  · refine H qe r q (cq_M_R hS (q := q) (qe := qe) ?_)
    have e := cq_bfs_s z (4 - k)
    rw [show k + (4 - k) = 4 by omega] at e
    rw [e]
    exact hM
  · refine pk_le 11 k (fun z => absurd z (by omega)) (fun _ => ?_)
    refine cq_58 hR hS hB z hW hM (fun qe r q h => ih' qe r q (by omega) ?_)
    rw [show cq_bfs (cq_G C) (k + 1) = cq_row (cq_G C) ((cq_bfs (cq_G C) k).2.2 k) (cq_bfs (cq_G C) k) 11 from if_pos z]
    exact h
theorem cq_search (hR : cq_rm rm C) (hS : cq_sup C) (hB : ∀ k, C k < 2 ^ 30)
    (H : ∀ qe r q, cq_R C r → post (qe, a1, a2, a3, a4, a5, a6, a7, rm, r, q)) (qe : Int32) (r q : Nat → Int32) :
    wpX_search post (qe, a1, a2, a3, a4, a5, a6, a7, rm, r, q) 9 := by
  show ∃ n, wX_search_2 post 9 qe n 0 a1 a2 a3 a4 a5 a6 a7 rm r q
  refine pk_loop (fun n i t => wX_search_2 post 9 qe n (nI i) a1 a2 a3 a4 a5 a6 a7 rm t q) (fun i t => ∀ j, j < i → t j = -1) 11 0 r (by omega) (fun j hj => absurd hj (by omega)) ?_ ?_
  · intro n t h
    refine pk_le 11 11 (fun _ => ⟨pk_in 9 11 (by omega), nm_e (nm_e ?_)⟩) (fun z => absurd z (by omega))
    rw [show (9 : Int32).toNatClampNeg = 9 from pk_cl 9]
    refine cq_42 hR hS hB ?_ H
    refine ⟨rfl, fun j hj => ?_, fun i hi => ?_⟩
    · show upd t 9 9 j = cq_v (cq_u (fun _ => 0) 9 10 j)
      by_cases e : j = 9
      · rw [e, pk_us, cq_us]
        rfl
      · rw [pk_un e, cq_un e, h j hj]
        rfl
    · have hi' : i < 1 := hi
      have e : i = 0 := by omega
      subst e
      show upd q 0 9 0 = nI (cq_u (fun _ => 0) 0 9 0)
      rw [pk_us, cq_us]
      rfl
  · intro n i t hi h hw
    exact pk_le 11 i (fun z => absurd z (by omega)) (fun _ => ⟨pk_in i 11 hi, nm_e (nm_r (nI_1 i) (hw _ (cq_fil (nI_clamp (by omega)) h)))⟩)
end
end
section
abbrev cq_J3 : Type := Int32 → Int32 → Int32 → (Nat → Int32) → (Nat → Int32) → (Nat → Int32) → (Nat → Int32) → (Nat → Int32) → (Nat → Int32) → (Nat → Int32) → (Nat → Int32) → (Nat → Int32) → (Nat → Int32) → Prop
/-- flow fl sent over the line from f to t -/
def cq_aug (C : Nat → Nat) (f t fl : Nat) : Nat → Nat := cq_u (cq_u C (11 * f + t) (C (11 * f + t) - fl)) (11 * t + f) (C (11 * t + f) + fl)
theorem cq_aug_rm {rm : Nat → Int32} {C : Nat → Nat} {k1 k2 fl : Nat} (hR : cq_rm rm C) (h2 : k2 < 121) (h : k2 ≠ k1) :
    cq_rm (upd (upd rm k1 (nI (C k1 - fl))) k2 (upd rm k1 (nI (C k1 - fl)) k2 + nI fl)) (cq_u (cq_u C k1 (C k1 - fl)) k2 (C k2 + fl)) := by
  intro j hj
  by_cases e : j = k2
  · rw [e, pk_us, cq_us, pk_un h, hR k2 h2, nI_add]
  · rw [pk_un e, cq_un e]
    by_cases e' : j = k1
    · rw [e', pk_us, cq_us]
    · rw [pk_un e', cq_un e']
      exact hR j hj
theorem cq_aug_sup {C : Nat → Nat} {f t fl : Nat} (hS : cq_sup C) (h1 : 11 * f + t ∈ cq_L) (h2 : 11 * t + f ∈ cq_L) : cq_sup (cq_aug C f t fl) := by
  intro k hk
  unfold cq_aug
  have n2 : k ≠ 11 * t + f := by
    intro e
    rw [e] at hk
    exact hk h2
  have n1 : k ≠ 11 * f + t := by
    intro e
    rw [e] at hk
    exact hk h1
  rw [cq_un n2, cq_un n1]
  exact hS k hk
theorem cq_aug_bd {C : Nat → Nat} {f t fl B : Nat} (hB : ∀ k, C k ≤ B) : ∀ k, cq_aug C f t fl k ≤ B + fl := by
  intro k
  unfold cq_aug
  by_cases e : k = 11 * t + f
  · rw [e, cq_us]
    have := hB (11 * t + f)
    omega
  · rw [cq_un e]
    by_cases e' : k = 11 * f + t
    · rw [e', cq_us]
      have := hB (11 * f + t)
      omega
    · rw [cq_un e']
      have := hB k
      omega
/-- the four cuts: what is left of each, and what was sent -/
def cq_K (C : Nat → Nat) (k1 k2 k3 k4 tot : Nat) : Prop := C 102 + C 106 + tot = k1 ∧ C 106 + C 43 + C 40 + tot = k2 ∧ C 102 + C 87 + C 80 + tot = k3 ∧ C 43 + C 87 + tot = k4
theorem cq_KA {C : Nat → Nat} {k1 k2 k3 k4 tot fl : Nat} (hK : cq_K C k1 k2 k3 k4 tot) (h1 : fl ≤ C 102) (h2 : fl ≤ C 43) : cq_K (cq_aug (cq_aug C 3 10 fl) 9 3 fl) k1 k2 k3 k4 (tot + fl) := by
  obtain ⟨e1, e2, e3, e4⟩ := hK
  have c1 : cq_aug (cq_aug C 3 10 fl) 9 3 fl 102 = C 102 - fl := rfl
  have c2 : cq_aug (cq_aug C 3 10 fl) 9 3 fl 106 = C 106 := rfl
  have c3 : cq_aug (cq_aug C 3 10 fl) 9 3 fl 43 = C 43 - fl := rfl
  have c4 : cq_aug (cq_aug C 3 10 fl) 9 3 fl 87 = C 87 := rfl
  have c5 : cq_aug (cq_aug C 3 10 fl) 9 3 fl 40 = C 40 := rfl
  have c6 : cq_aug (cq_aug C 3 10 fl) 9 3 fl 80 = C 80 := rfl
  unfold cq_K
  rw [c1, c2, c3, c4, c5, c6]
  omega
theorem cq_KB {C : Nat → Nat} {k1 k2 k3 k4 tot fl : Nat} (hK : cq_K C k1 k2 k3 k4 tot) (h1 : fl ≤ C 106) (h2 : fl ≤ C 87) : cq_K (cq_aug (cq_aug C 7 10 fl) 9 7 fl) k1 k2 k3 k4 (tot + fl) := by
  obtain ⟨e1, e2, e3, e4⟩ := hK
  have c1 : cq_aug (cq_aug C 7 10 fl) 9 7 fl 102 = C 102 := rfl
  have c2 : cq_aug (cq_aug C 7 10 fl) 9 7 fl 106 = C 106 - fl := rfl
  have c3 : cq_aug (cq_aug C 7 10 fl) 9 7 fl 43 = C 43 := rfl
  have c4 : cq_aug (cq_aug C 7 10 fl) 9 7 fl 87 = C 87 - fl := rfl
  have c5 : cq_aug (cq_aug C 7 10 fl) 9 7 fl 40 = C 40 := rfl
  have c6 : cq_aug (cq_aug C 7 10 fl) 9 7 fl 80 = C 80 := rfl
  unfold cq_K
  rw [c1, c2, c3, c4, c5, c6]
  omega
theorem cq_KC {C : Nat → Nat} {k1 k2 k3 k4 tot fl : Nat} (hK : cq_K C k1 k2 k3 k4 tot) (h1 : fl ≤ C 102) (h2 : fl ≤ C 40) (h3 : fl ≤ C 87) : cq_K (cq_aug (cq_aug (cq_aug C 7 10 fl) 3 7 fl) 9 3 fl) k1 k2 k3 k4 (tot + fl) := by
  obtain ⟨e1, e2, e3, e4⟩ := hK
  have c1 : cq_aug (cq_aug (cq_aug C 7 10 fl) 3 7 fl) 9 3 fl 102 = C 102 - fl := rfl
  have c2 : cq_aug (cq_aug (cq_aug C 7 10 fl) 3 7 fl) 9 3 fl 106 = C 106 := rfl
  have c3 : cq_aug (cq_aug (cq_aug C 7 10 fl) 3 7 fl) 9 3 fl 43 = C 43 := rfl
  have c4 : cq_aug (cq_aug (cq_aug C 7 10 fl) 3 7 fl) 9 3 fl 87 = C 87 - fl := rfl
  have c5 : cq_aug (cq_aug (cq_aug C 7 10 fl) 3 7 fl) 9 3 fl 40 = C 40 - fl := rfl
  have c6 : cq_aug (cq_aug (cq_aug C 7 10 fl) 3 7 fl) 9 3 fl 80 = C 80 + fl := rfl
  unfold cq_K
  rw [c1, c2, c3, c4, c5, c6]
  omega
theorem cq_KD {C : Nat → Nat} {k1 k2 k3 k4 tot fl : Nat} (hK : cq_K C k1 k2 k3 k4 tot) (h1 : fl ≤ C 106) (h2 : fl ≤ C 80) (h3 : fl ≤ C 43) : cq_K (cq_aug (cq_aug (cq_aug C 3 10 fl) 7 3 fl) 9 7 fl) k1 k2 k3 k4 (tot + fl) := by
  obtain ⟨e1, e2, e3, e4⟩ := hK
  have c1 : cq_aug (cq_aug (cq_aug C 3 10 fl) 7 3 fl) 9 7 fl 102 = C 102 := rfl
  have c2 : cq_aug (cq_aug (cq_aug C 3 10 fl) 7 3 fl) 9 7 fl 106 = C 106 - fl := rfl
  have c3 : cq_aug (cq_aug (cq_aug C 3 10 fl) 7 3 fl) 9 7 fl 43 = C 43 - fl := rfl
  have c4 : cq_aug (cq_aug (cq_aug C 3 10 fl) 7 3 fl) 9 7 fl 87 = C 87 := rfl
  have c5 : cq_aug (cq_aug (cq_aug C 3 10 fl) 7 3 fl) 9 7 fl 40 = C 40 + fl := rfl
  have c6 : cq_aug (cq_aug (cq_aug C 3 10 fl) 7 3 fl) 9 7 fl 80 = C 80 - fl := rfl
  unfold cq_K
  rw [c1, c2, c3, c4, c5, c6]
  omega
section
variable {a1 a2 a3 a4 a5 a6 a7 rm r q : Nat → Int32} {C : Nat → Nat} {qe : Int32}
theorem cq_n8 {post : Int32 → Prop} {n m t f i : Nat} (hR : cq_rm rm C) (hB : ∀ k, C k < 2 ^ 30) (ht : t < 11) (hf : f < 11) (h9 : t ≠ 9) (hi : i < 11) (hm : m < 2 ^ 30) (hr : r t = nI f)
    (H : wX_narrowest_8 post qe a1 a2 a3 a4 a5 a6 a7 rm r q n (nI (min m (C (11 * f + t)))) (nI f) (nI (i + 1))) :
    wX_narrowest_8 post qe a1 a2 a3 a4 a5 a6 a7 rm r q (n + 1) (nI m) (nI t) (nI i) := by
  refine pk_le 11 i (fun z => absurd z (by omega)) (fun _ => pk_eq t 9 (fun z => absurd z h9) (fun _ => ⟨pk_in t 11 ht, ?_⟩))
  rw [nI_clamp (show t < 2 ^ 31 by omega), hr, cq_ix f t]
  refine ⟨pk_in (11 * f + t) 121 (by omega), ?_⟩
  rw [nI_clamp (show 11 * f + t < 2 ^ 31 by omega), hR (11 * f + t) (by omega)]
  have hc := hB (11 * f + t)
  refine nm_e (pk_le m (C (11 * f + t)) (fun z => ?_) (fun z => ?_))
  · rw [Nat.min_eq_left z] at H
    unfold wX_narrowest_50
    rw [nI_clamp (show t < 2 ^ 31 by omega), hr]
    exact ⟨pk_in t 11 ht, nm_e (nm_r (nI_1 i) H)⟩
  · rw [Nat.min_eq_right (show C (11 * f + t) ≤ m by omega)] at H
    unfold wX_narrowest_50
    rw [nI_clamp (show t < 2 ^ 31 by omega), hr]
    exact ⟨pk_in t 11 ht, nm_e (nm_r (nI_1 i) H)⟩
theorem cq_n9 {post : Int32 → Prop} {n i : Nat} {x : Int32} (hi : i < 11) (h : post x) : wX_narrowest_8 post qe a1 a2 a3 a4 a5 a6 a7 rm r q (n + 1) x (nI 9) (nI i) :=
  pk_le 11 i (fun z => absurd z (by omega)) (fun _ => br_t rfl h)
theorem cq_f39 {post : Int32 → St2 → Prop} {J : cq_J3} {x1 x2 : Int32} {n t f i fl : Nat} (hR : cq_rm rm C) (ht : t < 11) (hf : f < 11) (h9 : t ≠ 9) (hft : f ≠ t) (hi : i < 11) (hr : r t = nI f) (hfl : fl ≤ C (11 * f + t))
    (H : ∀ rm', cq_rm rm' (cq_aug C f t fl) → wX_fill_39 post J x1 x2 (nI fl) qe n (nI f) (nI (i + 1)) a1 a2 a3 a4 a5 a6 a7 rm' r q) :
    wX_fill_39 post J x1 x2 (nI fl) qe (n + 1) (nI t) (nI i) a1 a2 a3 a4 a5 a6 a7 rm r q := by
  refine pk_le 11 i (fun z => absurd z (by omega)) (fun _ => pk_eq t 9 (fun z => absurd z h9) (fun _ => ⟨pk_in t 11 ht, ?_⟩))
  rw [nI_clamp (show t < 2 ^ 31 by omega), hr]
  refine nm_e ?_
  rw [cq_ix f t, cq_ix t f]
  refine ⟨pk_in (11 * f + t) 121 (by omega), pk_in (11 * f + t) 121 (by omega), nm_e ?_⟩
  rw [nI_clamp (show 11 * f + t < 2 ^ 31 by omega), nI_clamp (show 11 * t + f < 2 ^ 31 by omega), hR (11 * f + t) (by omega), pk_sub hfl]
  exact ⟨pk_in (11 * t + f) 121 (by omega), pk_in (11 * t + f) 121 (by omega), nm_e (nm_r (nI_1 i) (H _ (cq_aug_rm hR (by omega) (by omega))))⟩
theorem cq_f9 {post : Int32 → St2 → Prop} {J : cq_J3} {x1 x2 x3 : Int32} {n i : Nat} (hi : i < 11) (h : wX_fill_106 post J x1 x2 x3 qe a1 a2 a3 a4 a5 a6 a7 rm r q) :
    wX_fill_39 post J x1 x2 x3 qe (n + 1) (nI 9) (nI i) a1 a2 a3 a4 a5 a6 a7 rm r q :=
  pk_le 11 i (fun z => absurd z (by omega)) (fun _ => br_t rfl h)
/-- a way of two lines, by x -/
theorem cq_p2 {post : Int32 → St2 → Prop} {J : cq_J3} {x1 x2 : Int32} {x : Nat} (hR : cq_rm rm C) (hB : ∀ k, C k < 2 ^ 30) (hx : x < 9) (r1 : r 10 = nI x) (r2 : r x = nI 9)
    (H : ∀ fl rm', fl = min (min 1000000 (C (11 * x + 10))) (C (11 * 9 + x)) → cq_rm rm' (cq_aug (cq_aug C x 10 fl) 9 x fl) → wX_fill_106 post J x1 x2 (nI fl) qe a1 a2 a3 a4 a5 a6 a7 rm' r q) :
    wpX_narrowest (fun r_35 => ∃ fu39 : Nat, wX_fill_39 post J x1 x2 r_35 qe fu39 10 0 a1 a2 a3 a4 a5 a6 a7 rm r q) (qe, a1, a2, a3, a4, a5, a6, a7, rm, r, q) := by
  have g1 := hB (11 * x + 10)
  have g2 := hB (11 * 9 + x)
  refine ⟨3, cq_n8 (t := 10) (f := x) (m := 1000000) (i := 0) hR hB (by omega) (by omega) (by omega) (by omega) (by omega) r1 (cq_n8 (t := x) (f := 9) (i := 1) hR hB (by omega) (by omega) (by omega) (by omega) (by omega) r2 (cq_n9 (by omega) ?_))⟩
  generalize hfl : min (min 1000000 (C (11 * x + 10))) (C (11 * 9 + x)) = fl
  have u1 : cq_aug C x 10 fl (11 * 9 + x) = C (11 * 9 + x) := by
    unfold cq_aug
    rw [cq_un (show 11 * 9 + x ≠ 11 * 10 + x by omega), cq_un (show 11 * 9 + x ≠ 11 * x + 10 by omega)]
  refine ⟨3, cq_f39 (t := 10) (f := x) (i := 0) hR (by omega) (by omega) (by omega) (by omega) (by omega) r1 (by omega) (fun rm1 h1 => ?_)⟩
  refine cq_f39 (t := x) (f := 9) (i := 1) h1 (by omega) (by omega) (by omega) (by omega) (by omega) r2 (by omega) (fun rm2 h2 => ?_)
  exact cq_f9 (by omega) (H fl rm2 hfl.symm h2)
/-- a way of three lines, by y and then x -/
theorem cq_p3 {post : Int32 → St2 → Prop} {J : cq_J3} {x1 x2 : Int32} {x y : Nat} (hR : cq_rm rm C) (hB : ∀ k, C k < 2 ^ 30) (hx : x < 9) (hy : y < 9) (hxy : x ≠ y) (r1 : r 10 = nI x) (r2 : r x = nI y) (r3 : r y = nI 9)
    (H : ∀ fl rm', fl = min (min (min 1000000 (C (11 * x + 10))) (C (11 * y + x))) (C (11 * 9 + y)) → cq_rm rm' (cq_aug (cq_aug (cq_aug C x 10 fl) y x fl) 9 y fl) → wX_fill_106 post J x1 x2 (nI fl) qe a1 a2 a3 a4 a5 a6 a7 rm' r q) :
    wpX_narrowest (fun r_35 => ∃ fu39 : Nat, wX_fill_39 post J x1 x2 r_35 qe fu39 10 0 a1 a2 a3 a4 a5 a6 a7 rm r q) (qe, a1, a2, a3, a4, a5, a6, a7, rm, r, q) := by
  have g1 := hB (11 * x + 10)
  have g2 := hB (11 * y + x)
  have g3 := hB (11 * 9 + y)
  refine ⟨4, cq_n8 (t := 10) (f := x) (m := 1000000) (i := 0) hR hB (by omega) (by omega) (by omega) (by omega) (by omega) r1 (cq_n8 (t := x) (f := y) (i := 1) hR hB (by omega) (by omega) (by omega) (by omega) (by omega) r2 (cq_n8 (t := y) (f := 9) (i := 2) hR hB (by omega) (by omega) (by omega) (by omega) (by omega) r3 (cq_n9 (by omega) ?_)))⟩
  generalize hfl : min (min (min 1000000 (C (11 * x + 10))) (C (11 * y + x))) (C (11 * 9 + y)) = fl
  have u1 : cq_aug C x 10 fl (11 * y + x) = C (11 * y + x) := by
    unfold cq_aug
    rw [cq_un (show 11 * y + x ≠ 11 * 10 + x by omega), cq_un (show 11 * y + x ≠ 11 * x + 10 by omega)]
  have u2 : cq_aug (cq_aug C x 10 fl) y x fl (11 * 9 + y) = C (11 * 9 + y) := by
    unfold cq_aug
    rw [cq_un (show 11 * 9 + y ≠ 11 * x + y by omega), cq_un (show 11 * 9 + y ≠ 11 * y + x by omega), cq_un (show 11 * 9 + y ≠ 11 * 10 + x by omega), cq_un (show 11 * 9 + y ≠ 11 * x + 10 by omega)]
  refine ⟨4, cq_f39 (t := 10) (f := x) (i := 0) hR (by omega) (by omega) (by omega) (by omega) (by omega) r1 (by omega) (fun rm1 h1 => ?_)⟩
  refine cq_f39 (t := x) (f := y) (i := 1) h1 (by omega) (by omega) (by omega) (by omega) (by omega) r2 (by omega) (fun rm2 h2 => ?_)
  refine cq_f39 (t := y) (f := 9) (i := 2) h2 (by omega) (by omega) (by omega) (by omega) (by omega) r3 (by omega) (fun rm3 h3 => ?_)
  exact cq_f9 (by omega) (H fl rm3 hfl.symm h3)
theorem cq_106 {post : Int32 → St2 → Prop} {J : cq_J3} {tot way fl : Nat} (hR : cq_rm rm C) (hS : cq_sup C) (hB : ∀ k, C k < 2 ^ 30)
    (H : ∀ qe r q, cq_R C r → J (nI (tot + fl)) (nI (way + 1)) qe a1 a2 a3 a4 a5 a6 a7 rm r q) :
    wX_fill_106 post J (nI tot) (nI way) (nI fl) qe a1 a2 a3 a4 a5 a6 a7 rm r q := by
  unfold wX_fill_106
  refine nm_r (nI_add tot fl) ?_
  refine cq_search hR hS hB (fun qe r q h => ?_) qe r q
  exact nm_r (nI_1 way) (H qe r q h)
end
end
section
/-- the invariant of fill's loop -/
def cq_I (k1 k2 k3 k4 tot way : Nat) (rm r : Nat → Int32) : Prop := ∃ C, cq_rm rm C ∧ cq_sup C ∧ (∀ k, C k ≤ 1000000 + 3 * tot) ∧ cq_K C k1 k2 k3 k4 tot ∧ cq_R C r ∧ way ≤ tot
/-- m is the least of the four cuts -/
def cq_min (k1 k2 k3 k4 m : Nat) : Prop := m ≤ k1 ∧ m ≤ k2 ∧ m ≤ k3 ∧ m ≤ k4 ∧ (m = k1 ∨ m = k2 ∨ m = k3 ∨ m = k4) ∧ m ≤ 900
theorem cq_K_le {C : Nat → Nat} {k1 k2 k3 k4 tot m : Nat} (hK : cq_K C k1 k2 k3 k4 tot) (hm : cq_min k1 k2 k3 k4 m) : tot ≤ m := by
  obtain ⟨e1, e2, e3, e4⟩ := hK
  obtain ⟨m1, m2, m3, m4, m5, m6⟩ := hm
  omega
theorem cq_K_end {C : Nat → Nat} {k1 k2 k3 k4 tot m : Nat} (hK : cq_K C k1 k2 k3 k4 tot) (hm : cq_min k1 k2 k3 k4 m) (z1 : C 102 = 0 ∨ C 43 = 0) (z2 : C 106 = 0 ∨ C 87 = 0) (z3 : C 102 = 0 ∨ C 40 = 0 ∨ C 87 = 0) (z4 : C 106 = 0 ∨ C 80 = 0 ∨ C 43 = 0) : tot = m := by
  obtain ⟨e1, e2, e3, e4⟩ := hK
  obtain ⟨m1, m2, m3, m4, m5, m6⟩ := hm
  generalize C 102 = c1 at *
  generalize C 106 = c2 at *
  generalize C 43 = c3 at *
  generalize C 87 = c4 at *
  generalize C 40 = c5 at *
  generalize C 80 = c6 at *
  omega
section
variable {post : Int32 → St2 → Prop} {a1 a2 a3 a4 a5 a6 a7 : Nat → Int32}
theorem cq_next {n k1 k2 k3 k4 m tot way fl : Nat} {C : Nat → Nat} {rm r q : Nat → Int32} {qe : Int32} (hm : cq_min k1 k2 k3 k4 m)
    (ih : ∀ tot' way' qe' rm' r' q', cq_I k1 k2 k3 k4 tot' way' rm' r' → tot < tot' → tot' ≤ m → wX_fill_10 post n (nI tot') (nI way') qe' a1 a2 a3 a4 a5 a6 a7 rm' r' q')
    (hR : cq_rm rm C) (hS : cq_sup C) (hB : ∀ k, C k ≤ 1000000 + 3 * (tot + fl)) (hK : cq_K C k1 k2 k3 k4 (tot + fl)) (hw : way ≤ tot) (hfl : 0 < fl) :
    wX_fill_106 post (wX_fill_10 post n) (nI tot) (nI way) (nI fl) qe a1 a2 a3 a4 a5 a6 a7 rm r q := by
  have hle := cq_K_le hK hm
  have h9 := hm.2.2.2.2.2
  refine cq_106 hR hS (fun k => ?_) (fun qe' r' q' h => ih (tot + fl) (way + 1) qe' rm r' q' ⟨C, hR, hS, hB, hK, h, by omega⟩ (by omega) hle)
  have := hB k
  omega
theorem cq_f10 {k1 k2 k3 k4 m : Nat} {C : Nat → Nat} {rm r q : Nat → Int32} {qe : Int32} (hm : cq_min k1 k2 k3 k4 m)
    (hR : cq_rm rm C) (hS : cq_sup C) (hB : ∀ k, C k ≤ 1000000) (hK : cq_K C k1 k2 k3 k4 0) (hr : cq_R C r)
    (H : ∀ qe rm r q, post (nI m) (qe, a1, a2, a3, a4, a5, a6, a7, rm, r, q)) :
    ∃ n, wX_fill_10 post n 0 0 qe a1 a2 a3 a4 a5 a6 a7 rm r q := by
  refine loop_m (σ := Nat × Nat × Int32 × (Nat → Int32) × (Nat → Int32) × (Nat → Int32)) (fun n t => wX_fill_10 post n (nI t.1) (nI t.2.1) t.2.2.1 a1 a2 a3 a4 a5 a6 a7 t.2.2.2.1 t.2.2.2.2.1 t.2.2.2.2.2) (fun t => cq_I k1 k2 k3 k4 t.1 t.2.1 t.2.2.2.1 t.2.2.2.2.1) (fun t => m - t.1) ?_ (0, 0, qe, rm, r, q) ⟨C, hR, hS, hB, hK, hr, Nat.le_refl 0⟩
  clear hR hS hB hK hr
  rintro n ⟨tot, way, qe, rm, r, q⟩ hI ih
  have hI : cq_I k1 k2 k3 k4 tot way rm r := hI
  have ih' : ∀ tot' way' qe' rm' r' q', cq_I k1 k2 k3 k4 tot' way' rm' r' → tot < tot' → tot' ≤ m → wX_fill_10 post n (nI tot') (nI way') qe' a1 a2 a3 a4 a5 a6 a7 rm' r' q' := fun tot' way' qe' rm' r' q' h1 h2 h3 => ih (tot', way', qe', rm', r', q') h1 (show m - tot' < m - tot by omega)
  clear ih
  obtain ⟨C, hR, hS, hB, hK, hr, hw⟩ := hI
  have hle := cq_K_le hK hm
  have h9 := hm.2.2.2.2.2
  have hB' : ∀ k, C k < 2 ^ 30 := by
    intro k
    have := hB k
    omega
  show wX_fill_10 post (n + 1) (nI tot) (nI way) qe a1 a2 a3 a4 a5 a6 a7 rm r q
  refine pk_le 1000 way (fun z => absurd z (by omega)) (fun _ => ?_)
  rcases hr with ⟨p1, p2, r1, r2⟩ | ⟨p1, p2, r1, r2⟩ | ⟨p1, p2, p3, r1, r2, r3⟩ | ⟨p1, p2, p3, r1, r2, r3⟩ | ⟨r1, z1, z2, z3, z4⟩
  · refine br_f (by rw [r1]; decide) (cq_p2 (x := 3) hR hB' (by omega) r1 r2 (fun fl rm' hfl hR' => ?_))
    have hfl : fl = min (min 1000000 (C 43)) (C 102) := hfl
    refine cq_next hm ih' hR' (cq_aug_sup (cq_aug_sup hS (by decide) (by decide)) (by decide) (by decide)) (fun k => ?_) (cq_KA hK (by omega) (by omega)) hw (by omega)
    have := cq_aug_bd (f := 9) (t := 3) (fl := fl) (cq_aug_bd (f := 3) (t := 10) (fl := fl) hB) k
    omega
  · refine br_f (by rw [r1]; decide) (cq_p2 (x := 7) hR hB' (by omega) r1 r2 (fun fl rm' hfl hR' => ?_))
    have hfl : fl = min (min 1000000 (C 87)) (C 106) := hfl
    refine cq_next hm ih' hR' (cq_aug_sup (cq_aug_sup hS (by decide) (by decide)) (by decide) (by decide)) (fun k => ?_) (cq_KB hK (by omega) (by omega)) hw (by omega)
    have := cq_aug_bd (f := 9) (t := 7) (fl := fl) (cq_aug_bd (f := 7) (t := 10) (fl := fl) hB) k
    omega
  · refine br_f (by rw [r1]; decide) (cq_p3 (x := 7) (y := 3) hR hB' (by omega) (by omega) (by omega) r1 r2 r3 (fun fl rm' hfl hR' => ?_))
    have hfl : fl = min (min (min 1000000 (C 87)) (C 40)) (C 102) := hfl
    refine cq_next hm ih' hR' (cq_aug_sup (cq_aug_sup (cq_aug_sup hS (by decide) (by decide)) (by decide) (by decide)) (by decide) (by decide)) (fun k => ?_) (cq_KC hK (by omega) (by omega) (by omega)) hw (by omega)
    have := cq_aug_bd (f := 9) (t := 3) (fl := fl) (cq_aug_bd (f := 3) (t := 7) (fl := fl) (cq_aug_bd (f := 7) (t := 10) (fl := fl) hB)) k
    omega
  · refine br_f (by rw [r1]; decide) (cq_p3 (x := 3) (y := 7) hR hB' (by omega) (by omega) (by omega) r1 r2 r3 (fun fl rm' hfl hR' => ?_))
    have hfl : fl = min (min (min 1000000 (C 43)) (C 80)) (C 106) := hfl
    refine cq_next hm ih' hR' (cq_aug_sup (cq_aug_sup (cq_aug_sup hS (by decide) (by decide)) (by decide) (by decide)) (by decide) (by decide)) (fun k => ?_) (cq_KD hK (by omega) (by omega) (by omega)) hw (by omega)
    have := cq_aug_bd (f := 9) (t := 7) (fl := fl) (cq_aug_bd (f := 7) (t := 3) (fl := fl) (cq_aug_bd (f := 3) (t := 10) (fl := fl) hB)) k
    omega
  · have e := cq_K_end hK hm z1 z2 z3 z4
    rw [e]
    exact br_t (by rw [r1]; decide) (H qe rm r q)
theorem cq_fill {k1 k2 k3 k4 m : Nat} {C : Nat → Nat} {rm r q : Nat → Int32} {qe : Int32} (hm : cq_min k1 k2 k3 k4 m)
    (hR : cq_rm rm C) (hS : cq_sup C) (hB : ∀ k, C k ≤ 1000000) (hK : cq_K C k1 k2 k3 k4 0)
    (H : ∀ qe rm r q, post (nI m) (qe, a1, a2, a3, a4, a5, a6, a7, rm, r, q)) :
    wpX_fill post (qe, a1, a2, a3, a4, a5, a6, a7, rm, r, q) := by
  refine cq_search hR hS (fun k => ?_) (fun qe r q h => ?_) qe r q
  · have := hB k
    omega
  · exact cq_f10 hm hR hS hB hK h H
end
end
section
/-- the picture of an object in the law: costs a and b, one tie t0 (16: none) with u and v -/
def cq_T (a b u v t0 : Nat) (a1 a2 a3 a4 a5 a6 a7 : Nat → Int32) : Prop :=
  (∀ p, p < 9 → a1 p = nI (if p = 3 then a else 0)) ∧ (∀ p, p < 9 → a2 p = nI (if p = 7 then b else 0)) ∧ (∀ t, t < 16 → t ≠ t0 → a3 t = 0) ∧ (t0 < 16 → a3 t0 = 1 ∧ a4 t0 = nI 3 ∧ a5 t0 = nI 7 ∧ a6 t0 = nI u ∧ a7 t0 = nI v) ∧ (16 ≤ t0 → u = 0 ∧ v = 0) ∧ a ≤ 100 ∧ b ≤ 100 ∧ u ≤ 100 ∧ v ≤ 100
def cq_B (a b i k : Nat) : Nat := if k = 43 ∧ 3 < i then a else if k = 106 ∧ 7 < i then b else 0
def cq_E (a b u v k : Nat) : Nat := if k = 43 then a else if k = 106 then b else if k = 40 then u else if k = 80 then v else 0
theorem cq_B_step {a b i : Nat} {t : Nat → Int32} (hi : i < 9) (h : cq_rm t (cq_B a b i)) : cq_rm (upd (upd t (99 + i) (nI (if i = 7 then b else 0))) (11 * i + 10) (nI (if i = 3 then a else 0))) (cq_B a b (i + 1)) := by
  intro j hj
  by_cases e : j = 11 * i + 10
  · rw [e, pk_us]
    congr 1
    unfold cq_B
    repeat' split
    all_goals omega
  · rw [pk_un e]
    by_cases e' : j = 99 + i
    · rw [e', pk_us]
      congr 1
      unfold cq_B
      repeat' split
      all_goals omega
    · rw [pk_un e', h j hj]
      congr 1
      unfold cq_B
      repeat' split
      all_goals omega
theorem cq_B_E {a b : Nat} {t : Nat → Int32} (h : cq_rm t (cq_B a b 9)) : cq_rm t (cq_E a b 0 0) := by
  intro j hj
  rw [h j hj]
  congr 1
  unfold cq_B cq_E
  repeat' split
  all_goals omega
theorem cq_E_put {a b u v : Nat} {t : Nat → Int32} (h : cq_rm t (cq_E a b 0 0)) : cq_rm (upd (upd t 40 (t 40 + nI u)) 80 (upd t 40 (t 40 + nI u) 80 + nI v)) (cq_E a b u v) := by
  intro j hj
  by_cases e : j = 80
  · rw [e, pk_us, pk_un (show (80 : Nat) ≠ 40 by decide), h 80 (by omega), nI_add]
    congr 1
    show 0 + v = v
    omega
  · rw [pk_un e]
    by_cases e' : j = 40
    · rw [e', pk_us, h 40 (by omega), nI_add]
      congr 1
      show 0 + u = u
      omega
    · rw [pk_un e', h j hj]
      congr 1
      unfold cq_E
      repeat' split
      all_goals omega
theorem cq_E_sup {a b u v : Nat} : cq_sup (cq_E a b u v) := by
  intro k hk
  simp only [cq_L, List.mem_cons, List.not_mem_nil, or_false] at hk
  unfold cq_E
  repeat' split
  all_goals omega
theorem cq_E_bd {a b u v : Nat} (ha : a ≤ 100) (hb : b ≤ 100) (hu : u ≤ 100) (hv : v ≤ 100) : ∀ k, cq_E a b u v k ≤ 1000000 := by
  intro k
  unfold cq_E
  repeat' split
  all_goals omega
theorem cq_u_sup {C : Nat → Nat} {k x : Nat} (h : cq_sup C) (hk : k ∈ cq_L) : cq_sup (cq_u C k x) := by
  intro j hj
  have e : j ≠ k := by
    intro e
    rw [e] at hj
    exact hj hk
  rw [cq_un e]
  exact h j hj
theorem cq_u_bd {C : Nat → Nat} {k : Nat} (h : ∀ k, C k ≤ 1000000) : ∀ j, cq_u C k 1000000 j ≤ 1000000 := by
  intro j
  unfold cq_u
  split
  · exact Nat.le_refl _
  · exact h j
theorem cq_u_rm {C : Nat → Nat} {k x : Nat} {rm : Nat → Int32} (h : cq_rm rm C) : cq_rm (upd rm k (nI x)) (cq_u C k x) := by
  intro j hj
  by_cases e : j = k
  · rw [e, pk_us, cq_us]
  · rw [pk_un e, cq_un e]
    exact h j hj
section
variable {a b u v t0 : Nat} {a1 a2 a3 a4 a5 a6 a7 rm r q : Nat → Int32} {qe : Int32}
theorem cq_b70 {post : St2 → Prop} (hT : cq_T a b u v t0 a1 a2 a3 a4 a5 a6 a7) (h : cq_rm rm (cq_E a b 0 0)) (H : ∀ rm, cq_rm rm (cq_E a b u v) → post (qe, a1, a2, a3, a4, a5, a6, a7, rm, r, q)) :
    ∃ n, wX_build_70 post qe n 0 a1 a2 a3 a4 a5 a6 a7 rm r q := by
  obtain ⟨T1, T2, T3, T4, T5, _⟩ := hT
  refine pk_loop (fun n i t => wX_build_70 post qe n (nI i) a1 a2 a3 a4 a5 a6 a7 t r q) (fun i t => cq_rm t (if t0 < i then cq_E a b u v else cq_E a b 0 0)) 16 0 rm (by omega) (by rw [if_neg (by omega)]; exact h) ?_ ?_
  · intro n t h
    refine pk_le 16 16 (fun _ => H t ?_) (fun z => absurd z (by omega))
    by_cases e : t0 < 16
    · rw [if_pos e] at h
      exact h
    · rw [if_neg e] at h
      obtain ⟨e1, e2⟩ := T5 (by omega)
      rw [e1, e2]
      exact h
  · intro n i t hi h hw
    have hw' : ∀ t', cq_rm t' (if t0 < i + 1 then cq_E a b u v else cq_E a b 0 0) → wX_build_70 post qe n (nI (i + 1)) a1 a2 a3 a4 a5 a6 a7 t' r q := hw
    clear hw
    show wX_build_70 post qe (n + 1) (nI i) a1 a2 a3 a4 a5 a6 a7 t r q
    refine pk_le 16 i (fun z => absurd z (by omega)) (fun _ => ⟨pk_in i 16 hi, ?_⟩)
    rw [nI_clamp (show i < 2 ^ 31 by omega)]
    by_cases e : i = t0
    · subst e
      obtain ⟨c3, c4, c5, c6, c7⟩ := T4 hi
      rw [if_neg (by omega)] at h
      rw [if_pos (by omega)] at hw'
      refine br_f (by rw [c3]; decide) ?_
      rw [c4, c5, c6, c7, cq_ix 3 7, cq_ix 7 3]
      rw [show (nI (11 * 3 + 7)).toNatClampNeg = 40 from pk_cl 40, show (nI (11 * 7 + 3)).toNatClampNeg = 80 from pk_cl 80]
      exact ⟨pk_in i 16 hi, pk_in i 16 hi, pk_in 40 121 (by omega), pk_in i 16 hi, pk_in 40 121 (by omega), nm_e ⟨pk_in i 16 hi, pk_in i 16 hi, pk_in 80 121 (by omega), pk_in i 16 hi, pk_in 80 121 (by omega), nm_e (nm_r (nI_1 i) (hw' _ (cq_E_put h)))⟩⟩
    · refine br_t (T3 i hi e) (nm_r (nI_1 i) (hw' t ?_))
      by_cases g : t0 < i
      · rw [if_pos g] at h
        rw [if_pos (by omega)]
        exact h
      · rw [if_neg g] at h
        rw [if_neg (by omega)]
        exact h
theorem cq_b23 {post : St2 → Prop} (hT : cq_T a b u v t0 a1 a2 a3 a4 a5 a6 a7) (h : ∀ j, j < 121 → rm j = 0) (H : ∀ rm, cq_rm rm (cq_E a b u v) → post (qe, a1, a2, a3, a4, a5, a6, a7, rm, r, q)) :
    ∃ n, wX_build_23 post qe n 0 a1 a2 a3 a4 a5 a6 a7 rm r q := by
  refine pk_loop (fun n i t => wX_build_23 post qe n (nI i) a1 a2 a3 a4 a5 a6 a7 t r q) (fun i t => cq_rm t (cq_B a b i)) 9 0 rm (by omega) (fun k hk => ?_) ?_ ?_
  · rw [h k hk]
    unfold cq_B
    rw [if_neg (by omega), if_neg (by omega)]
    rfl
  · intro n t h
    exact pk_le 9 9 (fun _ => cq_b70 hT (cq_B_E h) H) (fun z => absurd z (by omega))
  · intro n i t hi h hw
    show wX_build_23 post qe (n + 1) (nI i) a1 a2 a3 a4 a5 a6 a7 t r q
    have c10 : (11 : Int32) * nI i + 10 = nI (11 * i + 10) := cq_ix i 10
    refine pk_le 9 i (fun z => absurd z (by omega)) (fun _ => ?_)
    rw [cq_99 i, c10, nI_clamp (show i < 2 ^ 31 by omega), nI_clamp (show 99 + i < 2 ^ 31 by omega), nI_clamp (show 11 * i + 10 < 2 ^ 31 by omega), hT.1 i hi, hT.2.1 i hi]
    exact ⟨pk_in i 9 hi, pk_in (99 + i) 121 (by omega), nm_e ⟨pk_in i 9 hi, pk_in (11 * i + 10) 121 (by omega), nm_e (nm_r (nI_1 i) (hw _ (cq_B_step hi h)))⟩⟩
theorem cq_build {post : St2 → Prop} (hT : cq_T a b u v t0 a1 a2 a3 a4 a5 a6 a7) (H : ∀ rm, cq_rm rm (cq_E a b u v) → post (qe, a1, a2, a3, a4, a5, a6, a7, rm, r, q)) :
    wpX_build post (qe, a1, a2, a3, a4, a5, a6, a7, rm, r, q) := by
  show ∃ n, wX_build_2 post qe n 0 a1 a2 a3 a4 a5 a6 a7 rm r q
  refine pk_loop (fun n i t => wX_build_2 post qe n (nI i) a1 a2 a3 a4 a5 a6 a7 t r q) (fun i t => ∀ j, j < i → t j = 0) 121 0 rm (by omega) (fun j hj => absurd hj (by omega)) ?_ ?_
  · intro n t h
    exact pk_le 121 121 (fun _ => cq_b23 hT h H) (fun z => absurd z (by omega))
  · intro n i t hi h hw
    exact pk_le 121 i (fun z => absurd z (by omega)) (fun _ => ⟨pk_in i 121 hi, nm_e (nm_r (nI_1 i) (hw _ (cq_fil (nI_clamp (by omega)) h)))⟩)
theorem cq_force0 {post : St2 → Prop} {C : Nat → Nat} {p : Nat} {x : Int32} (hx : x = nI p) (hp : p < 9) (hR : cq_rm rm C) (H : ∀ rm, cq_rm rm (cq_u C (99 + p) 1000000) → post (qe, a1, a2, a3, a4, a5, a6, a7, rm, r, q)) :
    wpX_force post (qe, a1, a2, a3, a4, a5, a6, a7, rm, r, q) x 0 := by
  subst hx
  unfold wpX_force
  refine br_t rfl ?_
  rw [cq_99 p, nI_clamp (show 99 + p < 2 ^ 31 by omega)]
  exact ⟨pk_in (99 + p) 121 (by omega), nm_e (H _ (cq_u_rm hR))⟩
theorem cq_force1 {post : St2 → Prop} {C : Nat → Nat} {p : Nat} {x : Int32} (hx : x = nI p) (hp : p < 9) (hR : cq_rm rm C) (H : ∀ rm, cq_rm rm (cq_u C (11 * p + 10) 1000000) → post (qe, a1, a2, a3, a4, a5, a6, a7, rm, r, q)) :
    wpX_force post (qe, a1, a2, a3, a4, a5, a6, a7, rm, r, q) x 1 := by
  subst hx
  unfold wpX_force
  refine br_f (by decide) ?_
  have c10 : (11 : Int32) * nI p + 10 = nI (11 * p + 10) := cq_ix p 10
  rw [c10, nI_clamp (show 11 * p + 10 < 2 ^ 31 by omega)]
  exact ⟨pk_in (11 * p + 10) 121 (by omega), nm_e (H _ (cq_u_rm hR))⟩
theorem cq_place {post : Int32 → Prop} {p : Nat} {x : Int32} (hx : x = nI p) (hp : p < 9) (H : post 1) : wpX_isPlace post () x := by
  subst hx
  exact pk_lt p 0 (fun z => absurd z (by omega)) (fun _ => pk_lt 8 p (fun z => absurd z (by omega)) (fun _ => H))
theorem cq_iscost {post : Int32 → Prop} {p : Nat} {x : Int32} (hx : x = nI p) (hp : p ≤ 100) (H : post 1) : wpX_isCost post () x := by
  subst hx
  exact pk_lt p 0 (fun z => absurd z (by omega)) (fun _ => pk_lt 100 p (fun z => absurd z (by omega)) (fun _ => H))
theorem cq_least {post : Int32 → St2 → Prop} {m : Nat} (hT : cq_T a b u v t0 a1 a2 a3 a4 a5 a6 a7) (h1 : m ≤ a) (h2 : m ≤ b) (h3 : m ≤ v) (h4 : m = a ∨ m = b ∨ m = v) (H : ∀ qe rm r q, post (nI m) (qe, a1, a2, a3, a4, a5, a6, a7, rm, r, q)) :
    wpX_least post (qe, a1, a2, a3, a4, a5, a6, a7, rm, r, q) := by
  have hT' := hT.2.2.2.2.2
  unfold wpX_least
  refine cq_build hT (fun rm hR => ?_)
  refine cq_fill (k1 := b) (k2 := b + a + u) (k3 := v) (k4 := a) (m := m) (by unfold cq_min; omega) hR cq_E_sup (cq_E_bd hT'.1 hT'.2.1 hT'.2.2.1 hT'.2.2.2) ⟨?_, ?_, ?_, ?_⟩ H
  · show 0 + b + 0 = b
    omega
  · show b + a + u + 0 = b + a + u
    omega
  · show 0 + 0 + v + 0 = v
    omega
  · show a + 0 + 0 = a
    omega
theorem cq_with {post : Int32 → St2 → Prop} (hT : cq_T a b 0 0 t0 a1 a2 a3 a4 a5 a6 a7) (H : ∀ qe rm r q, post (nI a) (qe, a1, a2, a3, a4, a5, a6, a7, rm, r, q)) :
    wpX_with post (qe, a1, a2, a3, a4, a5, a6, a7, rm, r, q) 3 0 := by
  have hT' := hT.2.2.2.2.2
  unfold wpX_with
  refine cq_place (p := 3) rfl (by omega) (br_f (by decide) ?_)
  refine cq_build hT (fun rm hR => ?_)
  refine cq_force0 (p := 3) rfl (by omega) hR (fun rm hR => ?_)
  refine cq_fill (k1 := 1000000 + b) (k2 := b + a) (k3 := 1000000) (k4 := a) (m := a) (by unfold cq_min; omega) hR (cq_u_sup cq_E_sup (by decide)) (cq_u_bd (cq_E_bd hT'.1 hT'.2.1 hT'.2.2.1 hT'.2.2.2)) ⟨?_, ?_, ?_, ?_⟩ H
  · show 1000000 + b + 0 = 1000000 + b
    omega
  · show b + a + 0 + 0 = b + a
    omega
  · show 1000000 + 0 + 0 + 0 = 1000000
    omega
  · show a + 0 + 0 = a
    omega
theorem cq_apart {post : Int32 → St2 → Prop} {m : Nat} (hT : cq_T a b u v t0 a1 a2 a3 a4 a5 a6 a7) (hm : m = min v (a + b + u)) (H : ∀ qe rm r q, post (nI m) (qe, a1, a2, a3, a4, a5, a6, a7, rm, r, q)) :
    wpX_apart post (qe, a1, a2, a3, a4, a5, a6, a7, rm, r, q) 7 3 := by
  have hT' := hT.2.2.2.2.2
  unfold wpX_apart
  refine cq_place (p := 7) rfl (by omega) (br_f (by decide) ?_)
  refine cq_place (p := 3) rfl (by omega) (br_f (by decide) (br_f (by decide) ?_))
  refine cq_build hT (fun rm hR => ?_)
  refine cq_force0 (p := 7) rfl (by omega) hR (fun rm hR => ?_)
  refine cq_force1 (p := 3) rfl (by omega) hR (fun rm hR => ?_)
  refine cq_fill (k1 := 1000000) (k2 := 2000000 + u) (k3 := v) (k4 := 1000000) (m := v) (by unfold cq_min; omega) hR (cq_u_sup (cq_u_sup cq_E_sup (by decide)) (by decide)) (cq_u_bd (cq_u_bd (cq_E_bd hT'.1 hT'.2.1 hT'.2.2.1 hT'.2.2.2))) ⟨?_, ?_, ?_, ?_⟩ (fun qe rm r q => ?_)
  · show 0 + 1000000 + 0 = 1000000
    omega
  · show 1000000 + 1000000 + u + 0 = 2000000 + u
    omega
  · show 0 + 0 + v + 0 = v
    omega
  · show 1000000 + 0 + 0 = 1000000
    omega
  refine cq_build hT (fun rm hR => ?_)
  refine cq_force1 (p := 7) rfl (by omega) hR (fun rm hR => ?_)
  refine cq_force0 (p := 3) rfl (by omega) hR (fun rm hR => ?_)
  refine cq_fill (k1 := 1000000 + b) (k2 := a + b + u) (k3 := 2000000 + v) (k4 := a + 1000000) (m := a + b + u) (by unfold cq_min; omega) hR (cq_u_sup (cq_u_sup cq_E_sup (by decide)) (by decide)) (cq_u_bd (cq_u_bd (cq_E_bd hT'.1 hT'.2.1 hT'.2.2.1 hT'.2.2.2))) ⟨?_, ?_, ?_, ?_⟩ (fun qe rm r q => ?_)
  · show 1000000 + b + 0 = 1000000 + b
    omega
  · show b + a + u + 0 = a + b + u
    omega
  · show 1000000 + 1000000 + v + 0 = 2000000 + v
    omega
  · show a + 1000000 + 0 = a + 1000000
    omega
  refine pk_le (a + b + u) v (fun z => ?_) (fun z => ?_)
  · rw [show a + b + u = m by omega]
    exact H qe rm r q
  · rw [show v = m by omega]
    exact H qe rm r q
end
end
section
/-- bit p of a labelling, as printed -/
def cq_bit (x y : Int32) : Int32 := ((x.toUInt32 >>> (y.toUInt32 &&& Int32.toUInt32 31)).toInt32) &&& 1
section
variable {a b u v t0 : Nat} {a1 a2 a3 a4 a5 a6 a7 rm r q : Nat → Int32} {qe : Int32}
theorem cq_e101 {post : Int32 → Prop} {J : Int32 → Int32 → Prop} {x1 x4 x5 : Int32} {i s d : Nat} (hi : i < 16) (h0 : a3 i = 0 → d = 0) (h1 : ¬ a3 i = 0 → (x4 ≤ x5 → d = 0) ∧ (¬ x4 ≤ x5 → a7 i = nI d)) (H : J (nI (s + d)) (nI (i + 1))) :
    wX_energy_100 post J x1 (nI i) x4 x5 (nI s) qe a1 a2 a3 a4 a5 a6 a7 rm r q := by
  unfold wX_energy_100 wX_energy_101
  rw [nI_clamp (show i < 2 ^ 31 by omega)]
  have z0 : ∀ s : Nat, nI s + 0 = nI s := fun s => nI_add s 0
  refine nm_r (z0 s) ⟨pk_in i 16 hi, ?_⟩
  by_cases e : a3 i = 0
  · rw [h0 e] at H
    exact br_t e (nm_r (z0 s) (nm_r (nI_1 i) H))
  · refine br_f e ?_
    by_cases g : x4 ≤ x5
    · rw [(h1 e).1 g] at H
      exact br_t g (nm_r (z0 s) (nm_r (nI_1 i) H))
    · refine br_f g ⟨pk_in i 16 hi, ?_⟩
      rw [(h1 e).2 g]
      exact nm_r (nI_add s d) (nm_r (nI_1 i) H)
/-- a labelling's energy: w p what each place pays, d what the tie pays -/
theorem cq_energy {post : Int32 → Prop} {lab : Int32} {F : Nat → Nat} {d : Nat} (hT : cq_T a b u v t0 a1 a2 a3 a4 a5 a6 a7) (hF0 : F 0 = 0)
    (hF : ∀ p, p < 9 → (cq_bit lab (nI p) = 0 → nI (F p) + a1 p = nI (F (p + 1))) ∧ (¬ cq_bit lab (nI p) = 0 → nI (F p) + a2 p = nI (F (p + 1))))
    (hyx : cq_bit lab (nI 7) ≤ cq_bit lab (nI 3)) (hd : (cq_bit lab (nI 3) ≤ cq_bit lab (nI 7) → d = 0) ∧ (¬ cq_bit lab (nI 3) ≤ cq_bit lab (nI 7) → v = d))
    (H : post (nI (F 9 + d))) : wpX_energy post (qe, a1, a2, a3, a4, a5, a6, a7, rm, r, q) lab := by
  obtain ⟨T1, T2, T3, T4, T5, _⟩ := hT
  have L2 : ∃ n, wX_energy_44 post lab qe a1 a2 a3 a4 a5 a6 a7 rm r q n (nI (F 9)) 0 := by
    refine Exists.elim (pk_loop (σ := Unit) (fun n i _ => wX_energy_44 post lab qe a1 a2 a3 a4 a5 a6 a7 rm r q n (nI (F 9 + (if t0 < i then d else 0))) (nI i)) (fun _ _ => True) 16 0 () (by omega) trivial ?_ ?_) (fun n hn => ?_)
    rotate_left 2
    · have hn' : wX_energy_44 post lab qe a1 a2 a3 a4 a5 a6 a7 rm r q n (nI (F 9 + (if t0 < 0 then d else 0))) (nI 0) := hn
      rw [if_neg (by omega)] at hn'
      exact ⟨n, hn'⟩
    · intro n _ _
      show wX_energy_44 post lab qe a1 a2 a3 a4 a5 a6 a7 rm r q (n + 1) (nI (F 9 + (if t0 < 16 then d else 0))) (nI 16)
      refine pk_le 16 16 (fun _ => ?_) (fun z => absurd z (by omega))
      by_cases e : t0 < 16
      · rw [if_pos e]
        exact H
      · rw [if_neg e]
        have hv := (T5 (by omega)).2
        have hd0 : d = 0 := by
          by_cases g : cq_bit lab (nI 3) ≤ cq_bit lab (nI 7)
          · exact hd.1 g
          · have := hd.2 g
            omega
        rw [hd0] at H
        exact H
    · intro n i _ hi _ hw
      have hw' : wX_energy_44 post lab qe a1 a2 a3 a4 a5 a6 a7 rm r q n (nI (F 9 + (if t0 < i + 1 then d else 0))) (nI (i + 1)) := hw () trivial
      clear hw
      show wX_energy_44 post lab qe a1 a2 a3 a4 a5 a6 a7 rm r q (n + 1) (nI (F 9 + (if t0 < i then d else 0))) (nI i)
      refine pk_le 16 i (fun z => absurd z (by omega)) (fun _ => ⟨pk_in i 16 hi, nm_e ⟨pk_in i 16 hi, nm_e ⟨pk_in i 16 hi, ?_⟩⟩⟩)
      rw [nI_clamp (show i < 2 ^ 31 by omega)]
      by_cases e : i = t0
      · subst e
        obtain ⟨c3, c4, c5, c6, c7⟩ := T4 hi
        rw [if_neg (by omega)]
        rw [if_pos (by omega)] at hw'
        rw [c4, c5]
        refine br_f (by rw [c3]; decide) (br_t hyx (cq_e101 (d := d) hi (fun z => absurd z (by rw [c3]; decide)) (fun _ => ⟨hd.1, fun g => ?_⟩) hw'))
        rw [c7, hd.2 g]
      · have e3 := T3 i hi e
        have eq : (if t0 < i + 1 then d else 0) = (if t0 < i then d else 0) := by
          by_cases g : t0 < i
          · rw [if_pos g, if_pos (by omega)]
          · rw [if_neg g, if_neg (by omega)]
        rw [eq] at hw'
        exact br_t e3 (cq_e101 (d := 0) hi (fun _ => rfl) (fun z => absurd e3 z) hw')
  refine Exists.elim (pk_loop (σ := Unit) (fun n i _ => wX_energy_4 post lab qe a1 a2 a3 a4 a5 a6 a7 rm r q n (nI (F i)) (nI i)) (fun _ _ => True) 9 0 () (by omega) trivial ?_ ?_) (fun n hn => ?_)
  rotate_left 2
  · have hn' : wX_energy_4 post lab qe a1 a2 a3 a4 a5 a6 a7 rm r q n (nI (F 0)) (nI 0) := hn
    rw [hF0] at hn'
    exact ⟨n, hn'⟩
  · intro n _ _
    exact pk_le 9 9 (fun _ => L2) (fun z => absurd z (by omega))
  · intro n i _ hi _ hw
    show wX_energy_4 post lab qe a1 a2 a3 a4 a5 a6 a7 rm r q (n + 1) (nI (F i)) (nI i)
    refine pk_le 9 i (fun z => absurd z (by omega)) (fun _ => br_c (fun g => ⟨pk_in i 9 hi, ?_⟩) (fun g => ⟨pk_in i 9 hi, ?_⟩))
    · rw [nI_clamp (show i < 2 ^ 31 by omega)]
      exact nm_r ((hF i hi).1 g) (nm_r (nI_1 i) (hw () trivial))
    · rw [nI_clamp (show i < 2 ^ 31 by omega)]
      exact nm_r ((hF i hi).2 g) (nm_r (nI_1 i) (hw () trivial))
theorem cq_energy8 {post : Int32 → Prop} (hT : cq_T a b u v t0 a1 a2 a3 a4 a5 a6 a7) (H : post (nI v)) : wpX_energy post (qe, a1, a2, a3, a4, a5, a6, a7, rm, r, q) 8 := by
  have tb : ∀ p, p < 9 → (cq_bit 8 (nI p) = 0 → p ≠ 3) ∧ (¬ cq_bit 8 (nI p) = 0 → p ≠ 7) := by decide
  refine cq_energy (F := fun _ => 0) (d := v) hT rfl (fun p hp => ⟨fun g => ?_, fun g => ?_⟩) (by decide) ⟨fun g => absurd g (by decide), fun _ => rfl⟩ ?_
  · rw [hT.1 p hp, if_neg ((tb p hp).1 g)]
    rfl
  · rw [hT.2.1 p hp, if_neg ((tb p hp).2 g)]
    rfl
  · show post (nI (0 + v))
    rw [Nat.zero_add]
    exact H
theorem cq_energy0 {post : Int32 → Prop} (hT : cq_T a b u v t0 a1 a2 a3 a4 a5 a6 a7) (H : post (nI a)) : wpX_energy post (qe, a1, a2, a3, a4, a5, a6, a7, rm, r, q) 0 := by
  have tb : ∀ p, p < 9 → cq_bit 0 (nI p) = 0 := by decide
  refine cq_energy (F := fun i => if 3 < i then a else 0) (d := 0) hT rfl (fun p hp => ⟨fun g => ?_, fun g => absurd (tb p hp) g⟩) (by decide) ⟨fun _ => rfl, fun g => absurd (by decide) g⟩ ?_
  · rw [hT.1 p hp, nI_add]
    congr 1
    repeat' split
    all_goals omega
  · exact H
theorem cq_cost {post : Int32 → St2 → Prop} {p z o : Nat} {x y w : Int32} (hx : x = nI p) (hy : y = nI z) (hw : w = nI o) (hp : p < 9) (hz : z ≤ 100) (ho : o ≤ 100) (H : ∀ k, post k (qe, upd a1 p (nI z), upd a2 p (nI o), a3, a4, a5, a6, a7, rm, r, q)) :
    wpX_cost post (qe, a1, a2, a3, a4, a5, a6, a7, rm, r, q) x y w := by
  subst hx hy hw
  unfold wpX_cost
  refine cq_place rfl hp (br_f (by decide) (cq_iscost rfl hz (br_f (by decide) (cq_iscost rfl ho (br_f (by decide) ?_)))))
  rw [nI_clamp (show p < 2 ^ 31 by omega)]
  exact ⟨pk_in p 9 hp, nm_e ⟨pk_in p 9 hp, nm_e (H 0)⟩⟩
theorem cq_tie_ok {post : Int32 → St2 → Prop} {t c d : Nat} (ht : t < 16) (hc : c ≤ 100) (hd : d ≤ 100) (H : post 0 (qe, a1, a2, upd a3 t 1, upd a4 t 3, upd a5 t 7, upd a6 t (nI c), upd a7 t (nI d), rm, r, q)) :
    wpX_tie post (qe, a1, a2, a3, a4, a5, a6, a7, rm, r, q) (nI t) 3 7 (nI c) (nI d) := by
  unfold wpX_tie
  refine pk_lt t 0 (fun z => absurd z (by omega)) (fun _ => pk_lt 15 t (fun z => absurd z (by omega)) (fun _ => ?_))
  refine cq_place (p := 3) rfl (by omega) (br_f (by decide) (cq_place (p := 7) rfl (by omega) (br_f (by decide) (br_f (by decide) ?_))))
  refine cq_iscost rfl hc (br_f (by decide) (cq_iscost rfl hd (br_f (by decide) ?_)))
  rw [nI_clamp (show t < 2 ^ 31 by omega)]
  exact ⟨pk_in t 16 ht, nm_e ⟨pk_in t 16 ht, nm_e ⟨pk_in t 16 ht, nm_e ⟨pk_in t 16 ht, nm_e ⟨pk_in t 16 ht, nm_e H⟩⟩⟩⟩⟩
theorem cq_tie_no {post : Int32 → St2 → Prop} {x c d : Int32} (hx : x < 0 ∨ 15 < x) (H : post (-1) (qe, a1, a2, a3, a4, a5, a6, a7, rm, r, q)) :
    wpX_tie post (qe, a1, a2, a3, a4, a5, a6, a7, rm, r, q) x 3 7 c d := by
  unfold wpX_tie
  refine br_c (fun _ => H) (fun g => br_t ?_ H)
  rcases hx with h | h
  · exact absurd h g
  · exact h
theorem cq_cut_ok {post : Int32 → St2 → Prop} {t : Nat} (ht : t < 16) (h3 : a3 t = 1) (H : post 1 (qe, a1, a2, upd a3 t 0, a4, a5, a6, a7, rm, r, q)) :
    wpX_cut post (qe, a1, a2, a3, a4, a5, a6, a7, rm, r, q) (nI t) := by
  unfold wpX_cut
  refine pk_lt t 0 (fun z => absurd z (by omega)) (fun _ => pk_le t 15 (fun _ => ⟨pk_in t 16 ht, ?_⟩) (fun z => absurd z (by omega)))
  rw [nI_clamp (show t < 2 ^ 31 by omega), h3]
  refine br_f (by decide) ?_
  unfold wX_cut_26
  rw [nI_clamp (show t < 2 ^ 31 by omega)]
  exact ⟨pk_in t 16 ht, nm_e H⟩
theorem cq_cut_no {post : Int32 → St2 → Prop} {x : Int32} (hx : x < 0 ∨ 15 < x) (H : post (-1) (qe, a1, a2, a3, a4, a5, a6, a7, rm, r, q)) :
    wpX_cut post (qe, a1, a2, a3, a4, a5, a6, a7, rm, r, q) x := by
  unfold wpX_cut
  refine br_c (fun _ => H) (fun g => br_f (fun z => ?_) H)
  rcases hx with h | h
  · exact g h
  · rw [Int32.lt_iff_toInt_lt] at h
    rw [Int32.le_iff_toInt_le] at z
    omega
end
end
section
theorem cq_mod (x : Int32) : ∃ j, j ≤ 100 ∧ (x &&& 255) - (x &&& 255) / 101 * 101 = nI j := by
  obtain ⟨j, hj, e⟩ := pk_andE x (m := 255) 8 (by decide)
  refine ⟨j % 101, by omega, ?_⟩
  rw [e]
  exact pk_rem (a := j) (d := 101) (by omega) (by omega) (by omega)
section
variable {post : Int32 → St0 → Prop} {mc ms kc ks a b u v t0 : Nat} {a1 a2 a3 a4 a5 a6 a7 rm r q : Nat → Int32} {qe x4 x8 x9 x10 : Int32}
/-- what the law's flag and tie number say -/
def cq_flag (x4 x10 : Int32) (t0 : Nat) : Prop := (x10 = 0 ∧ (x4 < 0 ∨ 15 < x4) ∧ 16 ≤ t0) ∨ (¬ x10 = 0 ∧ x4 = nI t0 ∧ t0 < 16)
theorem cq_257 {z : Int32} (hT : cq_T a b 0 0 t0 a1 a2 a3 a4 a5 a6 a7) (H : post 1 ()) : wL_lawOf_257 post mc ms (nI a) z z kc ks qe a1 a2 a3 a4 a5 a6 a7 rm r q := by
  unfold wL_lawOf_257
  exact br_t rfl (cq_least (m := 0) hT (by omega) (by omega) (by omega) (by omega) (fun qe rm r q => br_t rfl (cq_with hT (fun qe rm r q => br_t rfl H))))
theorem cq_212 {z : Int32} (hT : cq_T a b u v t0 a1 a2 a3 a4 a5 a6 a7) (hc : cq_flag x4 x10 t0) (H : post 1 ()) : wL_lawOf_212 post mc ms x4 (nI a) x10 (nI v) z z kc ks qe a1 a2 a3 a4 a5 a6 a7 rm r q := by
  unfold wL_lawOf_212
  refine br_t rfl (cq_energy8 hT (br_t rfl (cq_energy0 hT (br_t rfl ?_))))
  rcases hc with ⟨e0, e4, e16⟩ | ⟨e0, e4, e16⟩
  · refine cq_cut_no e4 (br_t e0 (cq_257 (t0 := t0) (b := b) ?_ H))
    obtain ⟨u0, v0⟩ := hT.2.2.2.2.1 e16
    rw [u0, v0] at hT
    exact hT
  · subst e4
    refine cq_cut_ok e16 (hT.2.2.2.1 e16).1 (br_f e0 (cq_257 (t0 := 16) (b := b) ?_ H))
    obtain ⟨T1, T2, T3, T4, T5, ha, hb, hu, hv⟩ := hT
    refine ⟨T1, T2, fun t ht _ => ?_, fun z => absurd z (by omega), fun _ => ⟨rfl, rfl⟩, ha, hb, by omega, by omega⟩
    by_cases e : t = t0
    · rw [e, pk_us]
    · rw [pk_un e]
      exact T3 t ht e
theorem cq_187 {z0 z1 : Int32} (hT : cq_T a b u v t0 a1 a2 a3 a4 a5 a6 a7) (hc : cq_flag x4 x10 t0) (h0 : z0 = nI u) (h1 : z1 = nI (a + b)) (H : post 1 ()) : wL_lawOf_187 post mc ms x4 (nI a) x10 (nI v) z0 z1 kc ks qe a1 a2 a3 a4 a5 a6 a7 rm r q := by
  subst h0 h1
  have hT' := hT.2.2.2.2.2
  unfold wL_lawOf_187
  refine nm_r (nI_add (a + b) u) (cq_apart (m := min v (a + b + u)) hT rfl (fun qe rm r q => pk_le (a + b + u) v (fun z => ?_) (fun z => ?_)))
  · rw [Nat.min_eq_right z]
    exact cq_212 hT hc H
  · rw [Nat.min_eq_left (Nat.le_of_lt z)]
    exact cq_212 hT hc H
theorem cq_166 {z : Int32} (hT : cq_T a b u v t0 a1 a2 a3 a4 a5 a6 a7) (hc : cq_flag x4 x10 t0) (hu : (x10 = 0 → u = 0) ∧ (¬ x10 = 0 → x8 = nI u)) (H : post 1 ()) : wL_lawOf_166 post mc ms x4 (nI a) (nI b) x8 x10 (nI v) z z kc ks qe a1 a2 a3 a4 a5 a6 a7 rm r q := by
  unfold wL_lawOf_166
  exact br_t rfl (br_c (fun g => cq_187 hT hc (by rw [hu.1 g]; rfl) (nI_add a b) H) (fun g => cq_187 hT hc (hu.2 g) (nI_add a b) H))
theorem cq_145 {m : Nat} (hT : cq_T a b u v t0 a1 a2 a3 a4 a5 a6 a7) (hc : cq_flag x4 x10 t0) (hu : (x10 = 0 → u = 0) ∧ (¬ x10 = 0 → x8 = nI u)) (hm : m = min a b) (H : post 1 ()) : wL_lawOf_145 post mc ms x4 (nI a) (nI b) x8 x10 (nI v) (nI m) kc ks qe a1 a2 a3 a4 a5 a6 a7 rm r q := by
  have hT' := hT.2.2.2.2.2
  unfold wL_lawOf_145
  refine cq_least (m := min m v) hT (by omega) (by omega) (by omega) (by omega) (fun qe rm r q => pk_le m v (fun z => ?_) (fun z => ?_))
  · rw [Nat.min_eq_left z]
    exact cq_166 hT hc hu H
  · rw [Nat.min_eq_right (Nat.le_of_lt z)]
    exact cq_166 hT hc hu H
theorem cq_129 {z : Int32} (hT : cq_T a b u v t0 a1 a2 a3 a4 a5 a6 a7) (hc : cq_flag x4 x10 t0) (hu : (x10 = 0 → u = 0) ∧ (¬ x10 = 0 → x8 = nI u)) (hz : z = nI v) (H : post 1 ()) : wL_lawOf_129 post mc ms x4 (nI a) (nI b) x8 x10 z kc ks qe a1 a2 a3 a4 a5 a6 a7 rm r q := by
  subst hz
  have hT' := hT.2.2.2.2.2
  unfold wL_lawOf_129
  exact pk_le b a (fun z => cq_145 hT hc hu (by omega) H) (fun z => cq_145 hT hc hu (by omega) H)
theorem cq_113 {z : Int32} (hT : cq_T a b u v t0 a1 a2 a3 a4 a5 a6 a7) (hc : cq_flag x4 x10 t0) (hu : (x10 = 0 → u = 0) ∧ (¬ x10 = 0 → x8 = nI u)) (hv : (x10 = 0 → v = 0) ∧ (¬ x10 = 0 → x9 = nI v)) (H : post 1 ()) : wL_lawOf_113 post mc ms x4 (nI a) (nI b) x8 x9 x10 z z kc ks qe a1 a2 a3 a4 a5 a6 a7 rm r q := by
  unfold wL_lawOf_113
  exact br_t rfl (br_c (fun g => cq_129 hT hc hu (by rw [hv.1 g]; rfl) H) (fun g => cq_129 hT hc hu (hv.2 g) H))
theorem cq_87_no (hT : cq_T a b 0 0 16 a1 a2 a3 a4 a5 a6 a7) (hx : x4 < 0 ∨ 15 < x4) (H : post 1 ()) : wL_lawOf_87 post mc ms x4 (nI a) (nI b) x8 x9 0 kc ks qe a1 a2 a3 a4 a5 a6 a7 rm r q := by
  unfold wL_lawOf_87
  exact cq_tie_no hx (br_t rfl (cq_113 hT (Or.inl ⟨rfl, hx, Nat.le_refl 16⟩) ⟨fun _ => rfl, fun z => absurd rfl z⟩ ⟨fun _ => rfl, fun z => absurd rfl z⟩ H))
theorem cq_87_ok {t : Nat} (ht : t < 16) (hu : u ≤ 100) (hv : v ≤ 100) (hT : cq_T a b 0 0 16 a1 a2 a3 a4 a5 a6 a7) (H : post 1 ()) : wL_lawOf_87 post mc ms (nI t) (nI a) (nI b) (nI u) (nI v) 1 kc ks qe a1 a2 a3 a4 a5 a6 a7 rm r q := by
  unfold wL_lawOf_87
  refine cq_tie_ok ht hu hv (br_f (by decide) (cq_113 (u := u) (v := v) (t0 := t) ?_ (Or.inr ⟨by decide, rfl, ht⟩) ⟨fun z => absurd z (by decide), fun _ => rfl⟩ ⟨fun z => absurd z (by decide), fun _ => rfl⟩ H))
  obtain ⟨T1, T2, T3, T4, T5, ha, hb, _, _⟩ := hT
  refine ⟨T1, T2, fun s hs e => ?_, fun _ => ⟨pk_us, pk_us, pk_us, pk_us, pk_us⟩, fun z => absurd z (by omega), ha, hb, hu, hv⟩
  rw [pk_un e]
  exact T3 s hs (by omega)
end
theorem cq_init_T {a b : Nat} (ha : a ≤ 100) (hb : b ≤ 100) {g4 g5 g6 g7 : Nat → Int32} : cq_T a b 0 0 16 (upd (upd (fun _ => 0) 3 (nI a)) 7 (nI 0)) (upd (upd (fun _ => 0) 3 (nI 0)) 7 (nI b)) (fun _ => 0) g4 g5 g6 g7 := by
  refine ⟨fun p hp => ?_, fun p hp => ?_, fun _ _ _ => rfl, fun z => absurd z (by omega), fun _ => ⟨rfl, rfl⟩, ha, hb, by omega, by omega⟩
  · by_cases e : p = 7
    · rw [e, pk_us, if_neg (by omega)]
    · rw [pk_un e]
      by_cases e' : p = 3
      · rw [e', pk_us, if_pos rfl]
      · rw [pk_un e', if_neg e']
        rfl
  · by_cases e : p = 7
    · rw [e, pk_us, if_pos rfl]
    · rw [pk_un e, if_neg e]
      by_cases e' : p = 3
      · rw [e', pk_us]
      · rw [pk_un e']
        rfl
theorem cq_lawOf {post : Int32 → St0 → Prop} (p0 p1 p2 p3 p4 : Int32) (H : post 1 ()) : wpL_lawOf post 11 252 () p0 p1 p2 p3 p4 := by
  obtain ⟨a, ha, ea⟩ := cq_mod p0
  obtain ⟨b, hb, eb⟩ := cq_mod p1
  obtain ⟨u, hu, eu⟩ := cq_mod p2
  obtain ⟨v, hv, ev⟩ := cq_mod p3
  unfold wpL_lawOf
  refine ⟨by omega, by omega, 10, 241, by omega, by omega, ?_⟩
  unfold wpX_init
  refine ⟨by omega, by omega, by omega, by omega, by omega, by omega, by omega, by omega, by omega, by omega, by omega, by omega, by omega, by omega, by omega, by omega, by omega, by omega, by omega, by omega, ?_⟩
  refine ⟨by decide, nm_r ea ⟨by decide, nm_r eb ⟨by decide, nm_r eu ⟨by decide, nm_r ev ?_⟩⟩⟩⟩
  refine cq_cost (p := 3) (z := a) (o := 0) rfl rfl rfl (by omega) ha (by omega) (fun _ => ?_)
  refine cq_cost (p := 7) (z := 0) (o := b) rfl rfl rfl (by omega) (by omega) hb (fun _ => ?_)
  refine br_c (fun g => ?_) (fun g => br_c (fun g' => ?_) (fun g' => ?_))
  · unfold wL_lawOf_86
    exact cq_87_no (cq_init_T ha hb) (Or.inl g) H
  · unfold wL_lawOf_86
    exact cq_87_no (cq_init_T ha hb) (Or.inr g') H
  · obtain ⟨t, ht, rfl⟩ := nI_of2 (M := 15) (n := 15) (by decide) g (Int32.not_lt.mp g')
    exact cq_87_ok (by omega) hu hv (cq_init_T ha hb) H
theorem cq_cell {post : Int32 → Prop} {L : Nat} {xs : Nat → Int32} {x : Int32} (i : Nat) (hx : x = nI i) (hL : L ≤ 5) (hi : i < 5) (H : ∀ y, post y) : wpL_cellAt post L xs () x := by
  subst hx
  exact pk_le L i (fun _ => H 0) (fun z => ⟨pk_in i L z, H _⟩)
theorem i_vc (xs : Nat → Int32) (L : Nat) (hL : L ≤ 5) : wpL_law (fun r => r = 1) L xs := by
  unfold wpL_law
  exact cq_cell 0 rfl hL (by omega) (fun p0 => cq_cell 1 rfl hL (by omega) (fun p1 => cq_cell 2 rfl hL (by omega) (fun p2 => cq_cell 3 rfl hL (by omega) (fun p3 => cq_cell 4 rfl hL (by omega) (fun p4 => ⟨11, 252, by omega, by omega, cq_lawOf p0 p1 p2 p3 p4 rfl⟩)))))
end
