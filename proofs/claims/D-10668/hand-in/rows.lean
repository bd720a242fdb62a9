section
/-- the cell beside a cell, -1 beyond the edge -/
def ag_bs (c d : Nat) : Int32 := if d = 0 then (if 4 ≤ c then nI (c - 4) else -1) else if d = 1 then (if c % 4 < 3 then nI (c + 1) else -1) else if d = 2 then (if c < 8 then nI (c + 4) else -1) else (if 0 < c % 4 then nI (c - 1) else -1)
theorem ag_bs_k : ∀ c, c < 12 → ∀ d, d < 4 → ag_bs c d = -1 ∨ (ag_bs c d = nI (ag_bs c d).toNatClampNeg ∧ (ag_bs c d).toNatClampNeg < 12 ∧ ((ag_bs c d).toNatClampNeg / 4 + (ag_bs c d).toNatClampNeg % 4 + (c / 4 + c % 4)) % 2 = 1) := by decide +kernel
theorem ag_bs_u : ∀ c, c < 12 → ∀ d, d < 4 → ∀ e, e < 4 → ¬ ag_bs c d < 0 → ag_bs c e = ag_bs c d → e = d := by decide +kernel
/-- the table of steps: from a free cell to a free cell by a way out -/
def ag_T (W : Int32) (v : Nat → Int32) (c d : Nat) : Int32 := if ¬ ag_bs c d < 0 ∧ (W >>> (nI c &&& 31)) &&& 1 = 0 ∧ (W >>> (ag_bs c d &&& 31)) &&& 1 = 0 ∧ (v c >>> (nI d &&& 31)) &&& 1 = 1 then ag_bs c d else -1
/-- a table of steps: each entry is negative or a cell of the other colour -/
def ag_ok (t : Nat → Nat → Int32) : Prop := ∀ c d, c < 12 → d < 4 → t c d < 0 ∨ ∃ m, m < 12 ∧ t c d = nI m ∧ (m / 4 + m % 4 + (c / 4 + c % 4)) % 2 = 1
theorem ag_bs_ok : ag_ok ag_bs := by
  intro c d hc hd
  rcases ag_bs_k c hc d hd with h | ⟨h1, h2, h3⟩
  · exact Or.inl (by rw [h]; decide)
  · exact Or.inr ⟨_, h2, h1, h3⟩
theorem ag_T_ok (W : Int32) (v : Nat → Int32) : ag_ok (ag_T W v) := by
  intro c d hc hd
  unfold ag_T
  split
  · exact ag_bs_ok c d hc hd
  · exact Or.inl (by decide)
/-- some step from c leads to a cell with r -/
def ag_ld (t : Nat → Nat → Int32) (D : Nat → Int32) (c : Nat) (r : Int32) : Bool := (List.range 4).any (fun d => decide (¬ t c d < 0 ∧ D (t c d).toNatClampNeg = r))
theorem ag_ld_t {t : Nat → Nat → Int32} {D : Nat → Int32} {c : Nat} {r : Int32} : ag_ld t D c r = true ↔ ∃ d, d < 4 ∧ ¬ t c d < 0 ∧ D (t c d).toNatClampNeg = r := by
  unfold ag_ld
  rw [List.any_eq_true]
  constructor
  · intro ⟨d, hd, h⟩
    exact ⟨d, List.mem_range.mp hd, of_decide_eq_true h⟩
  · intro ⟨d, hd, h⟩
    exact ⟨d, List.mem_range.mpr hd, decide_eq_true h⟩
theorem ag_ld_c {t : Nat → Nat → Int32} {D E : Nat → Int32} {c : Nat} {r : Int32} (ht : ag_ok t) (hc : c < 12) (h : ∀ j, j < 12 → (D j = r ↔ E j = r)) : ag_ld t D c r = true ↔ ag_ld t E c r = true := by
  have key : ∀ d, d < 4 → ¬ t c d < 0 → (D (t c d).toNatClampNeg = r ↔ E (t c d).toNatClampNeg = r) := by
    intro d hd hn
    rcases ht c d hc hd with z | ⟨m, hm, e, _⟩
    · exact absurd z hn
    · rw [e, nI_clamp (by omega)]
      exact h m hm
  rw [ag_ld_t, ag_ld_t]
  constructor
  · intro ⟨d, hd, h1, h2⟩
    exact ⟨d, hd, h1, (key d hd h1).mp h2⟩
  · intro ⟨d, hd, h1, h2⟩
    exact ⟨d, hd, h1, (key d hd h1).mpr h2⟩
/-- distances to g after k rings -/
def ag_D (t : Nat → Nat → Int32) (g : Nat) : Nat → Nat → Int32
  | 0 => fun c => if c = g then 0 else 1000000
  | k + 1 => fun c => if ag_D t g k c = 1000000 ∧ ag_ld t (ag_D t g k) c (nI k) = true then nI (k + 1) else ag_D t g k c
theorem ag_nv {k : Nat} (h : k ≤ 12) : ¬ nI k = 1000000 := by
  intro z
  have := (nI_eq (a := k) (b := 1000000) (by omega) (by omega)).mp z
  omega
theorem ag_D_s {t : Nat → Nat → Int32} {g k c : Nat} (h : ag_D t g k c = 1000000 ∧ ag_ld t (ag_D t g k) c (nI k) = true) : ag_D t g (k + 1) c = nI (k + 1) := if_pos h
theorem ag_D_n {t : Nat → Nat → Int32} {g k c : Nat} (h : ¬ (ag_D t g k c = 1000000 ∧ ag_ld t (ag_D t g k) c (nI k) = true)) : ag_D t g (k + 1) c = ag_D t g k c := if_neg h
theorem ag_D_v {t : Nat → Nat → Int32} {g : Nat} (ht : ag_ok t) : ∀ k, k ≤ 11 → ∀ c, c < 12 → ag_D t g k c = 1000000 ∨ ∃ j, j ≤ k ∧ ag_D t g k c = nI j ∧ (j + (c / 4 + c % 4) + (g / 4 + g % 4)) % 2 = 0 := by
  intro k
  induction k with
  | zero =>
    intro _ c hc
    by_cases e : c = g
    · refine Or.inr ⟨0, Nat.le_refl 0, ?_, by rw [e]; omega⟩
      show (if c = g then (0 : Int32) else 1000000) = nI 0
      rw [if_pos e]
      rfl
    · refine Or.inl ?_
      show (if c = g then (0 : Int32) else 1000000) = 1000000
      rw [if_neg e]
  | succ k ih =>
    intro hk c hc
    by_cases h : ag_D t g k c = 1000000 ∧ ag_ld t (ag_D t g k) c (nI k) = true
    · refine Or.inr ⟨k + 1, Nat.le_refl _, ag_D_s h, ?_⟩
      obtain ⟨d, hd, h1, h2⟩ := ag_ld_t.mp h.2
      rcases ht c d hc hd with z | ⟨m, hm, e, hp⟩
      · exact absurd z h1
      · rw [e, nI_clamp (by omega)] at h2
        rcases ih (by omega) m hm with z | ⟨j, hj, ej, hpj⟩
        · exact absurd (h2.symm.trans z) (ag_nv (by omega))
        · have := (nI_eq (a := j) (b := k) (by omega) (by omega)).mp (ej.symm.trans h2)
          omega
    · rw [ag_D_n h]
      rcases ih (by omega) c hc with z | ⟨j, hj, ej, hpj⟩
      · exact Or.inl z
      · exact Or.inr ⟨j, by omega, ej, hpj⟩
theorem ag_D_k {t : Nat → Nat → Int32} {g k c : Nat} (hk : k ≤ 10) : ag_D t g (k + 1) c = nI k ↔ ag_D t g k c = nI k := by
  by_cases h : ag_D t g k c = 1000000 ∧ ag_ld t (ag_D t g k) c (nI k) = true
  · rw [ag_D_s h, h.1]
    constructor
    · intro z
      have := (nI_eq (a := k + 1) (b := k) (by omega) (by omega)).mp z
      omega
    · intro z
      exact absurd z.symm (ag_nv (by omega))
  · rw [ag_D_n h]
theorem ag_D_up {t : Nat → Nat → Int32} {g k c : Nat} (h : ¬ ag_D t g k c = 1000000) : ∀ i, ag_D t g (k + i) c = ag_D t g k c := by
  intro i
  induction i with
  | zero => rfl
  | succ i ih => exact (ag_D_n (k := k + i) (fun z => h (ih.symm.trans z.1))).trans ih
theorem ag_D_0 {t : Nat → Nat → Int32} {g : Nat} : ag_D t g 11 g = 0 := by
  have h0 : ag_D t g 0 g = 0 := if_pos rfl
  have h := ag_D_up (t := t) (g := g) (k := 0) (c := g) (by rw [h0]; decide) 11
  rw [Nat.zero_add] at h
  exact h.trans h0
theorem ag_D_1 {t : Nat → Nat → Int32} {g c d : Nat} (hg : g < 12) (hd : d < 4) (hc : c ≠ g) (h : t c d = nI g) : ag_D t g 11 c = 1 := by
  have h1 : ag_D t g 1 c = nI 1 := by
    refine ag_D_s ⟨if_neg hc, ag_ld_t.mpr ⟨d, hd, ?_, ?_⟩⟩
    · rw [h]
      exact nI_pos (by omega)
    · rw [h, nI_clamp (by omega)]
      exact if_pos rfl
  have hu := ag_D_up (t := t) (g := g) (k := 1) (c := c) (by rw [h1]; decide) 10
  exact hu.trans h1
theorem ag_D_b {t : Nat → Nat → Int32} {g c : Nat} : ∀ i, i ≤ 10 → ag_D t g (1 + i) c = nI 1 → ag_D t g 1 c = nI 1 := by
  intro i
  induction i with
  | zero => exact fun _ h => h
  | succ i ih =>
    intro hi h
    refine ih (by omega) ?_
    by_cases z : ag_D t g (1 + i) c = 1000000 ∧ ag_ld t (ag_D t g (1 + i)) c (nI (1 + i)) = true
    · have e : ag_D t g (1 + (i + 1)) c = nI (1 + i + 1) := ag_D_s z
      have := (nI_eq (a := 1 + i + 1) (b := 1) (by omega) (by omega)).mp (e.symm.trans h)
      omega
    · have e : ag_D t g (1 + (i + 1)) c = ag_D t g (1 + i) c := ag_D_n z
      exact e.symm.trans h
theorem ag_D_3 {t : Nat → Nat → Int32} {g c : Nat} (ht : ag_ok t) (hg : g < 12) (hc : c < 12) (hn : c ≠ g) (hp : (g / 4 + g % 4 + (c / 4 + c % 4)) % 2 = 1) (h : ∀ d, d < 4 → t c d ≠ nI g) : ag_D t g 11 c = 1000000 ∨ ∃ j, 3 ≤ j ∧ j ≤ 11 ∧ ag_D t g 11 c = nI j := by
  rcases ag_D_v (g := g) ht 11 (by omega) c hc with z | ⟨j, hj, ej, hpj⟩
  · exact Or.inl z
  · refine Or.inr ⟨j, ?_, hj, ej⟩
    have h1 : j ≠ 1 := by
      intro e
      rw [e] at ej
      have e1 : ag_D t g 1 c = nI 1 := ag_D_b 10 (by omega) ej
      by_cases z : ag_D t g 0 c = 1000000 ∧ ag_ld t (ag_D t g 0) c (nI 0) = true
      · obtain ⟨d, hd, q1, q2⟩ := ag_ld_t.mp z.2
        rcases ht c d hc hd with y | ⟨m, hm, em, _⟩
        · exact absurd y q1
        · rw [em, nI_clamp (by omega)] at q2
          by_cases hmg : m = g
          · exact h d hd (by rw [em, hmg])
          · have q3 : ag_D t g 0 m = 1000000 := if_neg hmg
            exact absurd (q3.symm.trans q2) (by decide)
      · have e2 : ag_D t g 1 c = ag_D t g 0 c := ag_D_n z
        have e3 : ag_D t g 0 c = 1000000 := if_neg hn
        exact absurd (e3.symm.trans (e2.symm.trans e1)) (by decide)
    omega
/-- what distance answers -/
def ag_far (t : Nat → Nat → Int32) (x y : Nat) : Int32 := if ag_D t y 11 x = 1000000 then -2 else ag_D t y 11 x
end
section
theorem ag_ix {m c d : Nat} {x : Int32} (hm : x = nI m) : x * nI c + nI d = nI (m * c + d) := by
  rw [hm, pk_mul, nI_add]
theorem ag_cu {s : Nat → Int32} {i : Nat} {x : Int32} (hi : i < 2 ^ 31) : upd s (nI i).toNatClampNeg x = upd s i x := by
  rw [nI_clamp hi]
theorem ag_fill {f s : Nat → Int32} {i : Nat} {x : Int32} (h : ∀ j, j < i → s j = f j) (hx : x = f i) : ∀ j, j < i + 1 → upd s i x j = f j := by
  intro j hj
  by_cases e : j = i
  · rw [e, pk_us, hx]
  · rw [pk_un e]
    exact h j (by omega)
theorem ag_isCell {post : Int32 → Prop} {c : Nat} (hc : c < 12) (h : post 1) : wpX_isCell post () (nI c) :=
  pk_lt c 0 (fun z => absurd z (by omega)) (fun _ => pk_le 12 c (fun z => absurd z (by omega)) (fun _ => h))
theorem ag_isCellN {post : Int32 → Prop} {x : Int32} (hx : x < 0 ∨ 12 ≤ x) (h : post 0) : wpX_isCell post () x :=
  br_c (fun _ => h) (fun z => br_t (hx.resolve_left z) h)
theorem ag_isOpen {post : Int32 → Prop} {p : Int32} {f1 f2 f3 f4 f5 f6 f7 f8 : Int32} {a1 a2 a3 a4 a5 a6 a7 a8 a9 a10 a11 a12 a13 a14 a15 a16 a17 a18 a19 a20 a21 : Nat → Int32} (h1 : (f1 >>> (p &&& 31)) &&& 1 = 0 → post 1) (h0 : ¬ (f1 >>> (p &&& 31)) &&& 1 = 0 → post 0) : wpX_isOpen post (f1, f2, f3, f4, f5, f6, f7, f8, a1, a2, a3, a4, a5, a6, a7, a8, a9, a10, a11, a12, a13, a14, a15, a16, a17, a18, a19, a20, a21) p :=
  br_c h1 h0
theorem ag_beside {post : Int32 → Prop} {c d : Nat} (hc : c < 12) (hd : d < 4) (h : post (ag_bs c d)) : wpX_beside post () (nI c) (nI d) := by
  have e1 : nI c / 4 = nI (c / 4) := pk_div (d := 4) (by omega) (by omega) (by omega)
  have e2 : nI c - nI c / 4 * 4 = nI (c % 4) := pk_rem (d := 4) (by omega) (by omega) (by omega)
  unfold wpX_beside
  refine ⟨by decide, nm_r e1 ⟨by decide, nm_r e2 ?_⟩⟩
  refine pk_lt d 0 (fun z => absurd z (by omega)) (fun _ => pk_lt 2 d (fun z => ?_) (fun z => pk_eq d 0 (fun e => ?_) (fun n0 => pk_eq d 1 (fun e => ?_) (fun n1 => pk_eq d 2 (fun e => ?_) (fun n2 => trivial)))))
  · have e : d = 3 := by omega
    subst e
    refine pk_le (c % 4) 0 (fun g => ?_) (fun g => ?_)
    · have q : ag_bs c 3 = -1 := by unfold ag_bs; rw [if_neg (by decide), if_neg (by decide), if_neg (by decide), if_neg (by omega)]
      rw [q] at h
      exact h
    · have q : ag_bs c 3 = nI (c - 1) := by unfold ag_bs; rw [if_neg (by decide), if_neg (by decide), if_neg (by decide), if_pos (by omega)]
      rw [q, ← pk_sub (a := c) (b := 1) (by omega)] at h
      exact h
  · subst e
    refine pk_le (c / 4) 0 (fun g => ?_) (fun g => ?_)
    · have q : ag_bs c 0 = -1 := by unfold ag_bs; rw [if_pos rfl, if_neg (by omega)]
      rw [q] at h
      exact h
    · have q : ag_bs c 0 = nI (c - 4) := by unfold ag_bs; rw [if_pos rfl, if_pos (by omega)]
      rw [q, ← pk_sub (a := c) (b := 4) (by omega)] at h
      exact h
  · subst e
    refine pk_le 3 (c % 4) (fun g => ?_) (fun g => ?_)
    · have q : ag_bs c 1 = -1 := by unfold ag_bs; rw [if_neg (by decide), if_pos rfl, if_neg (by omega)]
      rw [q] at h
      exact h
    · have q : ag_bs c 1 = nI (c + 1) := by unfold ag_bs; rw [if_neg (by decide), if_pos rfl, if_pos (by omega)]
      rw [q, ← nI_add c 1] at h
      exact h
  · subst e
    refine pk_le 2 (c / 4) (fun g => ?_) (fun g => ?_)
    · have q : ag_bs c 2 = -1 := by unfold ag_bs; rw [if_neg (by decide), if_neg (by decide), if_pos rfl, if_neg (by omega)]
      rw [q] at h
      exact h
    · have q : ag_bs c 2 = nI (c + 4) := by unfold ag_bs; rw [if_neg (by decide), if_neg (by decide), if_pos rfl, if_pos (by omega)]
      rw [q, ← nI_add c 4] at h
      exact h
theorem ag_60 {post : St2 → Prop} {J2 J10 : Int32 → (Nat → Int32) → (Nat → Int32) → (Nat → Int32) → (Nat → Int32) → (Nat → Int32) → (Nat → Int32) → (Nat → Int32) → (Nat → Int32) → (Nat → Int32) → (Nat → Int32) → (Nat → Int32) → (Nat → Int32) → (Nat → Int32) → (Nat → Int32) → (Nat → Int32) → (Nat → Int32) → (Nat → Int32) → (Nat → Int32) → (Nat → Int32) → (Nat → Int32) → (Nat → Int32) → Prop} {c d : Nat} {x3 z : Int32} {f1 f2 f3 f4 f5 f6 f7 f8 : Int32} {a1 a2 a3 a4 a5 a6 a7 a8 a9 a10 a11 a12 a13 a14 a15 a16 a17 a18 a19 a20 a21 : Nat → Int32} (hc : c < 12) (hd : d < 4)
    (h0 : z = 0 → J10 (nI (d + 1)) a1 a2 a3 (upd a4 (4 * c + d) (-1)) a5 a6 a7 a8 a9 a10 a11 a12 a13 a14 a15 a16 a17 a18 a19 a20 a21) (h1 : ¬ z = 0 → J10 (nI (d + 1)) a1 a2 a3 (upd a4 (4 * c + d) x3) a5 a6 a7 a8 a9 a10 a11 a12 a13 a14 a15 a16 a17 a18 a19 a20 a21) :
    wX_laySteps_60 post J2 J10 (nI c) (nI d) x3 z f1 f2 f3 f4 f5 f6 f7 f8 a1 a2 a3 a4 a5 a6 a7 a8 a9 a10 a11 a12 a13 a14 a15 a16 a17 a18 a19 a20 a21 := by
  have e : 4 * nI c + nI d = nI (4 * c + d) := ag_ix rfl
  unfold wX_laySteps_60
  rw [e, nI_clamp (by omega)]
  exact br_c (fun y => ⟨pk_in (4 * c + d) 48 (by omega), nm_e (nm_r (nI_1 d) (h0 y))⟩) (fun y => ⟨pk_in (4 * c + d) 48 (by omega), nm_e (nm_r (nI_1 d) (h1 y))⟩)
theorem ag_ls10 {post : St2 → Prop} {J2 : Int32 → (Nat → Int32) → (Nat → Int32) → (Nat → Int32) → (Nat → Int32) → (Nat → Int32) → (Nat → Int32) → (Nat → Int32) → (Nat → Int32) → (Nat → Int32) → (Nat → Int32) → (Nat → Int32) → (Nat → Int32) → (Nat → Int32) → (Nat → Int32) → (Nat → Int32) → (Nat → Int32) → (Nat → Int32) → (Nat → Int32) → (Nat → Int32) → (Nat → Int32) → (Nat → Int32) → Prop} {c : Nat} {f1 f2 f3 f4 f5 f6 f7 f8 : Int32} {a1 a2 a3 a4 a5 a6 a7 a8 a9 a10 a11 a12 a13 a14 a15 a16 a17 a18 a19 a20 a21 : Nat → Int32} (hc : c < 12) (ha : ∀ j, j < 4 * c → a4 j = ag_T f1 a1 (j / 4) (j % 4))
    (H : ∀ s, (∀ j, j < 4 * (c + 1) → s j = ag_T f1 a1 (j / 4) (j % 4)) → J2 (nI (c + 1)) a1 a2 a3 s a5 a6 a7 a8 a9 a10 a11 a12 a13 a14 a15 a16 a17 a18 a19 a20 a21) :
    ∃ n, wX_laySteps_10 post J2 (nI c) f1 f2 f3 f4 f5 f6 f7 f8 n 0 a1 a2 a3 a4 a5 a6 a7 a8 a9 a10 a11 a12 a13 a14 a15 a16 a17 a18 a19 a20 a21 := by
  refine pk_loop (fun n i s => wX_laySteps_10 post J2 (nI c) f1 f2 f3 f4 f5 f6 f7 f8 n (nI i) a1 a2 a3 s a5 a6 a7 a8 a9 a10 a11 a12 a13 a14 a15 a16 a17 a18 a19 a20 a21) (fun i s => ∀ j, j < 4 * c + i → s j = ag_T f1 a1 (j / 4) (j % 4)) 4 0 a4 (by omega) ha ?_ ?_
  · exact fun n s h => pk_le 4 4 (fun _ => nm_r (nI_1 c) (H s (fun j hj => h j (by omega)))) (fun z => absurd z (by omega))
  · intro n i s hi h hw
    have G : ∀ x, x = ag_T f1 a1 c i → ∀ j, j < 4 * c + (i + 1) → upd s (4 * c + i) x j = ag_T f1 a1 (j / 4) (j % 4) := by
      intro x ex
      refine ag_fill (f := fun j => ag_T f1 a1 (j / 4) (j % 4)) (i := 4 * c + i) h ?_
      show x = ag_T f1 a1 ((4 * c + i) / 4) ((4 * c + i) % 4)
      rw [ex, show (4 * c + i) / 4 = c by omega, show (4 * c + i) % 4 = i by omega]
    have K0 : ag_T f1 a1 c i = -1 → ∀ r, wX_laySteps_59 post J2 (wX_laySteps_10 post J2 (nI c) f1 f2 f3 f4 f5 f6 f7 f8 n) (nI c) (nI i) r f1 f2 f3 f4 f5 f6 f7 f8 a1 a2 a3 s a5 a6 a7 a8 a9 a10 a11 a12 a13 a14 a15 a16 a17 a18 a19 a20 a21 :=
      fun e r => ag_60 hc hi (fun _ => hw _ (G _ e.symm)) (fun z => absurd rfl z)
    have K1 : ag_T f1 a1 c i = ag_bs c i → wX_laySteps_60 post J2 (wX_laySteps_10 post J2 (nI c) f1 f2 f3 f4 f5 f6 f7 f8 n) (nI c) (nI i) (ag_bs c i) 1 f1 f2 f3 f4 f5 f6 f7 f8 a1 a2 a3 s a5 a6 a7 a8 a9 a10 a11 a12 a13 a14 a15 a16 a17 a18 a19 a20 a21 :=
      fun e => ag_60 hc hi (fun z => absurd z (by decide)) (fun _ => hw _ (G _ e.symm))
    refine pk_le 4 i (fun z => absurd z (by omega)) (fun _ => ag_beside hc hi ?_)
    refine br_c (fun z => K0 (if_neg (fun q => q.1 z)) _) (fun z1 => ag_isOpen (fun z2 => br_f (by decide) (ag_isOpen (fun z3 => br_f (by decide) ⟨pk_in c 12 hc, ?_⟩) (fun z3 => br_t rfl (K0 (if_neg (fun q => z3 q.2.2.1)) _)))) (fun z2 => br_t rfl (K0 (if_neg (fun q => z2 q.2.1)) _)))
    rw [nI_clamp (show c < 2 ^ 31 by omega)]
    exact br_c (fun z4 => K1 (if_pos ⟨z1, z2, z3, z4⟩)) (fun z4 => K0 (if_neg (fun q => z4 q.2.2.2)) _)
theorem ag_ls {post : St2 → Prop} {f1 f2 f3 f4 f5 f6 f7 f8 : Int32} {a1 a2 a3 a4 a5 a6 a7 a8 a9 a10 a11 a12 a13 a14 a15 a16 a17 a18 a19 a20 a21 : Nat → Int32} (H : ∀ s, (∀ j, j < 48 → s j = ag_T f1 a1 (j / 4) (j % 4)) → post (f1, f2, f3, f4, f5, f6, f7, f8, a1, a2, a3, s, a5, a6, a7, a8, a9, a10, a11, a12, a13, a14, a15, a16, a17, a18, a19, a20, a21)) : wpX_laySteps post (f1, f2, f3, f4, f5, f6, f7, f8, a1, a2, a3, a4, a5, a6, a7, a8, a9, a10, a11, a12, a13, a14, a15, a16, a17, a18, a19, a20, a21) :=
  pk_loop (fun n i s => wX_laySteps_2 post f1 f2 f3 f4 f5 f6 f7 f8 n (nI i) a1 a2 a3 s a5 a6 a7 a8 a9 a10 a11 a12 a13 a14 a15 a16 a17 a18 a19 a20 a21) (fun i s => ∀ j, j < 4 * i → s j = ag_T f1 a1 (j / 4) (j % 4)) 12 0 a4 (by omega) (fun j hj => absurd hj (by omega))
    (fun n s h => pk_le 12 12 (fun _ => H s h) (fun z => absurd z (by omega)))
    (fun n i s hi h hw => pk_le 12 i (fun z => absurd z (by omega)) (fun _ => ag_ls10 hi h hw))
end
section
theorem ag_leads {post : Int32 → Prop} {t : Nat → Nat → Int32} {c : Nat} {r : Int32} {f1 f2 f3 f4 f5 f6 f7 f8 : Int32} {a1 a2 a3 a4 a5 a6 a7 a8 a9 a10 a11 a12 a13 a14 a15 a16 a17 a18 a19 a20 a21 : Nat → Int32} (ht : ag_ok t) (hc : c < 12) (ha : ∀ j, j < 48 → a4 j = t (j / 4) (j % 4))
    (h1 : ag_ld t a6 c r = true → post 1) (h0 : ¬ ag_ld t a6 c r = true → post 0) : wpX_leadsTo post (f1, f2, f3, f4, f5, f6, f7, f8, a1, a2, a3, a4, a5, a6, a7, a8, a9, a10, a11, a12, a13, a14, a15, a16, a17, a18, a19, a20, a21) (nI c) r := by
  refine pk_loop (σ := Unit) (fun n i _ => wX_leadsTo_2 post (nI c) r f1 f2 f3 f4 f5 f6 f7 f8 a1 a2 a3 a4 a5 a6 a7 a8 a9 a10 a11 a12 a13 a14 a15 a16 a17 a18 a19 a20 a21 n (nI i)) (fun i _ => ∀ d, d < i → ¬ (¬ t c d < 0 ∧ a6 (t c d).toNatClampNeg = r)) 4 0 () (by omega) (fun d hd => absurd hd (by omega)) ?_ ?_
  · exact fun n _ h => pk_le 4 4 (fun _ => h0 (fun z => Exists.elim (ag_ld_t.mp z) (fun d q => h d q.1 q.2))) (fun z => absurd z (by omega))
  · intro n i _ hi h hw
    have e : 4 * nI c + nI i = nI (4 * c + i) := ag_ix rfl
    have e4 : a4 (4 * c + i) = t c i := by rw [ha _ (by omega), show (4 * c + i) / 4 = c by omega, show (4 * c + i) % 4 = i by omega]
    refine pk_le 4 i (fun z => absurd z (by omega)) (fun _ => ?_)
    rw [e, nI_clamp (show 4 * c + i < 2 ^ 31 by omega), e4]
    refine ⟨pk_in (4 * c + i) 48 (by omega), nm_e ?_⟩
    rcases ht c i hc hi with z | ⟨m, hm, em, _⟩
    · exact br_t z (nm_r (nI_1 i) (hw () (lt_s h (fun q => q.1 z))))
    · have n0 : ¬ t c i < 0 := by rw [em]; exact nI_pos (by omega)
      refine br_f n0 ⟨pk_in m 12 hm em, br_c (fun q => h1 (ag_ld_t.mpr ⟨i, hi, n0, q⟩)) (fun q => nm_r (nI_1 i) (hw () (lt_s h (fun y => q y.2))))⟩
theorem ag_fd41 {post : St2 → Prop} {J33 : Int32 → (Nat → Int32) → (Nat → Int32) → (Nat → Int32) → (Nat → Int32) → (Nat → Int32) → (Nat → Int32) → (Nat → Int32) → (Nat → Int32) → (Nat → Int32) → (Nat → Int32) → (Nat → Int32) → (Nat → Int32) → (Nat → Int32) → (Nat → Int32) → (Nat → Int32) → (Nat → Int32) → (Nat → Int32) → (Nat → Int32) → (Nat → Int32) → (Nat → Int32) → (Nat → Int32) → Prop} {t : Nat → Nat → Int32} {g k : Nat} {f1 f2 f3 f4 f5 f6 f7 f8 : Int32} {a1 a2 a3 a4 a5 a6 a7 a8 a9 a10 a11 a12 a13 a14 a15 a16 a17 a18 a19 a20 a21 : Nat → Int32} (ht : ag_ok t) (hk : k ≤ 10) (ha : ∀ j, j < 48 → a4 j = t (j / 4) (j % 4)) (h6 : ∀ j, j < 12 → a6 j = ag_D t g k j)
    (H : ∀ s, (∀ j, j < 12 → s j = ag_D t g (k + 1) j) → J33 (nI (k + 1 + 1)) a1 a2 a3 a4 a5 s a7 a8 a9 a10 a11 a12 a13 a14 a15 a16 a17 a18 a19 a20 a21) : ∃ n, wX_findDistances_41 post J33 (nI (k + 1)) f1 f2 f3 f4 f5 f6 f7 f8 n 0 a1 a2 a3 a4 a5 a6 a7 a8 a9 a10 a11 a12 a13 a14 a15 a16 a17 a18 a19 a20 a21 := by
  refine pk_loop (fun n i s => wX_findDistances_41 post J33 (nI (k + 1)) f1 f2 f3 f4 f5 f6 f7 f8 n (nI i) a1 a2 a3 a4 a5 s a7 a8 a9 a10 a11 a12 a13 a14 a15 a16 a17 a18 a19 a20 a21) (fun i s => ∀ j, j < 12 → (j < i → s j = ag_D t g (k + 1) j) ∧ (i ≤ j → s j = ag_D t g k j)) 12 0 a6 (by omega) (fun j hj => ⟨fun z => absurd z (by omega), fun _ => h6 j hj⟩) ?_ ?_
  · exact fun n s h => pk_le 12 12 (fun _ => nm_r (nI_1 (k + 1)) (H s (fun j hj => (h j hj).1 hj))) (fun z => absurd z (by omega))
  · intro n i s hi h hw
    have ei : s i = ag_D t g k i := (h i hi).2 (Nat.le_refl i)
    have el : ag_ld t s i (nI k) = true ↔ ag_ld t (ag_D t g k) i (nI k) = true := by
      refine ag_ld_c ht hi (fun j hj => ?_)
      by_cases z : j < i
      · rw [(h j hj).1 z]
        exact ag_D_k hk
      · rw [(h j hj).2 (by omega)]
    have keep : ag_D t g (k + 1) i = ag_D t g k i → ∀ j, j < 12 → (j < i + 1 → s j = ag_D t g (k + 1) j) ∧ (i + 1 ≤ j → s j = ag_D t g k j) := by
      intro e j hj
      refine ⟨fun z => ?_, fun z => (h j hj).2 (by omega)⟩
      by_cases y : j = i
      · rw [y, e, ei]
      · exact (h j hj).1 (by omega)
    have put : ag_D t g (k + 1) i = nI (k + 1) → ∀ j, j < 12 → (j < i + 1 → upd s i (nI (k + 1)) j = ag_D t g (k + 1) j) ∧ (i + 1 ≤ j → upd s i (nI (k + 1)) j = ag_D t g k j) := by
      intro e j hj
      refine ⟨fun z => ?_, fun z => ?_⟩
      · by_cases y : j = i
        · rw [y, pk_us, e]
        · rw [pk_un y]
          exact (h j hj).1 (by omega)
      · rw [pk_un (show j ≠ i by omega)]
        exact (h j hj).2 (by omega)
    have em : nI (k + 1) - 1 = nI k := nI_pred k
    refine pk_le 12 i (fun z => absurd z (by omega)) (fun _ => ?_)
    rw [nI_clamp (show i < 2 ^ 31 by omega), em]
    refine ⟨pk_in i 12 hi, br_c (fun z => ?_) (fun z => nm_r (nI_1 i) (hw s (keep (ag_D_n (fun q => z (ei.trans q.1))))))⟩
    refine ag_leads ht hi ha (fun q => ?_) (fun q => ?_)
    · exact br_f (by decide) ⟨pk_in i 12 hi, nm_e (nm_r (nI_1 i) (hw _ (put (ag_D_s ⟨ei.symm.trans z, el.mp q⟩))))⟩
    · exact br_t rfl (nm_r (nI_1 i) (hw s (keep (ag_D_n (fun y => q (el.mpr y.2))))))
theorem ag_fd33 {post : St2 → Prop} {t : Nat → Nat → Int32} {g : Nat} {f1 f2 f3 f4 f5 f6 f7 f8 : Int32} {a1 a2 a3 a4 a5 a6 a7 a8 a9 a10 a11 a12 a13 a14 a15 a16 a17 a18 a19 a20 a21 : Nat → Int32} (ht : ag_ok t) (ha : ∀ j, j < 48 → a4 j = t (j / 4) (j % 4)) (h6 : ∀ j, j < 12 → a6 j = ag_D t g 0 j)
    (H : ∀ s, (∀ j, j < 12 → s j = ag_D t g 11 j) → post (f1, f2, f3, f4, f5, f6, f7, f8, a1, a2, a3, a4, a5, s, a7, a8, a9, a10, a11, a12, a13, a14, a15, a16, a17, a18, a19, a20, a21)) : ∃ n, wX_findDistances_33 post f1 f2 f3 f4 f5 f6 f7 f8 n 1 a1 a2 a3 a4 a5 a6 a7 a8 a9 a10 a11 a12 a13 a14 a15 a16 a17 a18 a19 a20 a21 :=
  pk_loop (fun n i s => wX_findDistances_33 post f1 f2 f3 f4 f5 f6 f7 f8 n (nI (i + 1)) a1 a2 a3 a4 a5 s a7 a8 a9 a10 a11 a12 a13 a14 a15 a16 a17 a18 a19 a20 a21) (fun i s => ∀ j, j < 12 → s j = ag_D t g i j) 11 0 a6 (by omega) h6
    (fun n s h => pk_le 12 12 (fun _ => H s h) (fun z => absurd z (by omega)))
    (fun n i s hi h hw => pk_le 12 (i + 1) (fun z => absurd z (by omega)) (fun _ => ag_fd41 ht (by omega) ha h hw))
theorem ag_fd {post : St2 → Prop} {t : Nat → Nat → Int32} {g : Nat} {f1 f2 f3 f4 f5 f6 f7 f8 : Int32} {a1 a2 a3 a4 a5 a6 a7 a8 a9 a10 a11 a12 a13 a14 a15 a16 a17 a18 a19 a20 a21 : Nat → Int32} (ht : ag_ok t) (hg : g < 12) (ha : ∀ j, j < 48 → a4 j = t (j / 4) (j % 4))
    (H : ∀ s, (∀ j, j < 12 → s j = ag_D t g 11 j) → post (f1, f2, f3, f4, f5, f6, f7, f8, a1, a2, a3, a4, a5, s, a7, a8, a9, a10, a11, a12, a13, a14, a15, a16, a17, a18, a19, a20, a21)) : wpX_findDistances post (f1, f2, f3, f4, f5, f6, f7, f8, a1, a2, a3, a4, a5, a6, a7, a8, a9, a10, a11, a12, a13, a14, a15, a16, a17, a18, a19, a20, a21) (nI g) :=
  pk_loop (fun n i s => wX_findDistances_2 post (nI g) f1 f2 f3 f4 f5 f6 f7 f8 n (nI i) a1 a2 a3 a4 a5 s a7 a8 a9 a10 a11 a12 a13 a14 a15 a16 a17 a18 a19 a20 a21) (fun i s => ∀ j, j < i → s j = ag_D t g 0 j) 12 0 a6 (by omega) (fun j hj => absurd hj (by omega))
    (fun n s h => pk_le 12 12 (fun _ => ag_fd33 ht ha h H) (fun z => absurd z (by omega)))
    (fun n i s hi h hw => pk_le 12 i (fun z => absurd z (by omega)) (fun _ => pk_eq i g
      (fun e => ⟨pk_in i 12 hi, nm_r (ag_cu (by omega)) (nm_r (nI_1 i) (hw _ (ag_fill h (if_pos e).symm)))⟩)
      (fun e => ⟨pk_in i 12 hi, nm_r (ag_cu (by omega)) (nm_r (nI_1 i) (hw _ (ag_fill h (if_neg e).symm)))⟩)))
theorem ag_dist {post : Int32 → St2 → Prop} {x y : Nat} {f1 f2 f3 f4 f5 f6 f7 f8 : Int32} {a1 a2 a3 a4 a5 a6 a7 a8 a9 a10 a11 a12 a13 a14 a15 a16 a17 a18 a19 a20 a21 : Nat → Int32} (hx : x < 12) (hy : y < 12)
    (h1 : ¬ ((f1 >>> (nI x &&& 31)) &&& 1 = 0 ∧ (f1 >>> (nI y &&& 31)) &&& 1 = 0) → post (-1) (f1, f2, f3, f4, f5, f6, f7, f8, a1, a2, a3, a4, a5, a6, a7, a8, a9, a10, a11, a12, a13, a14, a15, a16, a17, a18, a19, a20, a21))
    (h2 : ((f1 >>> (nI x &&& 31)) &&& 1 = 0 ∧ (f1 >>> (nI y &&& 31)) &&& 1 = 0) → ∀ s4 s6, post (ag_far (ag_T f1 a1) x y) (f1, f2, f3, f4, f5, f6, f7, f8, a1, a2, a3, s4, a5, s6, a7, a8, a9, a10, a11, a12, a13, a14, a15, a16, a17, a18, a19, a20, a21)) : wpX_distance post (f1, f2, f3, f4, f5, f6, f7, f8, a1, a2, a3, a4, a5, a6, a7, a8, a9, a10, a11, a12, a13, a14, a15, a16, a17, a18, a19, a20, a21) (nI x) (nI y) := by
  unfold wpX_distance
  refine ag_isCell hx (br_f (by decide) (ag_isCell hy (br_f (by decide) (ag_isOpen (fun z1 => br_f (by decide) (ag_isOpen (fun z2 => br_f (by decide) (ag_ls (fun s4 e4 => ag_fd (ag_T_ok _ _) hy e4 (fun s6 e6 => ?_)))) (fun z2 => br_t rfl (h1 (fun q => z2 q.2))))) (fun z1 => br_t rfl (h1 (fun q => z1 q.1)))))))
  have h := h2 ⟨z1, z2⟩ s4 s6
  show vp_in (nI x) 12 ∧ ((s6 (nI x).toNatClampNeg = 1000000 → post (-2) (f1, f2, f3, f4, f5, f6, f7, f8, a1, a2, a3, s4, a5, s6, a7, a8, a9, a10, a11, a12, a13, a14, a15, a16, a17, a18, a19, a20, a21)) ∧ (¬ s6 (nI x).toNatClampNeg = 1000000 → vp_in (nI x) 12 ∧ post (s6 (nI x).toNatClampNeg) (f1, f2, f3, f4, f5, f6, f7, f8, a1, a2, a3, s4, a5, s6, a7, a8, a9, a10, a11, a12, a13, a14, a15, a16, a17, a18, a19, a20, a21)))
  rw [nI_clamp (show x < 2 ^ 31 by omega), e6 x hx]
  refine ⟨pk_in x 12 hx, br_c (fun z => ?_) (fun z => ⟨pk_in x 12 hx, ?_⟩)⟩
  · rw [show ag_far (ag_T f1 a1) x y = -2 from if_pos z] at h
    exact h
  · rw [show ag_far (ag_T f1 a1) x y = ag_D (ag_T f1 a1) y 11 x from if_neg z] at h
    exact h
end
section
theorem ag_c1 : (1 : Int32).toNatClampNeg = 1 := by decide
theorem ag_c2 : (2 : Int32).toNatClampNeg = 2 := by decide
theorem ag_p0 : (0 : Int32) + 1 = 1 := by decide
theorem ag_p1 : (1 : Int32) + 1 = 2 := by decide
theorem ag_p2 : (2 : Int32) + 1 = 3 := by decide
theorem ag_12 (c : Nat) : (12 : Int32) * 1 + nI c = nI (12 + c) := ag_ix (m := 12) (c := 1) (d := c) rfl
theorem ag_set {post : Int32 → St2 → Prop} {x y : Nat} {f1 f2 f3 f4 f5 f6 f7 f8 : Int32} {a1 a2 a3 a4 a5 a6 a7 a8 a9 a10 a11 a12 a13 a14 a15 a16 a17 a18 a19 a20 a21 : Nat → Int32} (hx : x < 12) (hy : y < 12)
    (h : post 1 (f1, f2 ||| ((1 : Int32) <<< ((1 : Int32) &&& 31)), f3, f4, f5, f6, f7, f8, a1, upd a2 1 (nI x), upd a3 1 (nI y), a4, a5, a6, a7, a8, a9, a10, a11, a12, a13, a14, a15, a16, a17, a18, a19, a20, a21)) : wpX_set post (f1, f2, f3, f4, f5, f6, f7, f8, a1, a2, a3, a4, a5, a6, a7, a8, a9, a10, a11, a12, a13, a14, a15, a16, a17, a18, a19, a20, a21) 1 (nI x) (nI y) := by
  unfold wpX_set
  exact br_f (by decide) (br_t (by decide) (ag_isCell hx (br_f (by decide) (ag_isCell hy (br_f (by decide) (nm_e ⟨pk_in 1 3 (by omega), nm_r (show upd a2 (1 : Int32).toNatClampNeg (nI x) = upd a2 1 (nI x) from by rw [ag_c1]) ⟨pk_in 1 3 (by omega), nm_r (show upd a3 (1 : Int32).toNatClampNeg (nI y) = upd a3 1 (nI y) from by rw [ag_c1]) h⟩⟩))))))
theorem ag_ready {post : Int32 → Prop} {x y : Nat} {f1 f2 f3 f4 f5 f6 f7 f8 : Int32} {a1 a2 a3 a4 a5 a6 a7 a8 a9 a10 a11 a12 a13 a14 a15 a16 a17 a18 a19 a20 a21 : Nat → Int32} (h2 : a2 1 = nI x) (h3 : a3 1 = nI y) (hp : f2 = 2)
    (H1 : f1 &&& (((1 : Int32) <<< (nI x &&& 31)) ||| ((1 : Int32) <<< (nI y &&& 31))) = 0 → post 1)
    (H0 : ¬ f1 &&& (((1 : Int32) <<< (nI x &&& 31)) ||| ((1 : Int32) <<< (nI y &&& 31))) = 0 → post 0) : wpX_isReady post (f1, f2, f3, f4, f5, f6, f7, f8, a1, a2, a3, a4, a5, a6, a7, a8, a9, a10, a11, a12, a13, a14, a15, a16, a17, a18, a19, a20, a21) 2 := by
  subst hp
  unfold wpX_isReady
  refine br_f (by decide) (br_f (by decide) (br_t (by decide) ⟨4, ?_⟩))
  refine br_f (by decide) (br_f (by decide) (nm_r ag_p0 ?_))
  refine br_f (by decide) (br_t (by decide) ?_)
  rw [ag_c1, h2, h3]
  refine ⟨pk_in 1 3 (by omega), nm_e ⟨pk_in 1 3 (by omega), nm_e (br_t Int32.zero_and (br_t Int32.zero_and (br_c (fun z => ?_) H0)))⟩⟩
  refine nm_e (nm_e (nm_r ag_p1 ?_))
  exact br_f (by decide) (br_f (by decide) (nm_r ag_p2 (br_t (by decide) (H1 z))))
theorem ag_fgd32 {post : St2 → Prop} {J6 : Int32 → Int32 → Int32 → Int32 → Int32 → Int32 → Int32 → Int32 → Int32 → (Nat → Int32) → (Nat → Int32) → (Nat → Int32) → (Nat → Int32) → (Nat → Int32) → (Nat → Int32) → (Nat → Int32) → (Nat → Int32) → (Nat → Int32) → (Nat → Int32) → (Nat → Int32) → (Nat → Int32) → (Nat → Int32) → (Nat → Int32) → (Nat → Int32) → (Nat → Int32) → (Nat → Int32) → (Nat → Int32) → (Nat → Int32) → (Nat → Int32) → (Nat → Int32) → Prop} {D : Nat → Int32} {f1 f2 f3 f4 f5 f6 f7 f8 : Int32} {a1 a2 a3 a4 a5 a6 a7 a8 a9 a10 a11 a12 a13 a14 a15 a16 a17 a18 a19 a20 a21 : Nat → Int32} (h6 : ∀ j, j < 12 → a6 j = D j)
    (H : ∀ s, (∀ j, j < 12 → s (12 + j) = D j) → J6 2 f1 f2 f3 f4 f5 f6 f7 f8 a1 a2 a3 a4 s a6 a7 a8 a9 a10 a11 a12 a13 a14 a15 a16 a17 a18 a19 a20 a21) : ∃ n, wX_findGoalDistances_32 post J6 2 1 f1 f2 f3 f4 f5 f6 f7 f8 n 0 a1 a2 a3 a4 a5 a6 a7 a8 a9 a10 a11 a12 a13 a14 a15 a16 a17 a18 a19 a20 a21 := by
  refine pk_loop (fun n i s => wX_findGoalDistances_32 post J6 2 1 f1 f2 f3 f4 f5 f6 f7 f8 n (nI i) a1 a2 a3 a4 s a6 a7 a8 a9 a10 a11 a12 a13 a14 a15 a16 a17 a18 a19 a20 a21) (fun i s => ∀ j, j < i → s (12 + j) = D j) 12 0 a5 (by omega) (fun j hj => absurd hj (by omega)) ?_ ?_
  · exact fun n s h => pk_le 12 12 (fun _ => nm_r ag_p1 (H s h)) (fun z => absurd z (by omega))
  · intro n i s hi h hw
    refine pk_le 12 i (fun z => absurd z (by omega)) (fun _ => ?_)
    rw [ag_12, nI_clamp (show 12 + i < 2 ^ 31 by omega), nI_clamp (show i < 2 ^ 31 by omega), h6 i hi]
    refine ⟨pk_in i 12 hi, pk_in (12 + i) 36 (by omega), nm_e (nm_r (nI_1 i) (hw _ ?_))⟩
    intro j hj
    by_cases e : j = i
    · rw [e, pk_us]
    · rw [pk_un (show 12 + j ≠ 12 + i by omega)]
      exact h j (by omega)
theorem ag_fgd {post : St2 → Prop} {y : Nat} {f1 f2 f3 f4 f5 f6 f7 f8 : Int32} {a1 a2 a3 a4 a5 a6 a7 a8 a9 a10 a11 a12 a13 a14 a15 a16 a17 a18 a19 a20 a21 : Nat → Int32} (hy : y < 12) (h3 : a3 1 = nI y)
    (H : ∀ s4 s5 s6, (∀ j, j < 48 → s4 j = ag_T f1 a1 (j / 4) (j % 4)) → (∀ j, j < 12 → s5 (12 + j) = ag_D (ag_T f1 a1) y 11 j) → post (f1, f2, f3, f4, f5, f6, f7, f8, a1, a2, a3, s4, s5, s6, a7, a8, a9, a10, a11, a12, a13, a14, a15, a16, a17, a18, a19, a20, a21)) : wpX_findGoalDistances post (f1, f2, f3, f4, f5, f6, f7, f8, a1, a2, a3, a4, a5, a6, a7, a8, a9, a10, a11, a12, a13, a14, a15, a16, a17, a18, a19, a20, a21) 2 := by
  unfold wpX_findGoalDistances
  refine ag_ls (fun s4 e4 => ?_)
  show ∃ n, wX_findGoalDistances_6 post 2 n 0 f1 f2 f3 f4 f5 f6 f7 f8 a1 a2 a3 s4 a5 a6 a7 a8 a9 a10 a11 a12 a13 a14 a15 a16 a17 a18 a19 a20 a21
  refine ⟨4, br_f (by decide) (br_f (by decide) (nm_r ag_p0 ?_))⟩
  refine br_f (by decide) (br_t (by decide) ⟨pk_in 1 3 (by omega), ?_⟩)
  rw [ag_c1, h3]
  refine ag_fd (ag_T_ok _ _) hy e4 (fun s6 e6 => ag_fgd32 e6 (fun s5 e5 => ?_))
  exact br_f (by decide) (br_f (by decide) (nm_r ag_p2 (br_t (by decide) (H s4 s5 s6 e4 e5))))
theorem ag_len {post : Int32 → Prop} {x : Nat} {v : Int32} {f1 f2 f3 f4 f5 f6 f7 f8 : Int32} {a1 a2 a3 a4 a5 a6 a7 a8 a9 a10 a11 a12 a13 a14 a15 a16 a17 a18 a19 a20 a21 : Nat → Int32} (hx : x < 12) (h2 : a2 1 = nI x) (h5 : a5 (12 + x) = v) (H : post v) : wpX_lengthAlone post (f1, f2, f3, f4, f5, f6, f7, f8, a1, a2, a3, a4, a5, a6, a7, a8, a9, a10, a11, a12, a13, a14, a15, a16, a17, a18, a19, a20, a21) 1 := by
  show vp_in 1 3 ∧ (vp_in (12 * 1 + a2 (1 : Int32).toNatClampNeg) 36 ∧ post (a5 (12 * 1 + a2 (1 : Int32).toNatClampNeg).toNatClampNeg))
  rw [ag_c1, h2, ag_12, nI_clamp (show 12 + x < 2 ^ 31 by omega), h5]
  exact ⟨pk_in 1 3 (by omega), pk_in (12 + x) 36 (by omega), H⟩
theorem ag_al {post : Int32 → Prop} {m s : Int32} {n : Nat} {f1 f2 f3 f4 f5 f6 f7 f8 : Int32} {a1 a2 a3 a4 a5 a6 a7 a8 a9 a10 a11 a12 a13 a14 a15 a16 a17 a18 a19 a20 a21 : Nat → Int32} (hs : s = m) (h1 : m = 1000000 → post (-2)) (h0 : ¬ m = 1000000 → post m) : wX_alone_7 post 2 f1 f2 f3 f4 f5 f6 f7 f8 a1 a2 a3 a4 a5 a6 a7 a8 a9 a10 a11 a12 a13 a14 a15 a16 a17 a18 a19 a20 a21 (n + 1 + 1) m s 2 :=
  br_f (by decide) (br_f (by decide) (nm_r ag_p2 (br_t (by decide) (br_c h1 (fun z => br_c (fun _ => h0 z) (fun _ => ek_v (P := post) hs (h0 z)))))))
theorem ag_alone {post : Int32 → Prop} {t : Nat → Nat → Int32} {x y : Nat} {f1 f2 f3 f4 f5 f6 f7 f8 : Int32} {a1 a2 a3 a4 a5 a6 a7 a8 a9 a10 a11 a12 a13 a14 a15 a16 a17 a18 a19 a20 a21 : Nat → Int32} (ht : ag_ok t) (hx : x < 12) (h2 : a2 1 = nI x) (h5 : ∀ j, j < 12 → a5 (12 + j) = ag_D t y 11 j) (H : post (ag_far t x y)) : wpX_alone post (f1, f2, f3, f4, f5, f6, f7, f8, a1, a2, a3, a4, a5, a6, a7, a8, a9, a10, a11, a12, a13, a14, a15, a16, a17, a18, a19, a20, a21) 2 := by
  have p1 : ag_D t y 11 x = 1000000 → post (-2) := fun z => ek_v (P := post) (if_pos z).symm H
  have p0 : ¬ ag_D t y 11 x = 1000000 → post (ag_D t y 11 x) := fun z => ek_v (P := post) (if_neg z).symm H
  have d0 : ag_D t y 11 x ≤ 0 → ag_D t y 11 x = 0 := by
    intro q
    rcases ag_D_v (g := y) ht 11 (by omega) x hx with z | ⟨j, hj, ej, _⟩
    · rw [z] at q
      exact absurd q (by decide)
    · rw [ej] at q ⊢
      have := (nI_leI (a := j) (b := 0) (by omega) (by omega)).mp q
      rw [show j = 0 by omega]
      rfl
  show ∃ n, wX_alone_7 post 2 f1 f2 f3 f4 f5 f6 f7 f8 a1 a2 a3 a4 a5 a6 a7 a8 a9 a10 a11 a12 a13 a14 a15 a16 a17 a18 a19 a20 a21 n 0 0 0
  refine ⟨4, br_f (by decide) (br_f (by decide) (nm_r ag_p0 (br_f (by decide) (br_t (by decide) (ag_len hx h2 (h5 x hx) ?_)))))⟩
  refine br_c (fun q => nm_e (nm_r ag_p1 (ag_al (by rw [d0 q]; decide) (fun z => absurd z (by decide)) (fun z => ?_)))) (fun q => nm_e (nm_r ag_p1 (ag_al (Int32.zero_add _) p1 p0)))
  have h := p0 (by rw [d0 q]; decide)
  rw [d0 q] at h
  exact h
theorem ag_clashNow {post : Int32 → Prop} {f1 f2 f3 f4 f5 f6 f7 f8 : Int32} {a1 a2 a3 a4 a5 a6 a7 a8 a9 a10 a11 a12 a13 a14 a15 a16 a17 a18 a19 a20 a21 : Nat → Int32} (h : post 0) : wpX_clashNow post (f1, f2, f3, f4, f5, f6, f7, f8, a1, a2, a3, a4, a5, a6, a7, a8, a9, a10, a11, a12, a13, a14, a15, a16, a17, a18, a19, a20, a21) 2 := by
  show ∃ n, wX_clashNow_2 post 2 f1 f2 f3 f4 f5 f6 f7 f8 a1 a2 a3 a4 a5 a6 a7 a8 a9 a10 a11 a12 a13 a14 a15 a16 a17 a18 a19 a20 a21 n 0
  refine ⟨4, br_f (by decide) (br_f (by decide) ?_)⟩
  refine br_t (by decide) (br_f (by decide) (br_t (by decide) (nm_r ag_p0 ?_)))
  refine br_f (by decide) (br_f (by decide) ?_)
  refine br_f (by decide) (br_f (by decide) (br_t (by decide) (nm_r ag_p1 ?_)))
  refine br_f (by decide) (br_t (by decide) ?_)
  refine br_f (by decide) (br_t (by decide) (br_f (by decide) (br_t (by decide) (nm_r ag_p2 ?_))))
  exact br_t (by decide) h
theorem ag_next {post : Int32 → Prop} {t : Nat → Nat → Int32} {c : Nat} {f1 f2 f3 f4 f5 f6 f7 f8 : Int32} {a1 a2 a3 a4 a5 a6 a7 a8 a9 a10 a11 a12 a13 a14 a15 a16 a17 a18 a19 a20 a21 : Nat → Int32} (ht : ag_ok t) (hc : c < 12) (ha : ∀ j, j < 48 → a4 j = t (j / 4) (j % 4)) (h : ∀ m, m < 12 → post (nI m)) : wpX_nextAlone post (f1, f2, f3, f4, f5, f6, f7, f8, a1, a2, a3, a4, a5, a6, a7, a8, a9, a10, a11, a12, a13, a14, a15, a16, a17, a18, a19, a20, a21) 1 (nI c) := by
  refine pk_loop (σ := Unit) (fun n i _ => wX_nextAlone_2 post 1 (nI c) f1 f2 f3 f4 f5 f6 f7 f8 a1 a2 a3 a4 a5 a6 a7 a8 a9 a10 a11 a12 a13 a14 a15 a16 a17 a18 a19 a20 a21 n (nI i)) (fun _ _ => True) 4 0 () (by omega) trivial ?_ ?_
  · exact fun n _ _ => pk_le 4 4 (fun _ => h c hc) (fun z => absurd z (by omega))
  · intro n i _ hi _ hw
    have e : 4 * nI c + nI i = nI (4 * c + i) := ag_ix rfl
    have e4 : a4 (4 * c + i) = t c i := by rw [ha _ (by omega), show (4 * c + i) / 4 = c by omega, show (4 * c + i) % 4 = i by omega]
    refine pk_le 4 i (fun z => absurd z (by omega)) (fun _ => ?_)
    rw [e, nI_clamp (show 4 * c + i < 2 ^ 31 by omega), e4]
    refine ⟨pk_in (4 * c + i) 48 (by omega), nm_e ?_⟩
    rcases ht c i hc hi with z | ⟨m, hm, em, _⟩
    · exact br_t z (nm_r (nI_1 i) (hw () trivial))
    · rw [em]
      exact br_f (nI_pos (by omega)) ⟨pk_in (12 + m) 36 (by omega) (ag_12 m), pk_in (12 + c) 36 (by omega) (ag_12 c), br_c (fun _ => nm_r (nI_1 i) (hw () trivial)) (fun _ => h m hm)⟩
theorem ag_u1 {s f : Nat → Int32} {i : Nat} {v : Int32} (hi : i < 2 ^ 31) (h : 1 < i → s 1 = v) (hf : f 1 = v) : 1 < i + 1 → upd s i (f (nI i).toNatClampNeg) 1 = v := by
  intro z
  rw [nI_clamp hi]
  by_cases e : 1 = i
  · rw [← e, pk_us, hf]
  · rw [pk_un e]
    exact h (by omega)
theorem ag_ca91 {post : Int32 → St2 → Prop} {J27 : Int32 → (Nat → Int32) → (Nat → Int32) → (Nat → Int32) → (Nat → Int32) → (Nat → Int32) → (Nat → Int32) → (Nat → Int32) → (Nat → Int32) → (Nat → Int32) → (Nat → Int32) → (Nat → Int32) → (Nat → Int32) → (Nat → Int32) → (Nat → Int32) → (Nat → Int32) → (Nat → Int32) → (Nat → Int32) → (Nat → Int32) → (Nat → Int32) → (Nat → Int32) → (Nat → Int32) → Prop} {k m : Nat} {f1 f2 f3 f4 f5 f6 f7 f8 : Int32} {a1 a2 a3 a4 a5 a6 a7 a8 a9 a10 a11 a12 a13 a14 a15 a16 a17 a18 a19 a20 a21 : Nat → Int32} (hm : a16 1 = nI m) (H : ∀ s, s 1 = nI m → J27 (nI (k + 1)) a1 a2 a3 a4 a5 a6 a7 a8 a9 a10 a11 a12 a13 a14 s a16 a17 a18 a19 a20 a21) : ∃ n, wX_clashAlone_91 post J27 2 (nI k) f1 f2 f3 f4 f5 f6 f7 f8 n 0 a1 a2 a3 a4 a5 a6 a7 a8 a9 a10 a11 a12 a13 a14 a15 a16 a17 a18 a19 a20 a21 :=
  pk_loop (fun n i s => wX_clashAlone_91 post J27 2 (nI k) f1 f2 f3 f4 f5 f6 f7 f8 n (nI i) a1 a2 a3 a4 a5 a6 a7 a8 a9 a10 a11 a12 a13 a14 s a16 a17 a18 a19 a20 a21) (fun i s => 1 < i → s 1 = nI m) 3 0 a15 (by omega) (fun z => absurd z (by omega))
    (fun n s h => pk_le 3 3 (fun _ => nm_r (nI_1 k) (H s (h (by omega)))) (fun z => absurd z (by omega)))
    (fun n i s hi h hw => pk_le 3 i (fun z => absurd z (by omega)) (fun _ => ⟨pk_in i 3 hi, pk_in i 3 hi, nm_r (ag_cu (by omega)) (nm_r (nI_1 i) (hw _ (ag_u1 (by omega) h hm)))⟩))
theorem ag_ca35 {post : Int32 → St2 → Prop} {J27 : Int32 → (Nat → Int32) → (Nat → Int32) → (Nat → Int32) → (Nat → Int32) → (Nat → Int32) → (Nat → Int32) → (Nat → Int32) → (Nat → Int32) → (Nat → Int32) → (Nat → Int32) → (Nat → Int32) → (Nat → Int32) → (Nat → Int32) → (Nat → Int32) → (Nat → Int32) → (Nat → Int32) → (Nat → Int32) → (Nat → Int32) → (Nat → Int32) → (Nat → Int32) → (Nat → Int32) → Prop} {t : Nat → Nat → Int32} {k c : Nat} {f1 f2 f3 f4 f5 f6 f7 f8 : Int32} {a1 a2 a3 a4 a5 a6 a7 a8 a9 a10 a11 a12 a13 a14 a15 a16 a17 a18 a19 a20 a21 : Nat → Int32} (ht : ag_ok t) (hc : c < 12) (ha : ∀ j, j < 48 → a4 j = t (j / 4) (j % 4)) (h15 : a15 1 = nI c)
    (H : ∀ s15 s16 m, m < 12 → s15 1 = nI m → J27 (nI (k + 1)) a1 a2 a3 a4 a5 a6 a7 a8 a9 a10 a11 a12 a13 a14 s15 s16 a17 a18 a19 a20 a21) : ∃ n, wX_clashAlone_35 post J27 2 (nI k) f1 f2 f3 f4 f5 f6 f7 f8 n 0 a1 a2 a3 a4 a5 a6 a7 a8 a9 a10 a11 a12 a13 a14 a15 a16 a17 a18 a19 a20 a21 := by
  refine ⟨4, br_f (by decide) (br_f (by decide) ⟨pk_in 0 3 (by omega), nm_e (nm_r ag_p0 ?_)⟩)⟩
  refine br_f (by decide) (br_t (by decide) ⟨pk_in 1 3 (by omega), ?_⟩)
  rw [ag_c1, h15]
  refine ag_next ht hc ha (fun m hm => ⟨pk_in 1 3 (by omega), nm_e (nm_r ag_p1 ?_)⟩)
  refine br_f (by decide) (br_f (by decide) ⟨pk_in 2 3 (by omega), nm_e (nm_r ag_p2 ?_)⟩)
  refine br_t (by decide) (ag_clashNow (br_t rfl (ag_ca91 (m := m) ?_ (fun s e => H s _ m hm e))))
  rw [ag_c2, pk_un (by decide), pk_us]
theorem ag_ca27 {post : Int32 → St2 → Prop} {t : Nat → Nat → Int32} {x : Nat} {f1 f2 f3 f4 f5 f6 f7 f8 : Int32} {a1 a2 a3 a4 a5 a6 a7 a8 a9 a10 a11 a12 a13 a14 a15 a16 a17 a18 a19 a20 a21 : Nat → Int32} (ht : ag_ok t) (hx : x < 12) (ha : ∀ j, j < 48 → a4 j = t (j / 4) (j % 4)) (h15 : a15 1 = nI x)
    (H : ∀ s15 s16, post 0 (f1, f2, f3, f4, f5, f6, f7, f8, a1, a2, a3, a4, a5, a6, a7, a8, a9, a10, a11, a12, a13, a14, s15, s16, a17, a18, a19, a20, a21)) : ∃ n, wX_clashAlone_27 post 2 f1 f2 f3 f4 f5 f6 f7 f8 n 0 a1 a2 a3 a4 a5 a6 a7 a8 a9 a10 a11 a12 a13 a14 a15 a16 a17 a18 a19 a20 a21 :=
  pk_loop (σ := (Nat → Int32) × (Nat → Int32)) (fun n i s => wX_clashAlone_27 post 2 f1 f2 f3 f4 f5 f6 f7 f8 n (nI i) a1 a2 a3 a4 a5 a6 a7 a8 a9 a10 a11 a12 a13 a14 s.1 s.2 a17 a18 a19 a20 a21) (fun _ s => ∃ m, m < 12 ∧ s.1 1 = nI m) 12 0 (a15, a16) (by omega) ⟨x, hx, h15⟩
    (fun n s h => pk_le 12 12 (fun _ => H s.1 s.2) (fun z => absurd z (by omega)))
    (fun n i s hi h hw => pk_le 12 i (fun z => absurd z (by omega)) (fun _ => Exists.elim h (fun m q => ag_ca35 ht q.1 ha q.2 (fun s15 s16 m' hm' e => hw (s15, s16) ⟨m', hm', e⟩))))
theorem ag_clashAlone {post : Int32 → St2 → Prop} {t : Nat → Nat → Int32} {x : Nat} {f1 f2 f3 f4 f5 f6 f7 f8 : Int32} {a1 a2 a3 a4 a5 a6 a7 a8 a9 a10 a11 a12 a13 a14 a15 a16 a17 a18 a19 a20 a21 : Nat → Int32} (ht : ag_ok t) (hx : x < 12) (h2 : a2 1 = nI x) (ha : ∀ j, j < 48 → a4 j = t (j / 4) (j % 4))
    (H : ∀ s15 s16, post 0 (f1, f2, f3, f4, f5, f6, f7, f8, a1, a2, a3, a4, a5, a6, a7, a8, a9, a10, a11, a12, a13, a14, s15, s16, a17, a18, a19, a20, a21)) : wpX_clashAlone post (f1, f2, f3, f4, f5, f6, f7, f8, a1, a2, a3, a4, a5, a6, a7, a8, a9, a10, a11, a12, a13, a14, a15, a16, a17, a18, a19, a20, a21) 2 :=
  pk_loop (fun n i s => wX_clashAlone_2 post 2 f1 f2 f3 f4 f5 f6 f7 f8 n (nI i) a1 a2 a3 a4 a5 a6 a7 a8 a9 a10 a11 a12 a13 a14 s a16 a17 a18 a19 a20 a21) (fun i s => 1 < i → s 1 = nI x) 3 0 a15 (by omega) (fun z => absurd z (by omega))
    (fun n s h => pk_le 3 3 (fun _ => ag_ca27 ht hx ha (h (by omega)) H) (fun z => absurd z (by omega)))
    (fun n i s hi h hw => pk_le 3 i (fun z => absurd z (by omega)) (fun _ => ⟨pk_in i 3 hi, pk_in i 3 hi, nm_r (ag_cu (by omega)) (nm_r (nI_1 i) (hw _ (ag_u1 (by omega) h h2)))⟩))
theorem ag_far_n {t : Nat → Nat → Int32} {x y : Nat} (ht : ag_ok t) (hx : x < 12) (h : ¬ 0 ≤ ag_far t x y) : ag_far t x y = -2 := by
  by_cases z : ag_D t y 11 x = 1000000
  · exact if_pos z
  · rcases ag_D_v (g := y) ht 11 (by omega) x hx with q | ⟨j, hj, ej, _⟩
    · exact absurd q z
    · have e : ag_far t x y = nI j := (if_neg z).trans ej
      rw [e] at h
      exact absurd (nI_pos' (by omega)) h
theorem ag_plan {post : Int32 → St2 → Prop} {x y : Nat} {f1 f2 f3 f4 f5 f6 f7 f8 : Int32} {a1 a2 a3 a4 a5 a6 a7 a8 a9 a10 a11 a12 a13 a14 a15 a16 a17 a18 a19 a20 a21 : Nat → Int32} (hx : x < 12) (hy : y < 12) (h2 : a2 1 = nI x) (h3 : a3 1 = nI y)
    (H : ∀ s4 s5 s6 s15 s16, post (ag_far (ag_T f1 a1) x y) (f1, f2, f3, f4, f5, f6, f7, f8, a1, a2, a3, s4, s5, s6, a7, a8, a9, a10, a11, a12, a13, a14, s15, s16, a17, a18, a19, a20, a21)) : wpX_plan post (f1, f2, f3, f4, f5, f6, f7, f8, a1, a2, a3, a4, a5, a6, a7, a8, a9, a10, a11, a12, a13, a14, a15, a16, a17, a18, a19, a20, a21) 2 := by
  unfold wpX_plan
  refine ag_fgd hy h3 (fun s4 s5 s6 e4 e5 => ag_alone (ag_T_ok _ _) hx h2 e5 (br_c (fun z => ag_clashAlone (ag_T_ok _ _) hx h2 e4 (fun s15 s16 => br_t rfl (H s4 s5 s6 s15 s16))) (fun z => ?_)))
  have h := H s4 s5 s6 a15 a16
  rw [ag_far_n (ag_T_ok _ _) hx z] at h
  exact h
theorem ag_fast {post : Int32 → St2 → Prop} {x y : Nat} {f1 f2 f3 f4 f5 f6 f7 f8 : Int32} {a1 a2 a3 a4 a5 a6 a7 a8 a9 a10 a11 a12 a13 a14 a15 a16 a17 a18 a19 a20 a21 : Nat → Int32} (hx : x < 12) (hy : y < 12) (h2 : a2 1 = nI x) (h3 : a3 1 = nI y) (hp : f2 = 2)
    (H1 : f1 &&& (((1 : Int32) <<< (nI x &&& 31)) ||| ((1 : Int32) <<< (nI y &&& 31))) = 0 → ∀ s4 s5 s6 s15 s16, post (ag_far (ag_T f1 a1) x y) (f1, f2, f3, 0, f5, f6, f7, f8, a1, a2, a3, s4, s5, s6, a7, a8, a9, a10, a11, a12, a13, a14, s15, s16, a17, a18, a19, a20, a21))
    (H0 : ¬ f1 &&& (((1 : Int32) <<< (nI x &&& 31)) ||| ((1 : Int32) <<< (nI y &&& 31))) = 0 → post (-1) (f1, f2, f3, f4, f5, f6, f7, f8, a1, a2, a3, a4, a5, a6, a7, a8, a9, a10, a11, a12, a13, a14, a15, a16, a17, a18, a19, a20, a21)) : wpX_fastest post (f1, f2, f3, f4, f5, f6, f7, f8, a1, a2, a3, a4, a5, a6, a7, a8, a9, a10, a11, a12, a13, a14, a15, a16, a17, a18, a19, a20, a21) 2 := by
  unfold wpX_fastest
  exact ag_ready h2 h3 hp (fun z => br_f (by decide) (ag_plan hx hy h2 h3 (H1 z))) (fun z => br_t rfl (H0 z))
theorem ag_easy {post : Int32 → St2 → Prop} {x y : Nat} {f1 f2 f3 f4 f5 f6 f7 f8 : Int32} {a1 a2 a3 a4 a5 a6 a7 a8 a9 a10 a11 a12 a13 a14 a15 a16 a17 a18 a19 a20 a21 : Nat → Int32} (hx : x < 12) (hy : y < 12) (h2 : a2 1 = nI x) (h3 : a3 1 = nI y) (hp : f2 = 2)
    (H1 : f1 &&& (((1 : Int32) <<< (nI x &&& 31)) ||| ((1 : Int32) <<< (nI y &&& 31))) = 0 → ∀ s4 s5 s6 s15 s16, post (ag_far (ag_T f1 a1) x y) (f1, f2, f3, 1, f5, f6, f7, f8, a1, a2, a3, s4, s5, s6, a7, a8, a9, a10, a11, a12, a13, a14, s15, s16, a17, a18, a19, a20, a21))
    (H0 : ¬ f1 &&& (((1 : Int32) <<< (nI x &&& 31)) ||| ((1 : Int32) <<< (nI y &&& 31))) = 0 → post (-1) (f1, f2, f3, f4, f5, f6, f7, f8, a1, a2, a3, a4, a5, a6, a7, a8, a9, a10, a11, a12, a13, a14, a15, a16, a17, a18, a19, a20, a21)) : wpX_easiest post (f1, f2, f3, f4, f5, f6, f7, f8, a1, a2, a3, a4, a5, a6, a7, a8, a9, a10, a11, a12, a13, a14, a15, a16, a17, a18, a19, a20, a21) 2 := by
  unfold wpX_easiest
  exact ag_ready h2 h3 hp (fun z => br_f (by decide) (ag_plan hx hy h2 h3 (H1 z))) (fun z => br_t rfl (H0 z))
end
section
theorem ag_out {x M : Int32} {N : Nat} (hM : M.toInt = N) (hN : N + 1 < 2 ^ 31) (h : M < x) : nI (N + 1) ≤ x := by
  rw [Int32.lt_iff_toInt_lt, hM] at h
  rw [Int32.le_iff_toInt_le, nI_toInt hN]
  omega
theorem ag_inn {x M : Int32} {N : Nat} (hM : M.toInt = N) (h0 : ¬ x < 0) (h : ¬ M < x) : ∃ j, j < N + 1 ∧ x = nI j := by
  obtain ⟨j, hj, e⟩ := nI_of2 hM h0 (Int32.not_lt.mp h)
  exact ⟨j, by omega, e⟩
/-- a number against a range, with the law's flag and its natural: N for 'out of it' -/
def ag_fl (x fl : Int32) (N j : Nat) : Prop := (fl = 1 ∧ j < N ∧ x = nI j) ∨ (fl = 0 ∧ j = N ∧ (x < 0 ∨ nI N ≤ x))
theorem ag_fl_in {x : Int32} {N j : Nat} (h : j < N) (e : x = nI j) : ag_fl x 1 N j := Or.inl ⟨rfl, h, e⟩
theorem ag_fl_out {x : Int32} {N : Nat} (h : x < 0 ∨ nI N ≤ x) : ag_fl x 0 N N := Or.inr ⟨rfl, rfl, h⟩
theorem ag_fl_eq {x fl : Int32} {N j y : Nat} (h : ag_fl x fl N j) (hN : N < 2 ^ 31) (hy : y < N) : nI y = x ↔ y = j := by
  rcases h with ⟨_, hj, e⟩ | ⟨_, hj, e⟩
  · rw [e]
    exact nI_eq (by omega) (by omega)
  · constructor
    · intro z
      rw [← z] at e
      rcases e with q | q
      · exact absurd q (nI_pos (by omega))
      · exact absurd q (nI_ge hy hN)
    · intro z
      omega
def ag_W (k : Nat) : Int32 := if k < 12 then (1 : Int32) <<< (nI k &&& 31) else 0
theorem ag_op : ∀ k, k < 13 → ∀ x, x < 12 → ((ag_W k >>> (nI x &&& 31)) &&& 1 = 0 ↔ x ≠ k) := by decide +kernel
theorem ag_rd : ∀ k, k < 13 → ∀ x, x < 12 → ∀ y, y < 12 → (ag_W k &&& (((1 : Int32) <<< (nI x &&& 31)) ||| ((1 : Int32) <<< (nI y &&& 31))) = 0 ↔ (x ≠ k ∧ y ≠ k)) := by decide +kernel
theorem ag_w0 : ∀ k, k < 12 → ((ag_W k ^^^ ((1 : Int32) <<< (nI k &&& 31))) >>> (nI k &&& 31)) &&& 1 = 0 := by decide +kernel
theorem ag_w1 : ∀ k, k < 12 → (((0 : Int32) ^^^ ((1 : Int32) <<< (nI k &&& 31))) >>> (nI k &&& 31)) &&& 1 = 1 := by decide +kernel
theorem ag_w2 : ∀ k, k < 12 → (0 : Int32) ^^^ ((1 : Int32) <<< (nI k &&& 31)) = ag_W k := by decide +kernel
theorem ag_15 : ∀ w, w < 4 → ((15 : Int32) >>> (nI w &&& 31)) &&& 1 = 1 := by decide +kernel
def ag_r (x w : Nat) : Int32 := nI x / 4 + (if w = 0 then -1 else if w = 2 then 1 else 0)
def ag_c (x w : Nat) : Int32 := (nI x - nI x / 4 * 4) + (if w = 1 then 1 else if w = 3 then -1 else 0)
theorem ag_rc0 : ∀ x, x < 12 → ∀ w, w < 4 → (ag_r x w < 0 ∨ 3 ≤ ag_r x w ∨ ag_c x w < 0 ∨ 4 ≤ ag_c x w) ∨ (4 * ag_r x w + ag_c x w = ag_bs x w ∧ ¬ ag_bs x w < 0) := by decide +kernel
theorem ag_rc {x w : Nat} (hx : x < 12) (hw : w < 4) (h1 : ¬ ag_r x w < 0) (h2 : ¬ 3 ≤ ag_r x w) (h3 : ¬ ag_c x w < 0) (h4 : ¬ 4 ≤ ag_c x w) : 4 * ag_r x w + ag_c x w = ag_bs x w ∧ ¬ ag_bs x w < 0 := by
  rcases ag_rc0 x hx w hw with (h | h | h | h) | h
  · exact absurd h h1
  · exact absurd h h2
  · exact absurd h h3
  · exact absurd h h4
  · exact h
theorem ag_far_0 {t : Nat → Nat → Int32} {x : Nat} : ag_far t x x = 0 := by
  unfold ag_far
  rw [ag_D_0]
  exact if_neg (by decide)
theorem ag_far_1 {W : Int32} {a : Nat → Int32} {x y w : Nat} (hy : y < 12) (hw : w < 4) (hn : x ≠ y) (hb : ag_bs x w = nI y) (hx : (W >>> (nI x &&& 31)) &&& 1 = 0) (ho : (W >>> (nI y &&& 31)) &&& 1 = 0) (hv : (a x >>> (nI w &&& 31)) &&& 1 = 1) : ag_far (ag_T W a) x y = 1 := by
  have e : ag_T W a x w = nI y := by
    unfold ag_T
    rw [hb]
    exact if_pos ⟨nI_pos (by omega), hx, ho, hv⟩
  unfold ag_far
  rw [ag_D_1 hy hw hn e]
  exact if_neg (by decide)
theorem ag_far_3 {W : Int32} {a : Nat → Int32} {x y w : Nat} (hx : x < 12) (hy : y < 12) (hw : w < 4) (hn : x ≠ y) (hb : ag_bs x w = nI y) (hv : ¬ (a x >>> (nI w &&& 31)) &&& 1 = 1) : ag_far (ag_T W a) x y = -2 ∨ 3 ≤ ag_far (ag_T W a) x y := by
  have n0 : ¬ ag_bs x w < 0 := by rw [hb]; exact nI_pos (by omega)
  have hp : (y / 4 + y % 4 + (x / 4 + x % 4)) % 2 = 1 := by
    rcases ag_bs_ok x w hx hw with z | ⟨m, hm, em, h⟩
    · exact absurd z n0
    · rw [(nI_eq (a := m) (b := y) (by omega) (by omega)).mp (em.symm.trans hb)] at h
      exact h
  have hd : ∀ d, d < 4 → ag_T W a x d ≠ nI y := by
    intro d hd z
    by_cases q : ¬ ag_bs x d < 0 ∧ (W >>> (nI x &&& 31)) &&& 1 = 0 ∧ (W >>> (ag_bs x d &&& 31)) &&& 1 = 0 ∧ (a x >>> (nI d &&& 31)) &&& 1 = 1
    · have e : ag_T W a x d = ag_bs x d := if_pos q
      have ed : d = w := ag_bs_u x hx w hw d hd n0 (e.symm.trans (z.trans hb.symm))
      rw [ed] at q
      exact hv q.2.2.2
    · have e : ag_T W a x d = -1 := if_neg q
      have e2 : nI y = -1 := z.symm.trans e
      have e3 := nI_pos (n := y) (by omega)
      rw [e2] at e3
      exact e3 (by decide)
  rcases ag_D_3 (ag_T_ok W a) hy hx hn hp hd with z | ⟨j, h3, h11, ej⟩
  · exact Or.inl (if_pos z)
  · have e : ag_far (ag_T W a) x y = nI j := by
      unfold ag_far
      rw [ej]
      exact if_neg (ag_nv (by omega))
    rw [e]
    exact Or.inr (nI_le (a := 3) (b := j) h3 (by omega))
/-- what the law's rows keep: the three numbers with their flags, the walls, the ways out -/
def ag_P (x0 x1 x2 x5 x6 x7 f1 : Int32) (a1 : Nat → Int32) (k j v : Nat) : Prop := ag_fl x0 x5 12 k ∧ ag_fl x1 x6 12 j ∧ ag_fl x2 x7 16 v ∧ f1 = ag_W k ∧ ∀ c, c < 12 → a1 c = if c = j ∧ v < 16 then nI v else 15
theorem ag_P_k {x0 x1 x2 x5 x6 x7 f1 : Int32} {a1 : Nat → Int32} {k j v : Nat} (P : ag_P x0 x1 x2 x5 x6 x7 f1 a1 k j v) : k < 13 := by
  rcases P.1 with ⟨_, h, _⟩ | ⟨_, h, _⟩ <;> omega
theorem ag_ways {post : Int32 → St2 → Prop} {p1 : Int32} {j : Nat} {f1 f2 f3 f4 f5 f6 f7 f8 : Int32} {a1 a2 a3 a4 a5 a6 a7 a8 a9 a10 a11 a12 a13 a14 a15 a16 a17 a18 a19 a20 a21 : Nat → Int32} (hj : j < 12) (h0 : ¬ p1 < 0) (h15 : p1 ≤ 15) (h : post (a1 j) (f1, f2, f3, f4, f5, f6, f7, f8, upd a1 j p1, a2, a3, a4, a5, a6, a7, a8, a9, a10, a11, a12, a13, a14, a15, a16, a17, a18, a19, a20, a21)) : wpX_ways post (f1, f2, f3, f4, f5, f6, f7, f8, a1, a2, a3, a4, a5, a6, a7, a8, a9, a10, a11, a12, a13, a14, a15, a16, a17, a18, a19, a20, a21) (nI j) p1 := by
  unfold wpX_ways
  refine ag_isCell hj (br_f (by decide) (br_f h0 (br_t h15 ?_)))
  rw [nI_clamp (show j < 2 ^ 31 by omega)]
  exact ⟨pk_in j 12 hj, nm_e ⟨pk_in j 12 hj, nm_e h⟩⟩
theorem ag_waysN1 {post : Int32 → St2 → Prop} {p0 p1 : Int32} {f1 f2 f3 f4 f5 f6 f7 f8 : Int32} {a1 a2 a3 a4 a5 a6 a7 a8 a9 a10 a11 a12 a13 a14 a15 a16 a17 a18 a19 a20 a21 : Nat → Int32} (hx : p0 < 0 ∨ 12 ≤ p0) (h : post (-1) (f1, f2, f3, f4, f5, f6, f7, f8, a1, a2, a3, a4, a5, a6, a7, a8, a9, a10, a11, a12, a13, a14, a15, a16, a17, a18, a19, a20, a21)) : wpX_ways post (f1, f2, f3, f4, f5, f6, f7, f8, a1, a2, a3, a4, a5, a6, a7, a8, a9, a10, a11, a12, a13, a14, a15, a16, a17, a18, a19, a20, a21) p0 p1 := by
  unfold wpX_ways
  exact ag_isCellN hx (br_t rfl h)
theorem ag_waysN2 {post : Int32 → St2 → Prop} {p1 : Int32} {j : Nat} {f1 f2 f3 f4 f5 f6 f7 f8 : Int32} {a1 a2 a3 a4 a5 a6 a7 a8 a9 a10 a11 a12 a13 a14 a15 a16 a17 a18 a19 a20 a21 : Nat → Int32} (hj : j < 12) (hp : p1 < 0 ∨ ¬ p1 ≤ 15) (h : post (-2) (f1, f2, f3, f4, f5, f6, f7, f8, a1, a2, a3, a4, a5, a6, a7, a8, a9, a10, a11, a12, a13, a14, a15, a16, a17, a18, a19, a20, a21)) : wpX_ways post (f1, f2, f3, f4, f5, f6, f7, f8, a1, a2, a3, a4, a5, a6, a7, a8, a9, a10, a11, a12, a13, a14, a15, a16, a17, a18, a19, a20, a21) (nI j) p1 := by
  unfold wpX_ways
  exact ag_isCell hj (br_f (by decide) (br_c (fun _ => h) (fun z => br_f (hp.resolve_left z) h)))
theorem ag_wall {post : Int32 → St2 → Prop} {k : Nat} {f1 f2 f3 f4 f5 f6 f7 f8 : Int32} {a1 a2 a3 a4 a5 a6 a7 a8 a9 a10 a11 a12 a13 a14 a15 a16 a17 a18 a19 a20 a21 : Nat → Int32} (hk : k < 12) (h : post (((f1 ^^^ ((1 : Int32) <<< (nI k &&& 31))) >>> (nI k &&& 31)) &&& 1) (f1 ^^^ ((1 : Int32) <<< (nI k &&& 31)), f2, f3, f4, f5, f6, f7, f8, a1, a2, a3, a4, a5, a6, a7, a8, a9, a10, a11, a12, a13, a14, a15, a16, a17, a18, a19, a20, a21)) : wpX_wall post (f1, f2, f3, f4, f5, f6, f7, f8, a1, a2, a3, a4, a5, a6, a7, a8, a9, a10, a11, a12, a13, a14, a15, a16, a17, a18, a19, a20, a21) (nI k) := by
  unfold wpX_wall
  exact ag_isCell hk (br_f (by decide) (nm_e h))
theorem ag_wallN {post : Int32 → St2 → Prop} {p0 : Int32} {f1 f2 f3 f4 f5 f6 f7 f8 : Int32} {a1 a2 a3 a4 a5 a6 a7 a8 a9 a10 a11 a12 a13 a14 a15 a16 a17 a18 a19 a20 a21 : Nat → Int32} (hx : p0 < 0 ∨ 12 ≤ p0) (h : post (-1) (f1, f2, f3, f4, f5, f6, f7, f8, a1, a2, a3, a4, a5, a6, a7, a8, a9, a10, a11, a12, a13, a14, a15, a16, a17, a18, a19, a20, a21)) : wpX_wall post (f1, f2, f3, f4, f5, f6, f7, f8, a1, a2, a3, a4, a5, a6, a7, a8, a9, a10, a11, a12, a13, a14, a15, a16, a17, a18, a19, a20, a21) p0 := by
  unfold wpX_wall
  exact ag_isCellN hx (br_t rfl h)
theorem ag_1n {x : Int32} (h : x = 1) : ¬ x = 0 := by
  rw [h]
  decide
theorem ag_L423 {post : Int32 → St0 → Prop} {mc ms kc ks : Nat} {x1 x2 x6 x7 z0 z1 : Int32} {j v : Nat} {f1 f2 f3 f4 f5 f6 f7 f8 : Int32} {a1 a2 a3 a4 a5 a6 a7 a8 a9 a10 a11 a12 a13 a14 a15 a16 a17 a18 a19 a20 a21 : Nat → Int32} (P : ag_fl x1 x6 12 j) (Q : ag_fl x2 x7 16 v) (h1 : ∀ c, c < 12 → a1 c = if c = j ∧ v < 16 then nI v else 15) (hz : z1 = z0) (h : post 1 ()) :
    wL_lawOf_423 post mc ms x1 x2 x6 x7 z0 z1 kc ks f1 f2 f3 f4 f5 f6 f7 f8 a1 a2 a3 a4 a5 a6 a7 a8 a9 a10 a11 a12 a13 a14 a15 a16 a17 a18 a19 a20 a21 := by
  refine br_t hz ?_
  rcases P with ⟨e6, hj, ex⟩ | ⟨e6, hj, ex⟩
  · rw [ex]
    refine ag_ways hj (by decide) (by decide) (br_f (ag_1n e6) ?_)
    rcases Q with ⟨e7, hv, ev⟩ | ⟨e7, hv, ev⟩
    · exact br_f (ag_1n e7) (br_t (by rw [h1 j hj, if_pos ⟨rfl, hv⟩, ev]) h)
    · exact br_t e7 (br_t (by rw [h1 j hj, if_neg (fun q => by omega)]) h)
  · exact ag_waysN1 ex (br_t e6 (br_t rfl h))
theorem ag_L402 {post : Int32 → St0 → Prop} {mc ms kc ks : Nat} {x0 x1 x2 x5 x6 x7 z0 z1 : Int32} {k j v : Nat} {f1 f2 f3 f4 f5 f6 f7 f8 : Int32} {a1 a2 a3 a4 a5 a6 a7 a8 a9 a10 a11 a12 a13 a14 a15 a16 a17 a18 a19 a20 a21 : Nat → Int32} (P : ag_P x0 x1 x2 x5 x6 x7 f1 a1 k j v) (hz : z1 = z0) (h : post 1 ()) :
    wL_lawOf_402 post mc ms x0 x1 x2 x5 x6 x7 z0 z1 kc ks f1 f2 f3 f4 f5 f6 f7 f8 a1 a2 a3 a4 a5 a6 a7 a8 a9 a10 a11 a12 a13 a14 a15 a16 a17 a18 a19 a20 a21 := by
  obtain ⟨P0, P1, P2, PW, PA⟩ := P
  refine br_t hz ?_
  rcases P0 with ⟨e5, hk, ex⟩ | ⟨e5, hk, ex⟩
  · rw [ex]
    exact ag_wall hk (br_f (ag_1n e5) (ag_L423 P1 P2 PA (by rw [PW]; exact ag_w0 k hk) h))
  · exact ag_wallN ex (br_t e5 (ag_L423 P1 P2 PA rfl h))
theorem ag_L382 {post : Int32 → St0 → Prop} {mc ms kc ks : Nat} {x0 x1 x2 x5 x6 x7 x14 x16 z0 z1 : Int32} {k j v x y : Nat} {f1 f2 f3 f4 f5 f6 f7 f8 : Int32} {a1 a2 a3 a4 a5 a6 a7 a8 a9 a10 a11 a12 a13 a14 a15 a16 a17 a18 a19 a20 a21 : Nat → Int32} (P : ag_P x0 x1 x2 x5 x6 x7 f1 a1 k j v) (hx : x < 12) (hy : y < 12) (h2 : a2 1 = nI x) (h3 : a3 1 = nI y) (hp : f2 = 2)
    (ho : (x14 = 1 ∧ (x ≠ k ∧ y ≠ k) ∧ x16 = ag_far (ag_T f1 a1) x y) ∨ (x14 = 0 ∧ ¬ (x ≠ k ∧ y ≠ k))) (hz : z1 = z0) (h : post 1 ()) :
    wL_lawOf_382 post mc ms x0 x1 x2 x5 x6 x7 x14 x16 z0 z1 kc ks f1 f2 f3 f4 f5 f6 f7 f8 a1 a2 a3 a4 a5 a6 a7 a8 a9 a10 a11 a12 a13 a14 a15 a16 a17 a18 a19 a20 a21 := by
  have hr := ag_rd k (ag_P_k P) x hx y hy
  rw [← P.2.2.2.1] at hr
  refine br_t hz (ag_easy hx hy h2 h3 hp (fun z s4 s5 s6 s15 s16 => ?_) (fun z => ?_))
  · rcases ho with ⟨e, _, e16⟩ | ⟨_, q⟩
    · exact br_f (ag_1n e) (ag_L402 P e16.symm h)
    · exact absurd (hr.mp z) q
  · rcases ho with ⟨_, q, _⟩ | ⟨e, _⟩
    · exact absurd (hr.mpr q) z
    · exact br_t e (ag_L402 P rfl h)
theorem ag_L354 {post : Int32 → St0 → Prop} {mc ms kc ks : Nat} {x0 x1 x2 x5 x6 x7 x14 x16 : Int32} {k j v x y : Nat} {f1 f2 f3 f4 f5 f6 f7 f8 : Int32} {a1 a2 a3 a4 a5 a6 a7 a8 a9 a10 a11 a12 a13 a14 a15 a16 a17 a18 a19 a20 a21 : Nat → Int32} (P : ag_P x0 x1 x2 x5 x6 x7 f1 a1 k j v) (hx : x < 12) (hy : y < 12) (hp : f2 = 0)
    (ho : (x14 = 1 ∧ (x ≠ k ∧ y ≠ k) ∧ x16 = ag_far (ag_T f1 a1) x y) ∨ (x14 = 0 ∧ ¬ (x ≠ k ∧ y ≠ k))) (h : post 1 ()) :
    wL_lawOf_354 post mc ms x0 x1 x2 x5 x6 x7 (nI x) (nI y) x14 x16 kc ks f1 f2 f3 f4 f5 f6 f7 f8 a1 a2 a3 a4 a5 a6 a7 a8 a9 a10 a11 a12 a13 a14 a15 a16 a17 a18 a19 a20 a21 := by
  have hr := ag_rd k (ag_P_k P) x hx y hy
  rw [← P.2.2.2.1] at hr
  have hp2 : f2 ||| ((1 : Int32) <<< ((1 : Int32) &&& 31)) = 2 := by rw [hp]; decide
  unfold wL_lawOf_354
  refine ag_set hx hy (ag_fast hx hy pk_us pk_us hp2 (fun z s4 s5 s6 s15 s16 => ?_) (fun z => ?_))
  · rcases ho with ⟨e, q, e16⟩ | ⟨_, q⟩
    · exact br_f (ag_1n e) (ag_L382 P hx hy pk_us pk_us hp2 (Or.inl ⟨e, q, e16⟩) e16.symm h)
    · exact absurd (hr.mp z) q
  · rcases ho with ⟨_, q, _⟩ | ⟨e, q⟩
    · exact absurd (hr.mpr q) z
    · exact br_t e (ag_L382 P hx hy pk_us pk_us hp2 (Or.inr ⟨e, q⟩) rfl h)
theorem ag_L283 {post : Int32 → St0 → Prop} {mc ms kc ks : Nat} {x0 x1 x2 x5 x6 x7 x14 z0 : Int32} {k j v x y w : Nat} {f1 f2 f3 f4 f5 f6 f7 f8 : Int32} {a1 a2 a3 a4 a5 a6 a7 a8 a9 a10 a11 a12 a13 a14 a15 a16 a17 a18 a19 a20 a21 : Nat → Int32} (P : ag_P x0 x1 x2 x5 x6 x7 f1 a1 k j v) (hx : x < 12) (hy : y < 12) (hw : w < 4) (hp : f2 = 0)
    (ho : (x14 = 1 ∧ (x ≠ k ∧ y ≠ k)) ∨ (x14 = 0 ∧ ¬ (x ≠ k ∧ y ≠ k)))
    (hg : (z0 = 1 ∧ ag_bs x w = nI y ∧ (a1 x >>> (nI w &&& 31)) &&& 1 = 1) ∨ (z0 = 0 ∧ (y = x ∨ (ag_bs x w = nI y ∧ ¬ (a1 x >>> (nI w &&& 31)) &&& 1 = 1)))) (h : post 1 ()) :
    wL_lawOf_283 post mc ms x0 x1 x2 x5 x6 x7 (nI x) (nI y) x14 z0 kc ks f1 f2 f3 f4 f5 f6 f7 f8 a1 a2 a3 a4 a5 a6 a7 a8 a9 a10 a11 a12 a13 a14 a15 a16 a17 a18 a19 a20 a21 := by
  have o1 := ag_op k (ag_P_k P) x hx
  have o2 := ag_op k (ag_P_k P) y hy
  rw [← P.2.2.2.1] at o1 o2
  unfold wL_lawOf_283
  refine ag_dist hx hy (fun q => ?_) (fun q s4 s6 => ?_)
  · rcases ho with ⟨_, o⟩ | ⟨e, o⟩
    · exact absurd ⟨o1.mpr o.1, o2.mpr o.2⟩ q
    · exact br_t e (br_t rfl (ag_L354 P hx hy hp (Or.inr ⟨e, o⟩) h))
  · rcases ho with ⟨e, o⟩ | ⟨_, o⟩
    · have G : wL_lawOf_354 post mc ms x0 x1 x2 x5 x6 x7 (nI x) (nI y) x14 (ag_far (ag_T f1 a1) x y) kc ks f1 f2 f3 f4 f5 f6 f7 f8 a1 a2 a3 s4 a5 s6 a7 a8 a9 a10 a11 a12 a13 a14 a15 a16 a17 a18 a19 a20 a21 := ag_L354 P hx hy hp (Or.inl ⟨e, o, rfl⟩) h
      refine br_f (ag_1n e) (pk_eq y x (fun q0 => br_t (by rw [q0]; exact ag_far_0) G) (fun q0 => ?_))
      rcases hg with ⟨e0, b, c⟩ | ⟨e0, b⟩
      · exact br_f (ag_1n e0) (br_t (ag_far_1 hy hw (fun q1 => q0 q1.symm) b q.1 q.2 c) G)
      · refine br_t e0 ?_
        rcases b with b | ⟨b, c⟩
        · exact absurd b q0
        · rcases ag_far_3 (W := f1) hx hy hw (fun q1 => q0 q1.symm) b c with r | r
          · exact br_t r G
          · exact br_c (fun _ => G) (fun _ => br_t r G)
    · exact absurd ⟨o1.mp q.1, o2.mp q.2⟩ o
theorem ag_L251 {post : Int32 → St0 → Prop} {mc ms kc ks : Nat} {x0 x1 x2 x5 x6 x7 x12 x14 : Int32} {k j v x y w : Nat} {f1 f2 f3 f4 f5 f6 f7 f8 : Int32} {a1 a2 a3 a4 a5 a6 a7 a8 a9 a10 a11 a12 a13 a14 a15 a16 a17 a18 a19 a20 a21 : Nat → Int32} (P : ag_P x0 x1 x2 x5 x6 x7 f1 a1 k j v) (hx : x < 12) (hy : y < 12) (hw : w < 4) (hp : f2 = 0) (hj : j < 12 → x = j)
    (ho : (x14 = 1 ∧ (x ≠ k ∧ y ≠ k)) ∨ (x14 = 0 ∧ ¬ (x ≠ k ∧ y ≠ k))) (hi : (x12 = 1 ∧ ag_bs x w = nI y) ∨ (x12 = 0 ∧ y = x)) (h : post 1 ()) :
    wL_lawOf_251 post mc ms x0 x1 x2 x5 x6 x7 (nI x) (nI w) x12 (nI y) x14 kc ks f1 f2 f3 f4 f5 f6 f7 f8 a1 a2 a3 a4 a5 a6 a7 a8 a9 a10 a11 a12 a13 a14 a15 a16 a17 a18 a19 a20 a21 := by
  have G0 : (y = x ∨ (ag_bs x w = nI y ∧ ¬ (a1 x >>> (nI w &&& 31)) &&& 1 = 1)) → wL_lawOf_282 post mc ms x0 x1 x2 x5 x6 x7 (nI x) (nI y) x14 kc ks f1 f2 f3 f4 f5 f6 f7 f8 a1 a2 a3 a4 a5 a6 a7 a8 a9 a10 a11 a12 a13 a14 a15 a16 a17 a18 a19 a20 a21 := fun q => ag_L283 P hx hy hw hp ho (Or.inr ⟨rfl, q⟩) h
  have G1 : (ag_bs x w = nI y ∧ (a1 x >>> (nI w &&& 31)) &&& 1 = 1) → wL_lawOf_278 post mc ms x0 x1 x2 x5 x6 x7 (nI x) (nI y) x14 kc ks f1 f2 f3 f4 f5 f6 f7 f8 a1 a2 a3 a4 a5 a6 a7 a8 a9 a10 a11 a12 a13 a14 a15 a16 a17 a18 a19 a20 a21 := fun q => ag_L283 P hx hy hw hp ho (Or.inl ⟨rfl, q⟩) h
  obtain ⟨P0, P1, P2, PW, PA⟩ := P
  rcases hi with ⟨e, b⟩ | ⟨e, b⟩
  · refine br_f (ag_1n e) ?_
    rcases P1 with ⟨e6, j12, ex⟩ | ⟨e6, j12, ex⟩
    · refine br_f (ag_1n e6) ?_
      rcases P2 with ⟨e7, v16, ev⟩ | ⟨e7, v16, ev⟩
      · have ea : a1 x = x2 := by rw [PA x hx, if_pos ⟨hj j12, v16⟩, ev]
        rw [ea] at G0 G1
        exact br_f (ag_1n e7) (br_c (fun q => G1 ⟨b, q⟩) (fun q => G0 (Or.inr ⟨b, q⟩)))
      · have ea : a1 x = 15 := by rw [PA x hx, if_neg (fun q => by omega)]
        exact br_t e7 (G1 ⟨b, by rw [ea]; exact ag_15 w hw⟩)
    · have ea : a1 x = 15 := by rw [PA x hx, if_neg (fun q => by omega)]
      exact br_t e6 (G1 ⟨b, by rw [ea]; exact ag_15 w hw⟩)
  · exact br_t e (G0 (Or.inl b))
theorem ag_L232 {post : Int32 → St0 → Prop} {mc ms kc ks : Nat} {x0 x1 x2 x5 x6 x7 x12 : Int32} {k j v x y w : Nat} {f1 f2 f3 f4 f5 f6 f7 f8 : Int32} {a1 a2 a3 a4 a5 a6 a7 a8 a9 a10 a11 a12 a13 a14 a15 a16 a17 a18 a19 a20 a21 : Nat → Int32} (P : ag_P x0 x1 x2 x5 x6 x7 f1 a1 k j v) (hx : x < 12) (hy : y < 12) (hw : w < 4) (hp : f2 = 0) (hj : j < 12 → x = j)
    (hi : (x12 = 1 ∧ ag_bs x w = nI y) ∨ (x12 = 0 ∧ y = x)) (h : post 1 ()) :
    wL_lawOf_232 post mc ms x0 x1 x2 x5 x6 x7 (nI x) (nI w) x12 (nI y) kc ks f1 f2 f3 f4 f5 f6 f7 f8 a1 a2 a3 a4 a5 a6 a7 a8 a9 a10 a11 a12 a13 a14 a15 a16 a17 a18 a19 a20 a21 := by
  have q1 := ag_fl_eq P.1 (by omega) hx
  have q2 := ag_fl_eq P.1 (by omega) hy
  have G : ¬ (x ≠ k ∧ y ≠ k) → wL_lawOf_250 post mc ms x0 x1 x2 x5 x6 x7 (nI x) (nI w) x12 (nI y) kc ks f1 f2 f3 f4 f5 f6 f7 f8 a1 a2 a3 a4 a5 a6 a7 a8 a9 a10 a11 a12 a13 a14 a15 a16 a17 a18 a19 a20 a21 := fun q => ag_L251 P hx hy hw hp hj (Or.inr ⟨rfl, q⟩) hi h
  exact br_c (fun z => G (fun q => q.1 (q1.mp z))) (fun z => br_c (fun z2 => G (fun q => q.2 (q2.mp z2))) (fun z2 => ag_L251 P hx hy hw hp hj (Or.inl ⟨rfl, fun q => z (q1.mpr q), fun q => z2 (q2.mpr q)⟩) hi h))
theorem ag_L183 {post : Int32 → St0 → Prop} {mc ms kc ks : Nat} {x0 x1 x2 x5 x6 x7 x10 z0 z1 : Int32} {k j v x w : Nat} {f1 f2 f3 f4 f5 f6 f7 f8 : Int32} {a1 a2 a3 a4 a5 a6 a7 a8 a9 a10 a11 a12 a13 a14 a15 a16 a17 a18 a19 a20 a21 : Nat → Int32} (P : ag_P x0 x1 x2 x5 x6 x7 f1 a1 k j v) (hx : x < 12) (hw : w < 4) (hp : f2 = 0) (hj : j < 12 → x = j)
    (hr : x10 = ag_r x w) (hc : z1 + z0 = ag_c x w) (h : post 1 ()) :
    wL_lawOf_183 post mc ms x0 x1 x2 x5 x6 x7 (nI x) (nI w) x10 z0 z1 kc ks f1 f2 f3 f4 f5 f6 f7 f8 a1 a2 a3 a4 a5 a6 a7 a8 a9 a10 a11 a12 a13 a14 a15 a16 a17 a18 a19 a20 a21 := by
  subst hr
  have G : wL_lawOf_212 post mc ms x0 x1 x2 x5 x6 x7 (nI x) (nI w) (ag_r x w) (ag_c x w) kc ks f1 f2 f3 f4 f5 f6 f7 f8 a1 a2 a3 a4 a5 a6 a7 a8 a9 a10 a11 a12 a13 a14 a15 a16 a17 a18 a19 a20 a21 := br_t rfl (ag_L232 P hx hx hw hp hj (Or.inr ⟨rfl, rfl⟩) h)
  refine nm_r hc ?_
  refine br_c (fun _ => G) (fun i1 => br_c (fun _ => G) (fun i2 => br_c (fun _ => G) (fun i3 => br_c (fun _ => G) (fun i4 => br_f (by decide) ?_))))
  obtain ⟨e, n0⟩ := ag_rc hx hw i1 i2 i3 i4
  rw [e]
  rcases ag_bs_ok x w hx hw with z | ⟨m, hm, em, _⟩
  · exact absurd z n0
  · rw [em]
    exact ag_L232 P hx hm hw hp hj (Or.inl ⟨rfl, em⟩) h
theorem ag_L155 {post : Int32 → St0 → Prop} {mc ms kc ks : Nat} {x0 x1 x2 x5 x6 x7 z0 z1 : Int32} {k j v x w : Nat} {f1 f2 f3 f4 f5 f6 f7 f8 : Int32} {a1 a2 a3 a4 a5 a6 a7 a8 a9 a10 a11 a12 a13 a14 a15 a16 a17 a18 a19 a20 a21 : Nat → Int32} (P : ag_P x0 x1 x2 x5 x6 x7 f1 a1 k j v) (hx : x < 12) (hw : w < 4) (hp : f2 = 0) (hj : j < 12 → x = j)
    (hr : z1 + z0 = ag_r x w) (h : post 1 ()) :
    wL_lawOf_155 post mc ms x0 x1 x2 x5 x6 x7 (nI x) (nI w) z0 z1 kc ks f1 f2 f3 f4 f5 f6 f7 f8 a1 a2 a3 a4 a5 a6 a7 a8 a9 a10 a11 a12 a13 a14 a15 a16 a17 a18 a19 a20 a21 := by
  refine nm_r hr ⟨by decide, pk_eq w 1 (fun e => ?_) (fun n1 => pk_eq w 3 (fun e => ?_) (fun n3 => ?_))⟩
  · exact ag_L183 P hx hw hp hj rfl (by unfold ag_c; rw [if_pos e]) h
  · exact ag_L183 P hx hw hp hj rfl (by unfold ag_c; rw [if_neg n1, if_pos e]) h
  · exact ag_L183 P hx hw hp hj rfl (by unfold ag_c; rw [if_neg n1, if_neg n3]) h
theorem ag_L124 {post : Int32 → St0 → Prop} {mc ms kc ks : Nat} {x0 x1 x2 x3 x5 x6 x7 : Int32} {k j v x : Nat} {f1 f2 f3 f4 f5 f6 f7 f8 : Int32} {a1 a2 a3 a4 a5 a6 a7 a8 a9 a10 a11 a12 a13 a14 a15 a16 a17 a18 a19 a20 a21 : Nat → Int32} (P : ag_P x0 x1 x2 x5 x6 x7 f1 a1 k j v) (hx : x < 12) (hp : f2 = 0) (hj : j < 12 → x = j) (h : post 1 ()) :
    wL_lawOf_124 post mc ms x0 x1 x2 x3 x5 x6 x7 (nI x) kc ks f1 f2 f3 f4 f5 f6 f7 f8 a1 a2 a3 a4 a5 a6 a7 a8 a9 a10 a11 a12 a13 a14 a15 a16 a17 a18 a19 a20 a21 := by
  obtain ⟨w, hw, ew⟩ := pk_andE x3 (m := 3) 2 (by decide)
  have hw4 : w < 4 := hw
  refine nm_r ew ⟨by decide, pk_eq w 0 (fun e => ?_) (fun n0 => pk_eq w 2 (fun e => ?_) (fun n2 => ?_))⟩
  · exact ag_L155 P hx hw hp hj (by unfold ag_r; rw [if_pos e]) h
  · exact ag_L155 P hx hw hp hj (by unfold ag_r; rw [if_neg n0, if_pos e]) h
  · exact ag_L155 P hx hw hp hj (by unfold ag_r; rw [if_neg n0, if_neg n2]) h
theorem ag_L109 {post : Int32 → St0 → Prop} {mc ms kc ks : Nat} {x0 x1 x2 x3 x5 x6 x7 z0 z1 : Int32} {k j v : Nat} {f1 f2 f3 f4 f5 f6 f7 f8 : Int32} {a1 a2 a3 a4 a5 a6 a7 a8 a9 a10 a11 a12 a13 a14 a15 a16 a17 a18 a19 a20 a21 : Nat → Int32} (P : ag_P x0 x1 x2 x5 x6 x7 f1 a1 k j v) (hp : f2 = 0) (hz : z1 = z0) (h : post 1 ()) :
    wL_lawOf_109 post mc ms x0 x1 x2 x3 x5 x6 x7 z0 z1 kc ks f1 f2 f3 f4 f5 f6 f7 f8 a1 a2 a3 a4 a5 a6 a7 a8 a9 a10 a11 a12 a13 a14 a15 a16 a17 a18 a19 a20 a21 := by
  refine br_t hz ?_
  rcases P.2.1 with ⟨e6, hj, ex⟩ | ⟨e6, hj, ex⟩
  · have G : wL_lawOf_124 post mc ms x0 x1 x2 x3 x5 x6 x7 (nI j) kc ks f1 f2 f3 f4 f5 f6 f7 f8 a1 a2 a3 a4 a5 a6 a7 a8 a9 a10 a11 a12 a13 a14 a15 a16 a17 a18 a19 a20 a21 := ag_L124 P hj hp (fun _ => rfl) h
    rw [← ex] at G
    exact br_f (ag_1n e6) G
  · exact br_t e6 (ag_L124 (x := 5) P (by omega) hp (fun q => by omega) h)
theorem ag_L79 {post : Int32 → St0 → Prop} {mc ms kc ks : Nat} {x0 x1 x2 x3 x5 x6 x7 : Int32} {k j v : Nat} {f1 f2 f3 f4 f5 f6 f7 f8 : Int32} {a1 a2 a3 a4 a5 a6 a7 a8 a9 a10 a11 a12 a13 a14 a15 a16 a17 a18 a19 a20 a21 : Nat → Int32} (P0 : ag_fl x0 x5 12 k) (P1 : ag_fl x1 x6 12 j) (P2 : ag_fl x2 x7 16 v) (PW : f1 = ag_W k) (h15 : ∀ c, c < 12 → a1 c = 15) (hp : f2 = 0) (h : post 1 ()) :
    wL_lawOf_79 post mc ms x0 x1 x2 x3 x5 x6 x7 kc ks f1 f2 f3 f4 f5 f6 f7 f8 a1 a2 a3 a4 a5 a6 a7 a8 a9 a10 a11 a12 a13 a14 a15 a16 a17 a18 a19 a20 a21 := by
  unfold wL_lawOf_79
  rcases P1 with ⟨e6, hj, ex⟩ | ⟨e6, hj, ex⟩
  · rcases P2 with ⟨e7, hv, ev⟩ | ⟨e7, hv, ev⟩
    · have Q : ag_P x0 x1 x2 x5 x6 x7 f1 (upd a1 j (nI v)) k j v := by
        refine ⟨P0, Or.inl ⟨e6, hj, ex⟩, Or.inl ⟨e7, hv, ev⟩, PW, fun c hc => ?_⟩
        by_cases e : c = j
        · rw [e, pk_us, if_pos ⟨rfl, hv⟩]
        · rw [pk_un e, if_neg (fun q => e q.1)]
          exact h15 c hc
      subst ex ev
      exact ag_ways hj (nI_pos (by omega)) (nI_le (a := v) (b := 15) (by omega) (by omega)) (br_f (ag_1n e6) (br_f (ag_1n e7) (ag_L109 Q hp (h15 j hj) h)))
    · have Q : ag_P x0 x1 x2 x5 x6 x7 f1 a1 k j v := ⟨P0, Or.inl ⟨e6, hj, ex⟩, Or.inr ⟨e7, hv, ev⟩, PW, fun c hc => by rw [if_neg (fun q => by omega)]; exact h15 c hc⟩
      subst ex
      exact ag_waysN2 hj (ev.imp id (fun q z => absurd (Int32.le_trans q z) (by decide))) (br_f (ag_1n e6) (br_t e7 (ag_L109 Q hp rfl h)))
  · have Q : ag_P x0 x1 x2 x5 x6 x7 f1 a1 k j v := ⟨P0, Or.inr ⟨e6, hj, ex⟩, P2, PW, fun c hc => by rw [if_neg (fun q => by omega)]; exact h15 c hc⟩
    exact ag_waysN1 ex (br_t e6 (ag_L109 Q hp rfl h))
theorem ag_L62 {post : Int32 → St0 → Prop} {mc ms kc ks : Nat} {x0 x1 x2 x3 x5 x6 : Int32} {k j : Nat} {f1 f2 f3 f4 f5 f6 f7 f8 : Int32} {a1 a2 a3 a4 a5 a6 a7 a8 a9 a10 a11 a12 a13 a14 a15 a16 a17 a18 a19 a20 a21 : Nat → Int32} (P0 : ag_fl x0 x5 12 k) (P1 : ag_fl x1 x6 12 j) (PW : f1 = ag_W k) (h15 : ∀ c, c < 12 → a1 c = 15) (hp : f2 = 0) (h : post 1 ()) :
    wL_lawOf_62 post mc ms x0 x1 x2 x3 x5 x6 kc ks f1 f2 f3 f4 f5 f6 f7 f8 a1 a2 a3 a4 a5 a6 a7 a8 a9 a10 a11 a12 a13 a14 a15 a16 a17 a18 a19 a20 a21 :=
  br_c (fun z => ag_L79 P0 P1 (ag_fl_out (Or.inl z)) PW h15 hp h) (fun z => br_c (fun z2 => ag_L79 P0 P1 (ag_fl_out (Or.inr (ag_out (N := 15) (by decide) (by omega) z2))) PW h15 hp h)
    (fun z2 => Exists.elim (ag_inn (N := 15) (by decide) z z2) (fun v q => ag_L79 P0 P1 (ag_fl_in q.1 q.2) PW h15 hp h)))
theorem ag_L42 {post : Int32 → St0 → Prop} {mc ms kc ks : Nat} {x0 x1 x2 x3 x5 z0 z1 : Int32} {k : Nat} {f1 f2 f3 f4 f5 f6 f7 f8 : Int32} {a1 a2 a3 a4 a5 a6 a7 a8 a9 a10 a11 a12 a13 a14 a15 a16 a17 a18 a19 a20 a21 : Nat → Int32} (P0 : ag_fl x0 x5 12 k) (PW : f1 = ag_W k) (h15 : ∀ c, c < 12 → a1 c = 15) (hp : f2 = 0) (hz : z1 = z0) (h : post 1 ()) :
    wL_lawOf_42 post mc ms x0 x1 x2 x3 x5 z0 z1 kc ks f1 f2 f3 f4 f5 f6 f7 f8 a1 a2 a3 a4 a5 a6 a7 a8 a9 a10 a11 a12 a13 a14 a15 a16 a17 a18 a19 a20 a21 :=
  br_t hz (br_c (fun z => ag_L62 P0 (ag_fl_out (Or.inl z)) PW h15 hp h) (fun z => br_c (fun z2 => ag_L62 P0 (ag_fl_out (Or.inr (ag_out (N := 11) (by decide) (by omega) z2))) PW h15 hp h)
    (fun z2 => Exists.elim (ag_inn (N := 11) (by decide) z z2) (fun j q => ag_L62 P0 (ag_fl_in q.1 q.2) PW h15 hp h))))
theorem ag_L24 {post : Int32 → St0 → Prop} {mc ms kc ks : Nat} {x0 x1 x2 x3 x5 : Int32} {k : Nat} {f1 f2 f3 f4 f5 f6 f7 f8 : Int32} {a1 a2 a3 a4 a5 a6 a7 a8 a9 a10 a11 a12 a13 a14 a15 a16 a17 a18 a19 a20 a21 : Nat → Int32} (P0 : ag_fl x0 x5 12 k) (hW : f1 = 0) (h15 : ∀ c, c < 12 → a1 c = 15) (hp : f2 = 0) (h : post 1 ()) :
    wL_lawOf_24 post mc ms x0 x1 x2 x3 x5 kc ks f1 f2 f3 f4 f5 f6 f7 f8 a1 a2 a3 a4 a5 a6 a7 a8 a9 a10 a11 a12 a13 a14 a15 a16 a17 a18 a19 a20 a21 := by
  subst hW
  unfold wL_lawOf_24
  rcases P0 with ⟨e5, hk, ex⟩ | ⟨e5, hk, ex⟩
  · subst ex
    exact ag_wall hk (br_f (ag_1n e5) (ag_L42 (Or.inl ⟨e5, hk, rfl⟩) (ag_w2 k hk) h15 hp (ag_w1 k hk) h))
  · subst hk
    exact ag_wallN ex (br_t e5 (ag_L42 (Or.inr ⟨e5, rfl, ex⟩) (by decide) h15 hp rfl h))
end
section
theorem ag_init {post : St2 → Prop} {mc ms : Nat} (hm : 21 ≤ mc) (hs : 11037 ≤ ms) (H : ∀ s, (∀ j, j < 12 → s j = 15) → post (0, 0, 0, 0, 0, 0, 0, 0, s, fun _ => 0, fun _ => 0, fun _ => 0, fun _ => 0, fun _ => 0, fun _ => 0, fun _ => 0, fun _ => 0, fun _ => 0, fun _ => 0, fun _ => 0, fun _ => 0, fun _ => 0, fun _ => 0, fun _ => 0, fun _ => 0, fun _ => 0, fun _ => 0, fun _ => 0, fun _ => 0)) : wpX_init post mc ms (0, 0, 0, 0, 0, 0, 0, 0) := by
  unfold wpX_init
  refine ⟨by omega, by omega, by omega, by omega, by omega, by omega, by omega, by omega, by omega, by omega, by omega, by omega, by omega, by omega, by omega, by omega, by omega, by omega, by omega, by omega, by omega, by omega, by omega, by omega, by omega, by omega, by omega, by omega, by omega, by omega, by omega, by omega, by omega, by omega, by omega, by omega, by omega, by omega, by omega, by omega, by omega, by omega, ?_⟩
  exact pk_loop (fun n i s => wX_init_177 post mc ms 21 11037 0 0 0 0 0 0 0 0 n (nI i) s (fun _ => 0) (fun _ => 0) (fun _ => 0) (fun _ => 0) (fun _ => 0) (fun _ => 0) (fun _ => 0) (fun _ => 0) (fun _ => 0) (fun _ => 0) (fun _ => 0) (fun _ => 0) (fun _ => 0) (fun _ => 0) (fun _ => 0) (fun _ => 0) (fun _ => 0) (fun _ => 0) (fun _ => 0) (fun _ => 0)) (fun i s => ∀ j, j < i → s j = 15) 12 0 (fun _ => 0) (by omega) (fun j hj => absurd hj (by omega))
    (fun n s h => pk_le 12 12 (fun _ => H s h) (fun z => absurd z (by omega)))
    (fun n i s hi h hw => pk_le 12 i (fun z => absurd z (by omega)) (fun _ => ⟨pk_in i 12 hi, nm_r (ag_cu (by omega)) (nm_r (nI_1 i) (hw _ (ag_fill (f := fun _ => 15) h rfl)))⟩))
theorem ag_lawOf {post : Int32 → St0 → Prop} {p0 p1 p2 p3 : Int32} (h : post 1 ()) : wpL_lawOf post 4096 76976 () p0 p1 p2 p3 := by
  unfold wpL_lawOf
  refine ⟨by omega, by omega, 21, 11037, by omega, by omega, ag_init (by omega) (by omega) (fun s e => ?_)⟩
  exact br_c (fun z => ag_L24 (ag_fl_out (Or.inl z)) rfl e rfl h) (fun z => br_c (fun z2 => ag_L24 (ag_fl_out (Or.inr (ag_out (N := 11) (by decide) (by omega) z2))) rfl e rfl h)
    (fun z2 => Exists.elim (ag_inn (N := 11) (by decide) z z2) (fun k q => ag_L24 (ag_fl_in q.1 q.2) rfl e rfl h)))
theorem ag_cell {post : Int32 → Prop} {L : Nat} {xs : Nat → Int32} (i : Nat) (hL : L ≤ 4) (hi : i < 4) (h : ∀ r, post r) : wpL_cellAt post L xs () (nI i) :=
  pk_le L i (fun _ => h 0) (fun z => ⟨pk_in i L z, h _⟩)
theorem i_vc (xs : Nat → Int32) (L : Nat) (hL : L ≤ 4) : wpL_law (fun r => r = 1) L xs := by
  unfold wpL_law
  exact ag_cell 0 hL (by omega) (fun _ => ag_cell 1 hL (by omega) (fun _ => ag_cell 2 hL (by omega) (fun _ => ag_cell 3 hL (by omega) (fun _ => ⟨4096, 76976, by omega, by omega, ag_lawOf rfl⟩))))
end
