section
/-- how many j below n answer true -/
def tg_c (p : Nat → Bool) : Nat → Nat
  | 0 => 0
  | n + 1 => tg_c p n + (if p n = true then 1 else 0)
theorem tg_c_congr {p q : Nat → Bool} {n : Nat} (h : ∀ j, j < n → p j = q j) : tg_c p n = tg_c q n := by
  induction n with
  | zero => rfl
  | succ n ih =>
    have h1 := ih (fun j hj => h j (by omega))
    have h2 := h n (by omega)
    show tg_c p n + (if p n = true then 1 else 0) = tg_c q n + (if q n = true then 1 else 0)
    rw [h1, h2]
theorem tg_c_mono {p q : Nat → Bool} {n : Nat} (h : ∀ j, j < n → p j = true → q j = true) : tg_c p n ≤ tg_c q n := by
  induction n with
  | zero => exact Nat.le_refl 0
  | succ n ih =>
    have h1 := ih (fun j hj => h j (by omega))
    have h2 := h n (by omega)
    show tg_c p n + (if p n = true then 1 else 0) ≤ tg_c q n + (if q n = true then 1 else 0)
    by_cases e : p n = true
    · rw [if_pos e, if_pos (h2 e)]; omega
    · rw [if_neg e]; omega
theorem tg_c_lt {p q : Nat → Bool} {n x : Nat} (h : ∀ j, j < n → p j = true → q j = true) (hx : x < n) (hp : p x = false) (hq : q x = true) : tg_c p n < tg_c q n := by
  induction n with
  | zero => omega
  | succ n ih =>
    have h2 := h n (by omega)
    show tg_c p n + (if p n = true then 1 else 0) < tg_c q n + (if q n = true then 1 else 0)
    by_cases e : x = n
    · have h1 := tg_c_mono (fun j hj => h j (Nat.lt_succ_of_lt hj))
      rw [← e, if_pos hq, if_neg (by rw [hp]; decide)]
      rw [← e] at h1
      omega
    · have h1 := ih (fun j hj => h j (by omega)) (by omega)
      by_cases e2 : p n = true
      · rw [if_pos e2, if_pos (h2 e2)]; omega
      · rw [if_neg e2]; omega
theorem tg_c_le (p : Nat → Bool) (n : Nat) : tg_c p n ≤ n := by
  induction n with
  | zero => exact Nat.le_refl 0
  | succ n ih =>
    show tg_c p n + (if p n = true then 1 else 0) ≤ n + 1
    by_cases e : p n = true
    · rw [if_pos e]; omega
    · rw [if_neg e]; omega
theorem tg_c_zero {p : Nat → Bool} {n : Nat} (h : ∀ j, j < n → p j = false) : tg_c p n = 0 := by
  induction n with
  | zero => rfl
  | succ n ih =>
    show tg_c p n + (if p n = true then 1 else 0) = 0
    rw [ih (fun j hj => h j (by omega)), if_neg (by rw [h n (by omega)]; decide)]
theorem tg_c_ex {p : Nat → Bool} {n : Nat} (h : 1 ≤ tg_c p n) : ∃ x, x < n ∧ p x = true := by
  induction n with
  | zero => exact absurd h (by show ¬ 1 ≤ 0; omega)
  | succ n ih =>
    have h' : 1 ≤ tg_c p n + (if p n = true then 1 else 0) := h
    by_cases e : p n = true
    · exact ⟨n, by omega, e⟩
    · rw [if_neg e] at h'
      obtain ⟨x, hx, hp⟩ := ih h'
      exact ⟨x, by omega, hp⟩
theorem tg_c_rm {p : Nat → Bool} {n x : Nat} (hx : x < n) (hp : p x = true) : tg_c p n = tg_c (fun j => p j && decide (j ≠ x)) n + 1 := by
  induction n with
  | zero => omega
  | succ n ih =>
    show tg_c p n + (if p n = true then 1 else 0) = tg_c (fun j => p j && decide (j ≠ x)) n + (if (p n && decide (n ≠ x)) = true then 1 else 0) + 1
    by_cases e : x = n
    · have h1 : tg_c p n = tg_c (fun j => p j && decide (j ≠ x)) n := tg_c_congr (fun j hj => by
        have : j ≠ x := by omega
        rw [decide_eq_true this, Bool.and_true])
      have h2 : (p n && decide (n ≠ x)) = false := by
        rw [decide_eq_false (by omega), Bool.and_false]
      rw [← h1, h2, ← e, if_pos hp]
      rfl
    · have h1 := ih (by omega)
      have h2 : (p n && decide (n ≠ x)) = p n := by
        rw [decide_eq_true (by omega : n ≠ x), Bool.and_true]
      rw [h2]
      omega
theorem tg_c_pos {p : Nat → Bool} {n x : Nat} (hx : x < n) (hp : p x = true) : 1 ≤ tg_c p n := by
  rw [tg_c_rm hx hp]; omega
theorem tg_c_two {p : Nat → Bool} {n x y : Nat} (hx : x < n) (hy : y < n) (hn : y ≠ x) (hp : p x = true) (hq : p y = true) : 2 ≤ tg_c p n := by
  have h1 := tg_c_rm hx hp
  have h2 : 1 ≤ tg_c (fun j => p j && decide (j ≠ x)) n := tg_c_pos hy (by
    show (p y && decide (y ≠ x)) = true
    rw [hq, decide_eq_true hn]; rfl)
  omega
theorem tg_c_2ex {p : Nat → Bool} {n : Nat} (h : 2 ≤ tg_c p n) : ∃ x y, x < n ∧ y < n ∧ y ≠ x ∧ p x = true ∧ p y = true := by
  obtain ⟨x, hx, hp⟩ := tg_c_ex (by omega : 1 ≤ tg_c p n)
  have h1 := tg_c_rm hx hp
  obtain ⟨y, hy, hq⟩ := tg_c_ex (by omega : 1 ≤ tg_c (fun j => p j && decide (j ≠ x)) n)
  have hq' : (p y && decide (y ≠ x)) = true := hq
  rw [Bool.and_eq_true] at hq'
  exact ⟨x, y, hx, hy, of_decide_eq_true hq'.2, hp, hq'.1⟩
theorem tg_c_le1 {p : Nat → Bool} {n x : Nat} (h : ∀ j, j < n → p j = true → j = x) : tg_c p n ≤ 1 := by
  rcases Nat.lt_or_ge (tg_c p n) 2 with z | z
  · omega
  · obtain ⟨a, b, ha, hb, hne, hpa, hpb⟩ := tg_c_2ex z
    exact absurd ((h b hb hpb).trans (h a ha hpa).symm) hne
theorem tg_c_one {n x : Nat} (hx : x < n) : tg_c (fun j => decide (j = x)) n = 1 := by
  have h1 : tg_c (fun j => decide (j = x)) n ≤ 1 := tg_c_le1 (fun j _ h => of_decide_eq_true h)
  have h2 : 1 ≤ tg_c (fun j => decide (j = x)) n := tg_c_pos hx (decide_eq_true rfl)
  omega
theorem tg_dec {a b : Prop} [Decidable a] [Decidable b] (h : a ↔ b) : decide a = decide b := by
  by_cases e : a
  · rw [decide_eq_true e, decide_eq_true (h.mp e)]
  · rw [decide_eq_false e, decide_eq_false (fun z => e (h.mpr z))]
/-- a point in use: 0 to n - 1, and 7 to 7 + n - 1 -/
def tg_U (n v : Nat) : Prop := v < n ∨ (7 ≤ v ∧ v < 7 + n)
/-- a row of groups: least points, the unused alone, of one type, as many of x as of y -/
def tg_R (n : Nat) (T r : Nat → Nat) : Prop :=
  (∀ v, v < 14 → r v ≤ v) ∧ (∀ v, v < 14 → r (r v) = r v) ∧ (∀ v w, v < 14 → w < 14 → r v = r w → ¬ tg_U n v → v = w) ∧
  (∀ v w, v < 14 → w < 14 → r v = r w → T v = T w) ∧
  (∀ c, c < 14 → tg_c (fun j => decide (r j = c)) n = tg_c (fun j => decide (r (7 + j) = c)) n)
/-- l is the least point of the group of v with v's mark -/
def tg_lst (r : Nat → Nat) (m : Nat → Int64) (v l : Nat) : Prop := l ≤ v ∧ r l = r v ∧ m l = m v ∧ ∀ u, u < l → ¬ (r u = r v ∧ m u = m v)
theorem tg_lst_iff {r r' : Nat → Nat} {m : Nat → Int64} (h : ∀ v, v < 14 → tg_lst r m v (r' v)) {u v : Nat} (hu : u < 14) (hv : v < 14) : r' u = r' v ↔ (r u = r v ∧ m u = m v) := by
  obtain ⟨u1, u2, u3, u4⟩ := h u hu
  obtain ⟨v1, v2, v3, v4⟩ := h v hv
  constructor
  · intro e
    rw [e] at u2 u3
    exact ⟨u2.symm.trans v2, u3.symm.trans v3⟩
  · intro ⟨e1, e2⟩
    rcases Nat.lt_trichotomy (r' u) (r' v) with z | z | z
    · exact absurd ⟨u2.trans e1, u3.trans e2⟩ (v4 _ z)
    · exact z
    · exact absurd ⟨v2.trans e1.symm, v3.trans e2.symm⟩ (u4 _ z)
theorem tg_lst_same {r r' : Nat → Nat} {m : Nat → Int64} (h1 : ∀ v, v < 14 → r v ≤ v) (h2 : ∀ v, v < 14 → r (r v) = r v)
    (h : ∀ v, v < 14 → tg_lst r m v (r' v)) (hm : ∀ u v, u < 14 → v < 14 → r u = r v → m u = m v) : ∀ v, v < 14 → r' v = r v := by
  intro v hv
  have a1 := h1 v hv
  have a2 : r v < 14 := by omega
  have e1 : r' (r v) = r' v := (tg_lst_iff h a2 hv).mpr ⟨h2 v hv, hm _ _ a2 hv (h2 v hv)⟩
  have e2 := (h (r v) a2).1
  have e3 := (h v hv).1
  have e4 := (h v hv).2.1
  have e5 := h1 (r' v) (by omega)
  omega
theorem tg_R_of {n : Nat} {T r r' : Nat → Nat} {m : Nat → Int64} (hn : n ≤ 7) (h : ∀ v, v < 14 → tg_lst r m v (r' v))
    (ha : ∀ v w, v < 14 → w < 14 → r v = r w → m v = m w → ¬ tg_U n v → v = w)
    (hb : ∀ v w, v < 14 → w < 14 → r v = r w → m v = m w → T v = T w)
    (hc : ∀ c, c < 14 → r' c = c → tg_c (fun j => decide (r j = r c ∧ m j = m c)) n = tg_c (fun j => decide (r (7 + j) = r c ∧ m (7 + j) = m c)) n) :
    tg_R n T r' := by
  have h2 : ∀ v, v < 14 → r' (r' v) = r' v := by
    intro v hv
    obtain ⟨v1, v2, v3, v4⟩ := h v hv
    exact (tg_lst_iff h (by omega) hv).mpr ⟨v2, v3⟩
  refine ⟨fun v hv => (h v hv).1, h2, ?_, ?_, ?_⟩
  · intro v w hv hw e
    obtain ⟨e1, e2⟩ := (tg_lst_iff h hv hw).mp e
    exact ha v w hv hw e1 e2
  · intro v w hv hw e
    obtain ⟨e1, e2⟩ := (tg_lst_iff h hv hw).mp e
    exact hb v w hv hw e1 e2
  · intro c hcc
    by_cases e : r' c = c
    · have g : ∀ j, j < 14 → (r' j = c ↔ (r j = r c ∧ m j = m c)) := by
        intro j hj
        rw [← tg_lst_iff h hj hcc, e]
      rw [tg_c_congr (fun j hj => tg_dec (g j (by omega))), hc c hcc e]
      exact (tg_c_congr (fun j hj => tg_dec (g (7 + j) (by omega)))).symm
    · have g : ∀ j, j < 14 → ¬ r' j = c := by
        intro j hj z
        have := h2 j hj
        rw [z] at this
        exact e this
      rw [tg_c_zero (fun j hj => decide_eq_false (g j (by omega))), tg_c_zero (fun j hj => decide_eq_false (g (7 + j) (by omega)))]
/-- the split of tryNext keeps the picture -/
theorem tg_split {n : Nat} {T r r' : Nat → Nat} {m : Nat → Int64} {x y : Nat} (hn : n ≤ 7) (hR : tg_R n T r) (hx : x < n) (hy : y < n) (hxy : r (7 + y) = r x)
    (hm : ∀ v, v < 14 → m v = if v = x ∨ v = 7 + y then 1 else 0) (h : ∀ v, v < 14 → tg_lst r m v (r' v)) : tg_R n T r' := by
  obtain ⟨R1, R2, R3, R4, R5⟩ := hR
  have m1 : ∀ v, v < 14 → (v = x ∨ v = 7 + y) → m v = 1 := fun v hv e => by rw [hm v hv, if_pos e]
  have m0 : ∀ v, v < 14 → ¬ (v = x ∨ v = 7 + y) → m v = 0 := fun v hv e => by rw [hm v hv, if_neg e]
  have ne : ¬ (0 : Int64) = 1 := by decide
  refine tg_R_of hn h (fun v w hv hw e _ => R3 v w hv hw e) (fun v w hv hw e _ => R4 v w hv hw e) ?_
  intro c hc _
  by_cases ec : c = x ∨ c = 7 + y
  · have rc : r c = r x := by
      rcases ec with z | z
      · rw [z]
      · rw [z, hxy]
    have g1 : ∀ j, j < n → ((r j = r c ∧ m j = m c) ↔ j = x) := by
      intro j hj
      rw [m1 c hc ec]
      constructor
      · intro ⟨_, e⟩
        by_cases ej : j = x ∨ j = 7 + y
        · omega
        · rw [m0 j (by omega) ej] at e
          exact absurd e ne
      · intro e
        exact ⟨by rw [e, rc], m1 j (by omega) (Or.inl e)⟩
    have g2 : ∀ j, j < n → ((r (7 + j) = r c ∧ m (7 + j) = m c) ↔ j = y) := by
      intro j hj
      rw [m1 c hc ec]
      constructor
      · intro ⟨_, e⟩
        by_cases ej : 7 + j = x ∨ 7 + j = 7 + y
        · omega
        · rw [m0 (7 + j) (by omega) ej] at e
          exact absurd e ne
      · intro e
        exact ⟨by rw [e, rc, hxy], m1 (7 + j) (by omega) (Or.inr (by omega))⟩
    rw [tg_c_congr (fun j hj => tg_dec (g1 j hj)), tg_c_congr (fun j hj => tg_dec (g2 j hj)), tg_c_one hx, tg_c_one hy]
  · have mc := m0 c hc ec
    have g1 : ∀ j, j < n → ((r j = r c ∧ m j = m c) ↔ (r j = r c ∧ j ≠ x)) := by
      intro j hj
      rw [mc]
      constructor
      · intro ⟨e1, e⟩
        refine ⟨e1, fun z => ?_⟩
        rw [m1 j (by omega) (Or.inl z)] at e
        exact ne e.symm
      · intro ⟨e1, e⟩
        exact ⟨e1, m0 j (by omega) (by omega)⟩
    have g2 : ∀ j, j < n → ((r (7 + j) = r c ∧ m (7 + j) = m c) ↔ (r (7 + j) = r c ∧ j ≠ y)) := by
      intro j hj
      rw [mc]
      constructor
      · intro ⟨e1, e⟩
        refine ⟨e1, fun z => ?_⟩
        rw [m1 (7 + j) (by omega) (Or.inr (by omega))] at e
        exact ne e.symm
      · intro ⟨e1, e⟩
        exact ⟨e1, m0 (7 + j) (by omega) (by omega)⟩
    rw [tg_c_congr (fun j hj => tg_dec (g1 j hj)), tg_c_congr (fun j hj => tg_dec (g2 j hj))]
    have bal := R5 (r c) (by have := R1 c hc; omega)
    by_cases er : r c = r x
    · have q1 := tg_c_rm (p := fun j => decide (r j = r c)) hx (decide_eq_true er.symm)
      have q2 := tg_c_rm (p := fun j => decide (r (7 + j) = r c)) hy (decide_eq_true (hxy.trans er.symm))
      have s1 : tg_c (fun j => decide (r j = r c ∧ j ≠ x)) n = tg_c (fun j => decide (r j = r c) && decide (j ≠ x)) n := tg_c_congr (fun j _ => Bool.decide_and _ _)
      have s2 : tg_c (fun j => decide (r (7 + j) = r c ∧ j ≠ y)) n = tg_c (fun j => decide (r (7 + j) = r c) && decide (j ≠ y)) n := tg_c_congr (fun j _ => Bool.decide_and _ _)
      omega
    · have s1 : tg_c (fun j => decide (r j = r c ∧ j ≠ x)) n = tg_c (fun j => decide (r j = r c)) n := tg_c_congr (fun j _ => tg_dec ⟨fun z => z.1, fun z => ⟨z, fun e => er (by rw [← z, e])⟩⟩)
      have s2 : tg_c (fun j => decide (r (7 + j) = r c ∧ j ≠ y)) n = tg_c (fun j => decide (r (7 + j) = r c)) n := tg_c_congr (fun j _ => tg_dec ⟨fun z => z.1, fun z => ⟨z, fun e => er (by rw [← z, e, hxy])⟩⟩)
      rw [s1, s2]
      exact bal
/-- how many points of x are alone in their group -/
def tg_us (r : Nat → Nat) (n : Nat) : Nat := tg_c (fun v => decide (tg_c (fun j => decide (r j = r v)) n ≤ 1)) n
theorem tg_us_lt {r r' : Nat → Nat} {n x w : Nat} (hf : ∀ u v, u < n → v < n → r' u = r' v → r u = r v) (hx : x < n) (hw : w < n) (hne : w ≠ x) (hs : r w = r x)
    (hx' : ∀ j, j < n → r' j = r' x → j = x) : tg_us r n < tg_us r' n := by
  refine tg_c_lt (x := x) (fun v hv e => ?_) hx ?_ ?_
  · have e' := of_decide_eq_true e
    refine decide_eq_true (Nat.le_trans (tg_c_mono (fun j hj z => ?_)) e')
    exact decide_eq_true (hf j v hj hv (of_decide_eq_true z))
  · refine decide_eq_false (fun z => ?_)
    have := tg_c_two (p := fun j => decide (r j = r x)) hx hw hne (decide_eq_true rfl) (decide_eq_true hs)
    omega
  · exact decide_eq_true (tg_c_le1 (x := x) (fun j hj z => hx' j hj (of_decide_eq_true z)))
theorem tg_us_sh {r : Nat → Nat} {n x w : Nat} (hx : x < n) (hw : w < n) (hne : w ≠ x) (hs : r w = r x) : tg_us r n < n := by
  have h1 : tg_us r n < tg_c (fun _ => true) n := by
    refine tg_c_lt (x := x) (fun _ _ _ => rfl) hx ?_ rfl
    refine decide_eq_false (fun z => ?_)
    have := tg_c_two (p := fun j => decide (r j = r x)) hx hw hne (decide_eq_true rfl) (decide_eq_true hs)
    omega
  have h2 := tg_c_le (fun _ => true) n
  omega
/-- s added k times -/
def tg_rep (s : Int64) : Nat → Int64
  | 0 => 0
  | k + 1 => tg_rep s k + s
/-- the side of a point -/
def tg_o (v : Nat) : Nat := if 7 ≤ v then 7 else 0
theorem tg_o_lo {v : Nat} (h : v < 7) : tg_o v = 0 := if_neg (by omega)
theorem tg_o_hi {v : Nat} (h : 7 ≤ v) : tg_o v = 7 := if_pos h
/-- what one point of a colour adds to a mark -/
def tg_sh (x : Int32) : Int64 := (1 : Int64) <<< ((4 * x).toInt64 &&& 63)
/-- the mark that markBy gives a point in use -/
def tg_mk (n : Nat) (T : Nat → Nat) (F : Nat → Nat → Int32) (r : Nat → Nat) (c v i : Nat) : Int64 :=
  tg_rep (tg_sh (F (T v) (T c))) (tg_c (fun j => decide (tg_o v + j ≠ v ∧ r (tg_o v + j) = c)) i)
theorem tg_cx {n v c : Nat} {r : Nat → Nat} (hn : n ≤ 7) (hv : tg_U n v) : tg_c (fun j => decide (r (tg_o v + j) = c)) n = tg_c (fun j => decide (tg_o v + j ≠ v ∧ r (tg_o v + j) = c)) n + (if r v = c then 1 else 0) := by
  have hj : ∃ j, j < n ∧ tg_o v + j = v := by
    rcases hv with z | ⟨z, z2⟩
    · exact ⟨v, z, by rw [tg_o_lo (by omega)]; omega⟩
    · exact ⟨v - 7, by omega, by rw [tg_o_hi z]; omega⟩
  obtain ⟨j, hj, ej⟩ := hj
  by_cases e : r v = c
  · have h1 := tg_c_rm (p := fun j => decide (r (tg_o v + j) = c)) hj (decide_eq_true (by rw [ej]; exact e))
    rw [h1, if_pos e]
    have : tg_c (fun i => decide (r (tg_o v + i) = c) && decide (i ≠ j)) n = tg_c (fun j => decide (tg_o v + j ≠ v ∧ r (tg_o v + j) = c)) n := by
      refine tg_c_congr (fun i hi => ?_)
      rw [← Bool.decide_and]
      refine tg_dec ⟨fun z => ⟨by omega, z.1⟩, fun z => ⟨z.2, by omega⟩⟩
    rw [this]
  · rw [if_neg e]
    refine tg_c_congr (fun i hi => tg_dec ⟨fun z => ⟨fun z2 => e (by rw [← z2]; exact z), z⟩, fun z => z.2⟩)
theorem tg_mk_eq {n : Nat} {T r : Nat → Nat} {F : Nat → Nat → Int32} (hn : n ≤ 7) (hR : tg_R n T r) {c u v : Nat} (hc : c < 14) (hu : u < 14) (hv : v < 14) (e : r u = r v) (uu : tg_U n u) (uv : tg_U n v) :
    tg_mk n T F r c u n = tg_mk n T F r c v n := by
  obtain ⟨R1, R2, R3, R4, R5⟩ := hR
  have side : ∀ w, w < 14 → tg_c (fun j => decide (r (tg_o w + j) = c)) n = tg_c (fun j => decide (r j = c)) n := by
    intro w hw
    by_cases z : 7 ≤ w
    · rw [tg_o_hi z]; exact (R5 c hc).symm
    · rw [tg_o_lo (by omega)]
      exact tg_c_congr (fun j _ => by rw [Nat.zero_add])
  have h1 := tg_cx (c := c) (r := r) hn uu
  have h2 := tg_cx (c := c) (r := r) hn uv
  rw [side u hu] at h1
  rw [side v hv, ← e] at h2
  have h3 : tg_c (fun j => decide (tg_o u + j ≠ u ∧ r (tg_o u + j) = c)) n = tg_c (fun j => decide (tg_o v + j ≠ v ∧ r (tg_o v + j) = c)) n := by omega
  unfold tg_mk
  rw [h3, R4 u v hu hv e]
end
section
variable {n : Nat} {pn hb : Int32} {be : Int64} {a1 a2 a3 a4 a5 a7 a8 a9 a10 a11 a14 : Nat → Int32} {a6 a12 a13 : Nat → Int64}
theorem tg_ix (k v : Nat) : 14 * nI k + nI v = nI (14 * k + v) := by
  show nI 14 * nI k + nI v = _
  rw [pk_mul, nI_add]
theorem tg_ix7 (k v : Nat) : 14 * nI k + nI v + 7 = nI (14 * k + (7 + v)) := by
  show nI 14 * nI k + nI v + nI 7 = _
  rw [pk_mul, nI_add, nI_add]
  exact congrArg nI (by omega)
theorem tg_ix7' (k v : Nat) : 14 * nI k + 7 + nI v = nI (14 * k + (7 + v)) := by
  show nI 14 * nI k + nI 7 + nI v = _
  rw [pk_mul, nI_add, nI_add]
  exact congrArg nI (by omega)
theorem tg_ix14 (k v : Nat) : 14 * nI k + 14 + nI v = nI (14 * (k + 1) + v) := by
  show nI 14 * nI k + nI 14 + nI v = _
  rw [pk_mul, nI_add, nI_add]
  exact congrArg nI (by omega)
/-- the row k of classOf holds r -/
def tg_row (k : Nat) (a : Nat → Int32) (r : Nat → Nat) : Prop := ∀ v, v < 14 → a (14 * k + v) = nI (r v) ∧ r v < 14
theorem tg_rg {k v : Nat} {a : Nat → Int32} {r : Nat → Nat} (hk : k ≤ 8) (h : tg_row k a r) (hv : v < 14) : a (14 * nI k + nI v).toNatClampNeg = nI (r v) := by
  rw [tg_ix, nI_clamp (by omega)]
  exact (h v hv).1
theorem tg_rg7 {k v : Nat} {a : Nat → Int32} {r : Nat → Nat} (hk : k ≤ 8) (h : tg_row k a r) (hv : v < 7) : a (14 * nI k + nI v + 7).toNatClampNeg = nI (r (7 + v)) := by
  rw [tg_ix7, nI_clamp (by omega)]
  exact (h (7 + v) (by omega)).1
theorem tg_rg7' {k v : Nat} {a : Nat → Int32} {r : Nat → Nat} (hk : k ≤ 8) (h : tg_row k a r) (hv : v < 7) : a (14 * nI k + 7 + nI v).toNatClampNeg = nI (r (7 + v)) := by
  rw [tg_ix7', nI_clamp (by omega)]
  exact (h (7 + v) (by omega)).1
theorem tg_rin {k v : Nat} (hk : k ≤ 8) (hv : v < 14) : vp_in (14 * nI k + nI v) 128 := pk_in (14 * k + v) 128 (by omega) (tg_ix k v)
theorem tg_nle {a b : Nat} (ha : a < 14) (hb : b < 14) : nI a = nI b ↔ a = b := nI_eq (by omega) (by omega)
theorem tg_req {k u v : Nat} {a : Nat → Int32} {r : Nat → Nat} (hk : k ≤ 8) (h : tg_row k a r) (hu : u < 14) (hv : v < 14) : (a (14 * nI k + nI u).toNatClampNeg = a (14 * nI k + nI v).toNatClampNeg) ↔ r u = r v := by
  rw [tg_rg hk h hu, tg_rg hk h hv]
  exact tg_nle (h u hu).2 (h v hv).2
theorem tg_reqc {k v c : Nat} {a : Nat → Int32} {r : Nat → Nat} (hk : k ≤ 8) (h : tg_row k a r) (hv : v < 14) (hc : c < 14) : (a (14 * nI k + nI v).toNatClampNeg = nI c) ↔ r v = c := by
  rw [tg_rg hk h hv]
  exact tg_nle (h v hv).2 hc
/-- i - 1 -/
def tg_d : Nat → Int32
  | 0 => -1
  | i + 1 => nI i
theorem tg_d0 : tg_d 0 < 0 := by
  show (-1 : Int32) < 0
  decide
theorem tg_dm (i : Nat) : nI i + (-1) = tg_d i := by
  cases i with
  | zero => show nI 0 + (-1) = -1; decide
  | succ i => exact pk_m1 i
theorem tg_ds (i : Nat) : nI i - 1 = tg_d i := by
  cases i with
  | zero => show nI 0 - 1 = -1; decide
  | succ i => exact nI_pred i
theorem tg_rg18 {post : Int32 → St2 → Prop} {J : Int32 → (Nat → Int32) → (Nat → Int32) → (Nat → Int32) → (Nat → Int32) → (Nat → Int32) → (Nat → Int64) → (Nat → Int32) → (Nat → Int32) → (Nat → Int32) → (Nat → Int32) → (Nat → Int32) → (Nat → Int64) → (Nat → Int64) → (Nat → Int32) → Prop} {x2 : Int32} {k v : Nat} {r : Nat → Nat} (hk : k ≤ 8) (hv : v < 14) (hr : tg_row k a4 r)
    (H : ∀ l, tg_lst r a6 v l → J (nI (v + 1)) a1 a2 a3 a4 (upd a5 v (nI l)) a6 a7 a8 a9 a10 a11 a12 a13 a14) :
    ∃ f, wX_regroup_18 post J (nI k) x2 (nI v) (nI n) 0 1 pn be hb a1 a2 a3 a4 a5 a6 a7 a8 a9 a10 a11 a12 a13 a14 f (nI v) (tg_d v) := by
  refine ⟨v + 1, pk_loopD (fun f i s => wX_regroup_18 post J (nI k) x2 (nI v) (nI n) 0 1 pn be hb a1 a2 a3 a4 a5 a6 a7 a8 a9 a10 a11 a12 a13 a14 f s (tg_d i)) (fun i s => i ≤ v ∧ ∃ l, s = nI l ∧ l ≤ v ∧ r l = r v ∧ a6 l = a6 v ∧ ∀ u, i ≤ u → u < l → ¬ (r u = r v ∧ a6 u = a6 v)) ?_ ?_ v (nI v) ⟨Nat.le_refl v, v, rfl, Nat.le_refl v, rfl, rfl, fun u h1 h2 => absurd h2 (by omega)⟩⟩
  · intro f s ⟨_, l, e, h1, h2, h3, h4⟩
    refine br_t tg_d0 ⟨pk_in v 14 hv, nm_r (e' := upd a5 v (nI l)) (by rw [nI_clamp (by omega), e]) (nm_r (nI_1 v) (H l ⟨h1, h2, h3, fun u hu => h4 u (Nat.zero_le u) hu⟩))⟩
  · intro f i s ⟨hi, l, e, h1, h2, h3, h4⟩ hw
    show wX_regroup_18 post J (nI k) x2 (nI v) (nI n) 0 1 pn be hb a1 a2 a3 a4 a5 a6 a7 a8 a9 a10 a11 a12 a13 a14 (f + 1) s (nI i)
    refine br_f (nI_pos (by omega)) ⟨tg_rin hk (by omega), tg_rin hk hv, ek_if (tg_req hk hr (by omega) hv) (fun e1 => ⟨pk_in i 14 (by omega), pk_in v 14 hv, ek_if (d := a6 i = a6 v) (by rw [nI_clamp (by omega), nI_clamp (by omega)]) (fun e2 => nm_r (tg_dm i) (hw (nI i) ?_)) (fun e2 => nm_r (tg_dm i) (hw s ?_))⟩) (fun e1 => nm_r (tg_dm i) (hw s ?_))⟩
    · exact ⟨by omega, i, rfl, by omega, e1, e2, fun u p q => absurd q (by omega)⟩
    · refine ⟨by omega, l, e, h1, h2, h3, fun u p q z => ?_⟩
      by_cases eu : u = i
      · rw [eu] at z
        exact e2 z.2
      · exact h4 u (by omega) q z
    · refine ⟨by omega, l, e, h1, h2, h3, fun u p q z => ?_⟩
      by_cases eu : u = i
      · rw [eu] at z
        exact e1 z.1
      · exact h4 u (by omega) q z
theorem tg_rg92 {post : Int32 → St2 → Prop} {k : Nat} {r r' : Nat → Nat} (hk : k ≤ 8) (hr : tg_row k a4 r) (h5 : ∀ v, v < 14 → a5 v = nI (r' v) ∧ r' v < 14)
    (H : ∀ b a4', tg_row k a4' r' → ((∀ v, v < 14 → r' v = r v) → b = 0) → post b ((nI n), 0, 1, pn, be, hb, a1, a2, a3, a4', a5, a6, a7, a8, a9, a10, a11, a12, a13, a14)) :
    ∃ f, wX_regroup_92 post (nI k) (nI n) 0 1 pn be hb f 0 0 a1 a2 a3 a4 a5 a6 a7 a8 a9 a10 a11 a12 a13 a14 := by
  refine pk_loop (σ := Int32 × (Nat → Int32)) (fun f i s => wX_regroup_92 post (nI k) (nI n) 0 1 pn be hb f s.1 (nI i) a1 a2 a3 s.2 a5 a6 a7 a8 a9 a10 a11 a12 a13 a14) (fun i s => (s.1 = 0 ∨ (s.1 = 1 ∧ ∃ v, v < 14 ∧ r' v ≠ r v)) ∧ (∀ v, v < i → s.2 (14 * k + v) = nI (r' v)) ∧ (∀ v, i ≤ v → v < 14 → s.2 (14 * k + v) = nI (r v))) 14 0 (0, a4) (by omega) ⟨Or.inl rfl, fun v hv => absurd hv (by omega), fun v _ hv => (hr v hv).1⟩ ?_ ?_
  · intro f ⟨b, a⟩ ⟨h1, h2, h3⟩
    have h1' : b = 0 ∨ (b = 1 ∧ ∃ v, v < 14 ∧ r' v ≠ r v) := h1
    refine pk_le 14 14 (fun _ => ⟨?_, H b a (fun v hv => ⟨h2 v hv, (h5 v hv).2⟩) (fun hz => ?_)⟩) (fun z => absurd z (by omega))
    · show narrow .boolean (.int b) = .int b
      rcases h1' with z | ⟨z, _⟩
      · rw [z]; exact narrow_b0
      · rw [z]; exact narrow_b1
    · rcases h1' with z | ⟨_, v, hv, hne⟩
      · exact z
      · exact absurd (hz v hv) hne
  · intro f i ⟨b, a⟩ hi ⟨h1, h2, h3⟩ hw
    have h2' : ∀ v, v < i → a (14 * k + v) = nI (r' v) := h2
    have h3' : ∀ v, i ≤ v → v < 14 → a (14 * k + v) = nI (r v) := h3
    refine pk_le 14 i (fun z => absurd z (by omega)) (fun _ => ⟨tg_rin hk hi, pk_in i 14 hi, ek_if (d := r i = r' i) ?_ (fun e => nm_r (nI_1 i) (hw (b, a) ⟨h1, lt_s h2 ?_, fun v p q => h3 v (by omega) q⟩)) (fun e => ⟨pk_in i 14 hi, tg_rin hk hi, nm_r (e' := upd a (14 * k + i) (nI (r' i))) ?_ (nm_r (nI_1 i) (hw (1, upd a (14 * k + i) (nI (r' i))) ⟨Or.inr ⟨rfl, i, hi, Ne.symm e⟩, ?_, ?_⟩))⟩)⟩)
    · show a (14 * nI k + nI i).toNatClampNeg = a5 (nI i).toNatClampNeg ↔ r i = r' i
      rw [tg_ix, nI_clamp (by omega), nI_clamp (by omega), h3' i (Nat.le_refl i) hi, (h5 i hi).1]
      exact tg_nle (hr i hi).2 (h5 i hi).2
    · show a (14 * k + i) = nI (r' i)
      rw [h3' i (Nat.le_refl i) hi, e]
    · show upd a (14 * nI k + nI i).toNatClampNeg (a5 (nI i).toNatClampNeg) = upd a (14 * k + i) (nI (r' i))
      rw [tg_ix, nI_clamp (by omega), nI_clamp (by omega), (h5 i hi).1]
    · intro v hv
      show upd a (14 * k + i) (nI (r' i)) (14 * k + v) = nI (r' v)
      by_cases ev : v = i
      · rw [ev, pk_us]
      · rw [pk_un (by omega)]
        exact h2' v (by omega)
    · intro v p q
      show upd a (14 * k + i) (nI (r' i)) (14 * k + v) = nI (r v)
      rw [pk_un (by omega)]
      exact h3' v (by omega) q
/-- regroup: the row is split by the marks -/
theorem tg_regroup {post : Int32 → St2 → Prop} {k : Nat} {r : Nat → Nat} (hk : k ≤ 8) (hr : tg_row k a4 r)
    (H : ∀ b a4' a5' r', (∀ v, v < 14 → tg_lst r a6 v (r' v)) → tg_row k a4' r' → ((∀ v, v < 14 → r' v = r v) → b = 0) → post b ((nI n), 0, 1, pn, be, hb, a1, a2, a3, a4', a5', a6, a7, a8, a9, a10, a11, a12, a13, a14)) :
    wpX_regroup post ((nI n), 0, 1, pn, be, hb, a1, a2, a3, a4, a5, a6, a7, a8, a9, a10, a11, a12, a13, a14) (nI k) := by
  show ∃ f, wX_regroup_4 post (nI k) 0 (nI n) 0 1 pn be hb f 0 a1 a2 a3 a4 a5 a6 a7 a8 a9 a10 a11 a12 a13 a14
  refine pk_loop (fun f i s => wX_regroup_4 post (nI k) 0 (nI n) 0 1 pn be hb f (nI i) a1 a2 a3 a4 s a6 a7 a8 a9 a10 a11 a12 a13 a14) (fun i s => ∀ v, v < i → ∃ l, s v = nI l ∧ tg_lst r a6 v l) 14 0 a5 (by omega) (fun v hv => absurd hv (by omega)) ?_ ?_
  · intro f s h
    have hl : ∀ v, v < 14 → s v = nI ((s v).toNatClampNeg) ∧ tg_lst r a6 v (s v).toNatClampNeg := by
      intro v hv
      obtain ⟨l, e, hl⟩ := h v hv
      have := hl.1
      rw [e, nI_clamp (by omega)]
      exact ⟨rfl, hl⟩
    refine pk_le 14 14 (fun _ => tg_rg92 (r' := fun v => (s v).toNatClampNeg) hk hr (fun v hv => ⟨(hl v hv).1, ?_⟩) (fun b a' h1 h2 => H b a' s _ (fun v hv => (hl v hv).2) h1 h2)) (fun z => absurd z (by omega))
    have := (hl v hv).2.1
    show (s v).toNatClampNeg < 14
    omega
  · intro f i s hi h hw
    refine pk_le 14 i (fun z => absurd z (by omega)) (fun _ => nm_r (tg_ds i) (tg_rg18 hk hi hr (fun l hl => hw (upd s i (nI l)) ?_)))
    intro v hv
    by_cases e : v = i
    · rw [e]
      exact ⟨l, pk_us, hl⟩
    · rw [pk_un e]
      exact h v (by omega)
end
section
variable {n : Nat} {pn hb : Int32} {be : Int64} {a1 a2 a3 a4 a5 a7 a8 a9 a10 a11 a14 : Nat → Int32} {a6 a12 a13 : Nat → Int64}
theorem tg_inUse {post : Int32 → Prop} {v : Nat} (hn : n ≤ 7) (hv : v < 14) (ht : tg_U n v → post 1) (hf : ¬ tg_U n v → post 0) : wpX_inUse post ((nI n), 0, 1, pn, be, hb, a1, a2, a3, a4, a5, a6, a7, a8, a9, a10, a11, a12, a13, a14) (nI v) := by
  refine pk_le 7 v (fun z => pk_le n (v - 7) (fun q => hf (fun w => ?_)) (fun q => ht (Or.inr ⟨z, by omega⟩)) rfl (pk_sub (a := v) (b := 7) z)) (fun z => pk_le n v (fun q => hf (fun w => ?_)) (fun q => ht (Or.inl q)))
  · rcases w with w | w <;> omega
  · rcases w with w | w <;> omega
theorem tg_shX {post : Int32 → Prop} {u w : Nat} (hu : u < 7) (hw : w < 7) (H : post (a1 (7 * u + w))) : wpX_shade post ((nI n), 0, 1, pn, be, hb, a1, a2, a3, a4, a5, a6, a7, a8, a9, a10, a11, a12, a13, a14) (nI u) (nI w) := by
  refine pk_le 7 u (fun z => absurd z (by omega)) (fun _ => ?_)
  have e : 49 * (0 : Int32) + 7 * nI u + nI w = nI (7 * u + w) := by
    show nI 49 * nI 0 + nI 7 * nI u + nI w = _
    rw [pk_mul, pk_mul, nI_add, nI_add]
    exact congrArg nI (by omega)
  refine ⟨pk_in (7 * u + w) 98 (by omega) e, ?_⟩
  rw [e, nI_clamp (by omega)]
  exact H
theorem tg_shY {post : Int32 → Prop} {u w : Nat} (hu : u < 7) (hw : w < 7) (H : post (a1 (49 + 7 * u + w))) : wpX_shade post ((nI n), 0, 1, pn, be, hb, a1, a2, a3, a4, a5, a6, a7, a8, a9, a10, a11, a12, a13, a14) (nI (7 + u)) (nI (7 + w)) := by
  refine pk_le 7 (7 + u) (fun _ => ?_) (fun z => absurd z (by omega))
  have e : 49 * (1 : Int32) + 7 * (nI (7 + u) - 7) + nI (7 + w) - 7 = nI (49 + 7 * u + w) := by
    show nI 49 * nI 1 + nI 7 * (nI (7 + u) - nI 7) + nI (7 + w) - nI 7 = _
    rw [pk_sub (by omega : 7 ≤ 7 + u), pk_mul, pk_mul, nI_add, nI_add, pk_sub (by omega)]
    exact congrArg nI (by omega)
  refine ⟨pk_in (49 + 7 * u + w) 98 (by omega) e, ?_⟩
  rw [e, nI_clamp (by omega)]
  exact H
/-- the cells of both graphs, by types -/
def tg_cells (n : Nat) (T : Nat → Nat) (F : Nat → Nat → Int32) (a : Nat → Int32) : Prop := ∀ u w, u < n → w < n → a (7 * u + w) = F (T u) (T w) ∧ a (49 + 7 * u + w) = F (T (7 + u)) (T (7 + w))
theorem tg_shade {post : Int32 → Prop} {T : Nat → Nat} {F : Nat → Nat → Int32} {v j : Nat} {p q : Int32} (hn : n ≤ 7) (hc : tg_cells n T F a1) (hv : tg_U n v) (hj : j < n) (ep : p = nI v) (eq : q = nI (tg_o v + j)) (H : post (F (T v) (T (tg_o v + j)))) : wpX_shade post ((nI n), 0, 1, pn, be, hb, a1, a2, a3, a4, a5, a6, a7, a8, a9, a10, a11, a12, a13, a14) p q := by
  rw [ep, eq]
  rcases hv with z | ⟨z, z2⟩
  · rw [tg_o_lo (by omega), Nat.zero_add] at H ⊢
    refine tg_shX (by omega) (by omega) ?_
    rw [(hc v j z hj).1]
    exact H
  · rw [tg_o_hi z] at H ⊢
    obtain ⟨u, rfl⟩ : ∃ u, v = 7 + u := ⟨v - 7, by omega⟩
    refine tg_shY (by omega) (by omega) ?_
    rw [(hc u j (by omega) hj).2]
    exact H
theorem tg_c_t {p : Nat → Bool} {i : Nat} (h : p i = true) : tg_c p (i + 1) = tg_c p i + 1 := by
  show tg_c p i + (if p i = true then 1 else 0) = _
  rw [if_pos h]
theorem tg_c_f {p : Nat → Bool} {i : Nat} (h : p i = false) : tg_c p (i + 1) = tg_c p i := by
  show tg_c p i + (if p i = true then 1 else 0) = _
  rw [if_neg (by rw [h]; decide)]
  rfl
theorem tg_mk_add {T r : Nat → Nat} {F : Nat → Nat → Int32} {c v i : Nat} (h : tg_o v + i ≠ v ∧ r (tg_o v + i) = c) : tg_mk n T F r c v (i + 1) = tg_mk n T F r c v i + tg_sh (F (T v) (T c)) := by
  unfold tg_mk
  rw [tg_c_t (p := fun j => decide (tg_o v + j ≠ v ∧ r (tg_o v + j) = c)) (decide_eq_true h)]
  rfl
theorem tg_mk_skip {T r : Nat → Nat} {F : Nat → Nat → Int32} {c v i : Nat} (h : ¬ (tg_o v + i ≠ v ∧ r (tg_o v + i) = c)) : tg_mk n T F r c v (i + 1) = tg_mk n T F r c v i := by
  unfold tg_mk
  rw [tg_c_f (p := fun j => decide (tg_o v + j ≠ v ∧ r (tg_o v + j) = c)) (decide_eq_false h)]
theorem tg_mb33 {post : St2 → Prop} {J : Int32 → (Nat → Int32) → (Nat → Int32) → (Nat → Int32) → (Nat → Int32) → (Nat → Int32) → (Nat → Int64) → (Nat → Int32) → (Nat → Int32) → (Nat → Int32) → (Nat → Int32) → (Nat → Int32) → (Nat → Int64) → (Nat → Int64) → (Nat → Int32) → Prop} {T r : Nat → Nat} {F : Nat → Nat → Int32} {k c v o : Nat} (ho : o = tg_o v) (ho7 : o + 7 ≤ 14) (hn : n ≤ 7) (hk : k ≤ 8) (hv : v < 14) (hc : c < 14) (hr : tg_row k a4 r)
    (hcc : ∀ w, w < 14 → r w = c → T w = T c) (hC : tg_cells n T F a1) (h0 : a6 v = 0)
    (H : ∀ s, (∀ u, u ≠ v → s u = a6 u) → (tg_U n v → s v = tg_mk n T F r c v n) → J (nI (v + 1)) a1 a2 a3 a4 a5 s a7 a8 a9 a10 a11 a12 a13 a14) :
    ∃ f, wX_markBy_33 post J (nI k) (nI c) (nI v) (nI o) (nI n) 0 1 pn be hb f (nI o) a1 a2 a3 a4 a5 a6 a7 a8 a9 a10 a11 a12 a13 a14 := by
  refine pk_loop (fun f i s => wX_markBy_33 post J (nI k) (nI c) (nI v) (nI o) (nI n) 0 1 pn be hb f (nI (o + i)) a1 a2 a3 a4 a5 s a7 a8 a9 a10 a11 a12 a13 a14) (fun i s => (∀ u, u ≠ v → s u = a6 u) ∧ (tg_U n v → s v = tg_mk n T F r c v i)) n 0 a6 (by omega) ⟨fun _ _ => rfl, fun _ => h0⟩ ?_ ?_
  · intro f s ⟨h1, h2⟩
    exact pk_le (o + n) (o + n) (fun _ => nm_r (nI_1 v) (H s h1 h2)) (fun z => absurd z (by omega)) (nI_add o n)
  · intro f i s hi ⟨h1, h2⟩ hw
    have nxt : nI (o + i) + 1 = nI (o + (i + 1)) := nI_1 (o + i)
    refine pk_le (o + n) (o + i) (fun z => absurd z (by omega)) (fun _ => tg_inUse hn hv (fun uu => br_f (by decide) ?_) (fun uu => br_t rfl (nm_r nxt (hw s ⟨h1, fun z => absurd z uu⟩)))) (nI_add o n)
    refine pk_eq (o + i) v (fun z => nm_r nxt (hw s ⟨h1, fun q => ?_⟩)) (fun z => ⟨tg_rin hk (by omega), ek_if (tg_reqc hk hr (by omega) hc) (fun q => ⟨pk_in v 14 hv, ?_⟩) (fun q => nm_r nxt (hw s ⟨h1, fun _ => ?_⟩))⟩)
    · rw [h2 uu, tg_mk_skip (by rw [← ho]; exact fun t => t.1 z)]
    · refine tg_shade hn hC uu hi rfl (by rw [ho]) ⟨pk_in v 14 hv, nm_r (e' := vp_updL s v (tg_mk n T F r c v (i + 1))) ?_ (nm_r nxt (hw _ ⟨fun u hu => ?_, fun _ => pk_uLs⟩))⟩
      · rw [nI_clamp (by omega), h2 uu, tg_mk_add (by rw [← ho]; exact ⟨z, q⟩), ← ho, hcc (o + i) (by omega) q]
        rfl
      · rw [pk_uLn hu]
        exact h1 u hu
    · rw [h2 uu, tg_mk_skip (by rw [← ho]; exact fun t => q t.2)]
theorem tg_markBy {post : St2 → Prop} {T r : Nat → Nat} {F : Nat → Nat → Int32} {k c : Nat} (hn : n ≤ 7) (hk : k ≤ 8) (hc : c < 14) (hr : tg_row k a4 r)
    (hcc : ∀ w, w < 14 → r w = c → T w = T c) (hC : tg_cells n T F a1)
    (H : ∀ s, (∀ v, v < 14 → tg_U n v → s v = tg_mk n T F r c v n) → post ((nI n), 0, 1, pn, be, hb, a1, a2, a3, a4, a5, s, a7, a8, a9, a10, a11, a12, a13, a14)) : wpX_markBy post ((nI n), 0, 1, pn, be, hb, a1, a2, a3, a4, a5, a6, a7, a8, a9, a10, a11, a12, a13, a14) (nI k) (nI c) := by
  show ∃ f, wX_markBy_2 post (nI k) (nI c) (nI n) 0 1 pn be hb f 0 a1 a2 a3 a4 a5 a6 a7 a8 a9 a10 a11 a12 a13 a14
  refine pk_loop (fun f i s => wX_markBy_2 post (nI k) (nI c) (nI n) 0 1 pn be hb f (nI i) a1 a2 a3 a4 a5 s a7 a8 a9 a10 a11 a12 a13 a14) (fun i s => ∀ v, v < i → tg_U n v → s v = tg_mk n T F r c v n) 14 0 a6 (by omega) (fun v hv => absurd hv (by omega)) ?_ ?_
  · intro f s h
    exact pk_le 14 14 (fun _ => H s h) (fun z => absurd z (by omega))
  · intro f i s hi h hw
    have fin : ∀ s' : Nat → Int64, (∀ u, u ≠ i → s' u = vp_updL s i 0 u) → (tg_U n i → s' i = tg_mk n T F r c i n) → ∀ v, v < i + 1 → tg_U n v → s' v = tg_mk n T F r c v n := by
      intro s' p q v hv uu
      by_cases e : v = i
      · rw [e] at uu ⊢
        exact q uu
      · rw [p v e, pk_uLn e]
        exact h v (by omega) uu
    refine pk_le 14 i (fun z => absurd z (by omega)) (fun _ => ⟨pk_in i 14 hi, nm_r (e' := vp_updL s i 0) (by rw [nI_clamp (by omega)]) (pk_le 7 i (fun z => ?_) (fun z => ?_))⟩)
    · exact tg_mb33 (o := 7) (tg_o_hi z).symm (by omega) hn hk hi hc hr hcc hC pk_uLs (fun s' p q => hw s' (fin s' p q))
    · exact tg_mb33 (o := 0) (tg_o_lo z).symm (by omega) hn hk hi hc hr hcc hC pk_uLs (fun s' p q => hw s' (fin s' p q))
theorem tg_rf19 {post : St2 → Prop} {J : Int32 → Int32 → Int32 → Int32 → Int32 → Int32 → Int64 → Int32 → (Nat → Int32) → (Nat → Int32) → (Nat → Int32) → (Nat → Int32) → (Nat → Int32) → (Nat → Int64) → (Nat → Int32) → (Nat → Int32) → (Nat → Int32) → (Nat → Int32) → (Nat → Int32) → (Nat → Int64) → (Nat → Int64) → (Nat → Int32) → Prop} {x3 : Int32} {T r : Nat → Nat} {F : Nat → Nat → Int32} {k : Nat} (hn : n ≤ 7) (hk : k ≤ 8) (hr : tg_row k a4 r) (hR : tg_R n T r) (hC : tg_cells n T F a1)
    (H : ∀ a4' a5' a6', tg_row k a4' r → J 0 (x3 + 1) (nI n) 0 1 pn be hb a1 a2 a3 a4' a5' a6' a7 a8 a9 a10 a11 a12 a13 a14) :
    ∃ f, wX_refine_19 post J (nI k) x3 f 0 0 (nI n) 0 1 pn be hb a1 a2 a3 a4 a5 a6 a7 a8 a9 a10 a11 a12 a13 a14 := by
  have hR' := hR
  obtain ⟨R1, R2, R3, R4, R5⟩ := hR'
  refine pk_loop (σ := (Nat → Int32) × (Nat → Int32) × (Nat → Int64)) (fun f i s => wX_refine_19 post J (nI k) x3 f 0 (nI i) (nI n) 0 1 pn be hb a1 a2 a3 s.1 s.2.1 s.2.2 a7 a8 a9 a10 a11 a12 a13 a14) (fun i s => tg_row k s.1 r) 14 0 (a4, a5, a6) (by omega) hr ?_ ?_
  · intro f s h
    exact pk_le 14 14 (fun _ => nm_e (H _ _ _ h)) (fun z => absurd z (by omega))
  · intro f i s hi h hw
    refine pk_le 14 i (fun z => absurd z (by omega)) (fun _ => tg_inUse hn hi (fun uu => br_f (by decide) ⟨tg_rin hk hi, ek_if (tg_reqc hk h hi hi) (fun q => ?_) (fun q => nm_r (nI_1 i) (hw s h))⟩) (fun _ => br_t rfl (nm_r (nI_1 i) (hw s h))))
    refine tg_markBy hn hk hi h (fun w hw' e => R4 w i hw' hi (by rw [e, q])) hC (fun m hm => ?_)
    refine tg_regroup hk h (fun b a' b' r' h1 h2 h3 => ?_)
    have e := tg_lst_same R1 R2 h1 (by
      intro u v hu hv e
      by_cases uu : tg_U n u
      · by_cases uv : tg_U n v
        · rw [hm u hu uu, hm v hv uv]
          exact tg_mk_eq hn hR hi hu hv e uu uv
        · rw [R3 v u hv hu e.symm uv]
      · rw [R3 u v hu hv e uu])
    rw [h3 e]
    refine br_t rfl (br_t rfl (nm_r (nI_1 i) (hw (a', b', m) ?_)))
    intro v hv
    have g := h2 v hv
    rw [e v hv] at g
    exact g
theorem tg_refine {post : St2 → Prop} {T r : Nat → Nat} {F : Nat → Nat → Int32} {k : Nat} (hn : n ≤ 7) (hk : k ≤ 8) (hr : tg_row k a4 r) (hR : tg_R n T r) (hC : tg_cells n T F a1)
    (H : ∀ a4' a5' a6', tg_row k a4' r → post ((nI n), 0, 1, pn, be, hb, a1, a2, a3, a4', a5', a6', a7, a8, a9, a10, a11, a12, a13, a14)) : wpX_refine post ((nI n), 0, 1, pn, be, hb, a1, a2, a3, a4, a5, a6, a7, a8, a9, a10, a11, a12, a13, a14) (nI k) := by
  show ∃ f, wX_refine_4 post (nI k) f 1 0 (nI n) 0 1 pn be hb a1 a2 a3 a4 a5 a6 a7 a8 a9 a10 a11 a12 a13 a14
  refine ⟨2, br_f (by decide) (br_f (by decide) (tg_rf19 hn hk hr hR hC (fun a4' a5' a6' h => br_f (by decide) (br_t rfl (H a4' a5' a6' h)))))⟩
theorem tg_b19 {post : Int32 → Prop} {J : Int32 → Int32 → Prop} {x2 : Int32} {r : Nat → Nat} {k c : Nat} (hn : n ≤ 7) (hk : k ≤ 8) (hc : c < 14) (hr : tg_row k a4 r)
    (hbal : tg_c (fun j => decide (r j = c)) n = tg_c (fun j => decide (r (7 + j) = c)) n)
    (H1 : tg_c (fun j => decide (r j = c)) n ≤ 1 → J x2 (nI (c + 1))) (H2 : 2 ≤ tg_c (fun j => decide (r j = c)) n → J 2 (nI (c + 1))) :
    ∃ f, wX_balance_19 post J (nI k) x2 (nI c) (nI n) 0 1 pn be hb a1 a2 a3 a4 a5 a6 a7 a8 a9 a10 a11 a12 a13 a14 f 0 0 0 := by
  refine pk_loop (σ := Unit) (fun f i _ => wX_balance_19 post J (nI k) x2 (nI c) (nI n) 0 1 pn be hb a1 a2 a3 a4 a5 a6 a7 a8 a9 a10 a11 a12 a13 a14 f (nI (tg_c (fun j => decide (r j = c)) i)) (nI (tg_c (fun j => decide (r (7 + j) = c)) i)) (nI i)) (fun _ _ => True) n 0 () (by omega) trivial ?_ ?_
  · intro f _ _
    have hb := tg_c_le (fun j => decide (r j = c)) n
    exact pk_le n n (fun _ => br_t (congrArg nI hbal) (pk_le (tg_c (fun j => decide (r j = c)) n) 1 (fun z => nm_r (nI_1 c) (H1 z)) (fun z => nm_r (nI_1 c) (H2 z)))) (fun z => absurd z (by omega))
  · intro f i _ hi _ hw
    have fin : ∀ z0 : Int32, nI (tg_c (fun j => decide (r j = c)) i) + z0 = nI (tg_c (fun j => decide (r j = c)) (i + 1)) →
        wX_balance_51 post J (wX_balance_19 post J (nI k) x2 (nI c) (nI n) 0 1 pn be hb a1 a2 a3 a4 a5 a6 a7 a8 a9 a10 a11 a12 a13 a14 f) (nI k) x2 (nI c) (nI (tg_c (fun j => decide (r (7 + j) = c)) i)) (nI i) z0 (nI (tg_c (fun j => decide (r j = c)) i)) (nI n) 0 1 pn be hb a1 a2 a3 a4 a5 a6 a7 a8 a9 a10 a11 a12 a13 a14 := by
      intro z0 hz
      refine nm_r hz ⟨pk_in (14 * k + (7 + i)) 128 (by omega) (tg_ix7 k i), ek_if (d := r (7 + i) = c) ?_ (fun q => nm_r ?_ (nm_r (nI_1 i) (hw () trivial))) (fun q => nm_r ?_ (nm_r (nI_1 i) (hw () trivial)))⟩
      · rw [tg_rg7 hk hr (by omega)]
        exact tg_nle (hr (7 + i) (by omega)).2 hc
      · rw [tg_c_t (p := fun j => decide (r (7 + j) = c)) (decide_eq_true q)]
        exact nI_1 _
      · rw [tg_c_f (p := fun j => decide (r (7 + j) = c)) (decide_eq_false q)]
        exact nI_add _ 0
    refine pk_le n i (fun z => absurd z (by omega)) (fun _ => ⟨tg_rin hk (by omega), ek_if (tg_reqc hk hr (by omega) hc) (fun q => fin 1 ?_) (fun q => fin 0 ?_)⟩)
    · rw [tg_c_t (p := fun j => decide (r j = c)) (decide_eq_true q)]
      exact nI_1 _
    · rw [tg_c_f (p := fun j => decide (r j = c)) (decide_eq_false q)]
      exact nI_add _ 0
theorem tg_balance {post : Int32 → Prop} {r : Nat → Nat} {k : Nat} (hn : n ≤ 7) (hk : k ≤ 8) (hr : tg_row k a4 r)
    (hbal : ∀ c, c < 14 → tg_c (fun j => decide (r j = c)) n = tg_c (fun j => decide (r (7 + j) = c)) n)
    (H1 : (∀ c, c < 14 → tg_c (fun j => decide (r j = c)) n ≤ 1) → post 1) (H2 : (∃ c, c < 14 ∧ 2 ≤ tg_c (fun j => decide (r j = c)) n) → post 2) : wpX_balance post ((nI n), 0, 1, pn, be, hb, a1, a2, a3, a4, a5, a6, a7, a8, a9, a10, a11, a12, a13, a14) (nI k) := by
  show ∃ f, wX_balance_4 post (nI k) (nI n) 0 1 pn be hb a1 a2 a3 a4 a5 a6 a7 a8 a9 a10 a11 a12 a13 a14 f 1 0
  refine pk_loop (fun f i s => wX_balance_4 post (nI k) (nI n) 0 1 pn be hb a1 a2 a3 a4 a5 a6 a7 a8 a9 a10 a11 a12 a13 a14 f s (nI i)) (fun i s => (s = 1 ∧ ∀ c, c < i → tg_c (fun j => decide (r j = c)) n ≤ 1) ∨ (s = 2 ∧ ∃ c, c < i ∧ 2 ≤ tg_c (fun j => decide (r j = c)) n)) 14 0 1 (by omega) (Or.inl ⟨rfl, fun c h => absurd h (by omega)⟩) ?_ ?_
  · intro f s h
    refine pk_le 14 14 (fun _ => ?_) (fun z => absurd z (by omega))
    rcases h with ⟨e, h⟩ | ⟨e, h⟩
    · rw [e]; exact H1 h
    · rw [e]; exact H2 h
  · intro f i s hi h hw
    refine pk_le 14 i (fun z => absurd z (by omega)) (fun _ => tg_b19 hn hk hi hr (hbal i hi) (fun z => hw s ?_) (fun z => hw 2 (Or.inr ⟨rfl, i, by omega, z⟩)))
    rcases h with ⟨e, h⟩ | ⟨e, c, hc, h⟩
    · exact Or.inl ⟨e, lt_s h z⟩
    · exact Or.inr ⟨e, c, by omega, h⟩
end
section
variable {n : Nat} {pn hb : Int32} {be : Int64} {a1 a2 a3 a4 a5 a7 a8 a9 a10 a11 a14 : Nat → Int32} {a6 a12 a13 : Nat → Int64}
/-- another point of x in the group of v -/
def tg_S (n : Nat) (r : Nat → Nat) (v : Nat) : Prop := ∃ w, w < n ∧ w ≠ v ∧ r w = r v
theorem tg_shared {post : Int32 → Prop} {r : Nat → Nat} {k v : Nat} (hn : n ≤ 7) (hk : k ≤ 8) (hr : tg_row k a4 r) (hv : v < n) (H1 : tg_S n r v → post 1) (H0 : ¬ tg_S n r v → post 0) : wpX_shared post ((nI n), 0, 1, pn, be, hb, a1, a2, a3, a4, a5, a6, a7, a8, a9, a10, a11, a12, a13, a14) (nI k) (nI v) := by
  show ∃ f, wX_shared_2 post (nI k) (nI v) (nI n) 0 1 pn be hb a1 a2 a3 a4 a5 a6 a7 a8 a9 a10 a11 a12 a13 a14 f 0
  refine pk_loop (σ := Unit) (fun f i _ => wX_shared_2 post (nI k) (nI v) (nI n) 0 1 pn be hb a1 a2 a3 a4 a5 a6 a7 a8 a9 a10 a11 a12 a13 a14 f (nI i)) (fun i _ => ∀ w, w < i → w ≠ v → ¬ r w = r v) n 0 () (by omega) (fun w hw => absurd hw (by omega)) ?_ ?_
  · intro f _ h
    exact pk_le n n (fun _ => H0 (fun ⟨w, h1, h2, h3⟩ => h w h1 h2 h3)) (fun z => absurd z (by omega))
  · intro f i _ hi h hw
    exact pk_le n i (fun z => absurd z (by omega)) (fun _ => pk_eq i v (fun z => nm_r (nI_1 i) (hw () (lt_s h (fun q => absurd z q)))) (fun z => ⟨tg_rin hk (by omega), tg_rin hk (by omega), ek_if (tg_req hk hr (by omega) (by omega)) (fun q => H1 ⟨i, hi, z, q⟩) (fun q => nm_r (nI_1 i) (hw () (lt_s h (fun _ => q))))⟩))
theorem tg_chooseX {post : St2 → Prop} {r : Nat → Nat} {k : Nat} (hn : n ≤ 7) (hk : k ≤ 8) (hr : tg_row k a4 r) (hs : ∃ x, x < n ∧ tg_S n r x)
    (H : ∀ x, x < n → tg_S n r x → post ((nI n), 0, 1, pn, be, hb, a1, a2, a3, a4, a5, a6, (upd a7 k (nI x)), (upd a8 k 7), a9, a10, a11, a12, a13, a14)) : wpX_chooseX post ((nI n), 0, 1, pn, be, hb, a1, a2, a3, a4, a5, a6, a7, a8, a9, a10, a11, a12, a13, a14) (nI k) := by
  refine ⟨pk_in k 9 (by omega), nm_r (e' := upd a8 k 7) (by rw [nI_clamp (by omega)]) (nm_r (tg_ds n) ⟨n + 1, pk_loopD (fun f i s => wX_chooseX_17 post (nI k) (nI n) 0 1 pn be hb a1 a2 a3 a4 a5 a6 a7 (upd a8 k 7) a9 a10 a11 a12 a13 a14 f s (tg_d i)) (fun i s => i ≤ n ∧ ((∃ x, s = nI x ∧ x < n ∧ tg_S n r x) ∨ ∀ x, i ≤ x → x < n → ¬ tg_S n r x)) ?_ ?_ n 0 ⟨Nat.le_refl n, Or.inr (fun x p q => absurd p (by omega))⟩⟩)⟩
  · intro f s ⟨_, h⟩
    have g : ∃ x, s = nI x ∧ x < n ∧ tg_S n r x := by
      rcases h with h | h
      · exact h
      · obtain ⟨x, hx, sx⟩ := hs
        exact absurd sx (h x (Nat.zero_le x) hx)
    obtain ⟨x, e, hx, sx⟩ := g
    exact br_t tg_d0 ⟨pk_in k 9 (by omega), nm_r (e' := upd a7 k (nI x)) (by rw [nI_clamp (by omega), e]) (H x hx sx)⟩
  · intro f i s ⟨hi, h⟩ hw
    show wX_chooseX_17 post (nI k) (nI n) 0 1 pn be hb a1 a2 a3 a4 a5 a6 a7 (upd a8 k 7) a9 a10 a11 a12 a13 a14 (f + 1) s (nI i)
    refine br_f (nI_pos (by omega)) (tg_shared hn hk hr (by omega) (fun sh => br_f (by decide) (nm_r (tg_dm i) (hw (nI i) ⟨by omega, Or.inl ⟨i, rfl, by omega, sh⟩⟩))) (fun sh => br_t rfl (nm_r (tg_dm i) (hw s ⟨by omega, ?_⟩))))
    rcases h with h | h
    · exact Or.inl h
    · refine Or.inr (fun x p q => ?_)
      by_cases e : x = i
      · rw [e]; exact sh
      · exact h x (by omega) q
theorem tg_tn62 {post : Int32 → St2 → Prop} {r : Nat → Nat} {k x y : Nat} (hn : n ≤ 7) (hk : k ≤ 7) (hr : tg_row k a4 r) (hx : x < 14) (hy : y < 14)
    (H : ∀ a4' a5' a6' r', tg_row (k + 1) a4' r' → (∀ v, v < 14 → tg_lst r a6' v (r' v)) → (∀ v, v < 14 → a6' v = if v = x ∨ v = y then 1 else 0) → post 1 ((nI n), 0, 1, pn, be, hb, a1, a2, a3, a4', a5', a6', a7, a8, a9, a10, a11, a12, a13, a14)) :
    ∃ f, wX_tryNext_62 post (nI k) (nI x) (nI y) (nI n) 0 1 pn be hb f 0 a1 a2 a3 a4 a5 a6 a7 a8 a9 a10 a11 a12 a13 a14 := by
  refine pk_loop (σ := (Nat → Int32) × (Nat → Int64)) (fun f i s => wX_tryNext_62 post (nI k) (nI x) (nI y) (nI n) 0 1 pn be hb f (nI i) a1 a2 a3 s.1 a5 s.2 a7 a8 a9 a10 a11 a12 a13 a14) (fun i s => (∀ v, v < 14 → s.1 (14 * k + v) = nI (r v)) ∧ (∀ v, v < i → s.1 (14 * (k + 1) + v) = nI (r v)) ∧ (∀ v, v < i → s.2 v = if v = x ∨ v = y then 1 else 0)) 14 0 (a4, a6) (by omega) ⟨fun v hv => (hr v hv).1, fun v hv => absurd hv (by omega), fun v hv => absurd hv (by omega)⟩ ?_ ?_
  · intro f s ⟨h1, h2, h3⟩
    refine pk_le 14 14 (fun _ => ?_) (fun z => absurd z (by omega))
    rw [nI_1 k]
    exact tg_regroup (r := r) (by omega) (fun v hv => ⟨h2 v hv, (hr v hv).2⟩) (fun b a4' a5' r' g1 g2 _ => H a4' a5' s.2 r' g2 g1 h3)
  · intro f i ⟨a, m⟩ hi ⟨h1, h2, h3⟩ hw
    have h1' : ∀ v, v < 14 → a (14 * k + v) = nI (r v) := h1
    have h2' : ∀ v, v < i → a (14 * (k + 1) + v) = nI (r v) := h2
    have h3' : ∀ v, v < i → m v = if v = x ∨ v = y then 1 else 0 := h3
    have fin : ∀ z : Int64, z = (if i = x ∨ i = y then 1 else 0) → wX_tryNext_62 post (nI k) (nI x) (nI y) (nI n) 0 1 pn be hb f (nI (i + 1)) a1 a2 a3 (upd a (14 * (k + 1) + i) (nI (r i))) a5 (vp_updL m i z) a7 a8 a9 a10 a11 a12 a13 a14 := by
      intro z hz
      refine hw (upd a (14 * (k + 1) + i) (nI (r i)), vp_updL m i z) ⟨fun v hv => ?_, fun v hv => ?_, fun v hv => ?_⟩
      · show upd a (14 * (k + 1) + i) (nI (r i)) (14 * k + v) = nI (r v)
        rw [pk_un (by omega)]
        exact h1' v hv
      · show upd a (14 * (k + 1) + i) (nI (r i)) (14 * (k + 1) + v) = nI (r v)
        by_cases e : v = i
        · rw [e, pk_us]
        · rw [pk_un (by omega)]
          exact h2' v (by omega)
      · show vp_updL m i z v = if v = x ∨ v = y then 1 else 0
        by_cases e : v = i
        · rw [e, pk_uLs]
          exact hz
        · rw [pk_uLn e]
          exact h3' v (by omega)
    refine pk_le 14 i (fun z => absurd z (by omega)) (fun _ => ⟨tg_rin (by omega) hi, pk_in (14 * (k + 1) + i) 128 (by omega) (tg_ix14 k i), nm_r (e' := upd a (14 * (k + 1) + i) (nI (r i))) ?_ (pk_eq i x (fun z => ⟨pk_in i 14 hi, nm_r (e' := vp_updL m i 1) ?_ (nm_r (nI_1 i) (fin 1 ?_))⟩) (fun z => pk_eq i y (fun z2 => ⟨pk_in i 14 hi, nm_r (e' := vp_updL m i 1) ?_ (nm_r (nI_1 i) (fin 1 ?_))⟩) (fun z2 => ⟨pk_in i 14 hi, nm_r (e' := vp_updL m i 0) ?_ (nm_r (nI_1 i) (fin 0 ?_))⟩)))⟩)
    · show upd a (14 * nI k + 14 + nI i).toNatClampNeg (a (14 * nI k + nI i).toNatClampNeg) = _
      rw [tg_ix14, tg_ix, nI_clamp (by omega), nI_clamp (by omega), h1' i hi]
    · rw [nI_clamp (by omega)]
    · rw [if_pos (Or.inl z)]
    · rw [nI_clamp (by omega)]
    · rw [if_pos (Or.inr z2)]
    · rw [nI_clamp (by omega)]
    · rw [if_neg (by omega)]
theorem tg_tryNext {post : Int32 → St2 → Prop} {r : Nat → Nat} {k x : Nat} (hn : n ≤ 7) (hk : k ≤ 7) (hr : tg_row k a4 r) (hx : x < n) (e7 : a7 k = nI x) (e8 : a8 k = 7) (hy : ∃ y, y < n ∧ r (7 + y) = r x)
    (H : ∀ y a4' a5' a6' a8' r', y < n → r (7 + y) = r x → tg_row (k + 1) a4' r' → (∀ v, v < 14 → tg_lst r a6' v (r' v)) → (∀ v, v < 14 → a6' v = if v = x ∨ v = 7 + y then 1 else 0) → post 1 ((nI n), 0, 1, pn, be, hb, a1, a2, a3, a4', a5', a6', a7, a8', a9, a10, a11, a12, a13, a14)) :
    wpX_tryNext post ((nI n), 0, 1, pn, be, hb, a1, a2, a3, a4, a5, a6, a7, a8, a9, a10, a11, a12, a13, a14) (nI k) := by
  obtain ⟨y, ⟨hy1, hy2⟩, hl⟩ := pk_least (fun y => y < n ∧ r (7 + y) = r x) hy
  refine ⟨pk_in k 9 (by omega), nm_r (e' := nI x) (by rw [nI_clamp (by omega)]; exact e7) ⟨pk_in k 9 (by omega), nm_r (e' := nI (7 + 0)) (by rw [nI_clamp (by omega)]; exact e8) ?_⟩⟩
  refine pk_loop (σ := Unit) (fun f i _ => wX_tryNext_14 post (nI k) (nI x) (nI n) 0 1 pn be hb a1 a2 a3 a4 a5 a6 a7 a8 a9 a10 a11 a12 a13 a14 f (nI (7 + i))) (fun i _ => True) y 0 () (by omega) trivial ?_ ?_
  · intro f _ _
    exact pk_le (7 + n) (7 + y) (fun z => absurd z (by omega)) (fun _ => ⟨tg_rin (by omega) (by omega), tg_rin (by omega) (by omega), br_t ((tg_req (by omega) hr (by omega) (by omega)).mpr hy2) ⟨pk_in k 9 (by omega), nm_e (tg_tn62 hn hk hr (by omega) (by omega) (fun a4' a5' a6' r' h1 h2 h3 => H y a4' a5' a6' _ r' hy1 hy2 h1 h2 h3))⟩⟩) (nI_add 7 n)
  · intro f i _ hi _ hw
    exact pk_le (7 + n) (7 + i) (fun z => absurd z (by omega)) (fun _ => ⟨tg_rin (by omega) (by omega), tg_rin (by omega) (by omega), br_f (fun q => hl i hi ⟨by omega, (tg_req (by omega) hr (by omega) (by omega)).mp q⟩) (nm_r (nI_1 (7 + i)) (hw () trivial))⟩) (nI_add 7 n)
theorem tg_il82 {post : Int32 → St2 → Prop} {J : Int32 → Prop} {T r : Nat → Nat} {F : Nat → Nat → Int32} {v : Nat} (hn : n ≤ 7) (hT : ∀ v w, v < 14 → w < 14 → r v = r w → T v = T w) (hC : tg_cells n T F a1)
    (h9 : ∀ u, u < n → ∃ w, w < n ∧ a9 u = nI (7 + w) ∧ r (7 + w) = r u) (hv : v < n) (H : J (nI (v + 1))) : ∃ f, wX_isLaying_82 post J (nI v) (nI n) 0 1 pn be hb a1 a2 a3 a4 a5 a6 a7 a8 a9 a10 a11 a12 a13 a14 f 0 := by
  refine pk_loop (σ := Unit) (fun f i _ => wX_isLaying_82 post J (nI v) (nI n) 0 1 pn be hb a1 a2 a3 a4 a5 a6 a7 a8 a9 a10 a11 a12 a13 a14 f (nI i)) (fun i _ => True) n 0 () (by omega) trivial ?_ ?_
  · intro f _ _
    exact pk_le n n (fun _ => nm_r (nI_1 v) H) (fun z => absurd z (by omega))
  · intro f i _ hi _ hw
    obtain ⟨w1, p1, p2, p3⟩ := h9 v hv
    obtain ⟨w2, q1, q2, q3⟩ := h9 i hi
    have o0 : tg_o v = 0 := tg_o_lo (by omega)
    have o7 : tg_o (7 + w1) = 7 := tg_o_hi (by omega)
    refine pk_le n i (fun z => absurd z (by omega)) (fun _ => tg_shade (v := v) (j := i) hn hC (Or.inl hv) hi rfl (by rw [o0, Nat.zero_add]) ⟨pk_in v 7 (by omega), pk_in i 7 (by omega), tg_shade (v := 7 + w1) (j := w2) hn hC (Or.inr ⟨by omega, by omega⟩) q1 ?_ ?_ (br_t ?_ (nm_r (nI_1 i) (hw () trivial)))⟩)
    · rw [nI_clamp (by omega)]; exact p2
    · rw [nI_clamp (by omega), o7]; exact q2
    · rw [o0, o7, Nat.zero_add, hT (7 + w1) v (by omega) (by omega) p3, hT (7 + w2) i (by omega) (by omega) q3]
theorem tg_il12 {post : Int32 → St2 → Prop} {J : Int32 → (Nat → Int32) → (Nat → Int32) → (Nat → Int32) → (Nat → Int32) → (Nat → Int32) → (Nat → Int64) → (Nat → Int32) → (Nat → Int32) → (Nat → Int32) → (Nat → Int32) → (Nat → Int32) → (Nat → Int64) → (Nat → Int64) → (Nat → Int32) → Prop} {r : Nat → Nat} {k v : Nat} (hn : n ≤ 7) (hk : k ≤ 8) (hr : tg_row k a4 r) (hv : v < n) (hy : ∃ y, y < n ∧ r (7 + y) = r v)
    (H : ∀ s, (∀ u, u ≠ v → s u = a9 u) → (∃ w, w < n ∧ s v = nI (7 + w) ∧ r (7 + w) = r v) → J (nI (v + 1)) a1 a2 a3 a4 a5 a6 a7 a8 s a10 a11 a12 a13 a14) :
    ∃ f, wX_isLaying_12 post J (nI k) (nI v) (nI n) 0 1 pn be hb f 0 a1 a2 a3 a4 a5 a6 a7 a8 a9 a10 a11 a12 a13 a14 := by
  refine pk_loop (fun f i s => wX_isLaying_12 post J (nI k) (nI v) (nI n) 0 1 pn be hb f (nI i) a1 a2 a3 a4 a5 a6 a7 a8 s a10 a11 a12 a13 a14) (fun i s => (∀ u, u ≠ v → s u = a9 u) ∧ ((∃ y, y < i ∧ r (7 + y) = r v) → ∃ w, w < n ∧ s v = nI (7 + w) ∧ r (7 + w) = r v)) n 0 a9 (by omega) ⟨fun _ _ => rfl, fun ⟨y, h, _⟩ => absurd h (by omega)⟩ ?_ ?_
  · intro f s ⟨h1, h2⟩
    exact pk_le n n (fun _ => nm_r (nI_1 v) (H s h1 (h2 hy))) (fun z => absurd z (by omega))
  · intro f i s hi ⟨h1, h2⟩ hw
    refine pk_le n i (fun z => absurd z (by omega)) (fun _ => ⟨pk_in (14 * k + (7 + i)) 128 (by omega) (tg_ix7' k i), tg_rin hk (by omega), ek_if (d := r (7 + i) = r v) ?_ (fun q => ⟨pk_in v 7 (by omega), nm_r (e' := upd s v (nI (7 + i))) ?_ (nm_r (nI_1 i) (hw _ ⟨fun u hu => ?_, fun _ => ⟨i, hi, pk_us, q⟩⟩))⟩) (fun q => nm_r (nI_1 i) (hw s ⟨h1, fun ⟨y, y1, y2⟩ => h2 ⟨y, ?_, y2⟩⟩))⟩)
    · rw [tg_rg7' hk hr (by omega), tg_rg hk hr (by omega)]
      exact tg_nle (hr (7 + i) (by omega)).2 (hr v (by omega)).2
    · rw [nI_clamp (by omega)]
      exact congrArg (upd s v) (nI_add 7 i)
    · rw [pk_un hu]
      exact h1 u hu
    · have : y ≠ i := fun e => q (by rw [← e]; exact y2)
      omega
theorem tg_isLaying {post : Int32 → St2 → Prop} {T r : Nat → Nat} {F : Nat → Nat → Int32} {k : Nat} (hn : n ≤ 7) (hk : k ≤ 8) (hr : tg_row k a4 r) (hR : tg_R n T r) (hC : tg_cells n T F a1)
    (H : ∀ a9', post 1 ((nI n), 0, 1, pn, be, hb, a1, a2, a3, a4, a5, a6, a7, a8, a9', a10, a11, a12, a13, a14)) : wpX_isLaying post ((nI n), 0, 1, pn, be, hb, a1, a2, a3, a4, a5, a6, a7, a8, a9, a10, a11, a12, a13, a14) (nI k) := by
  obtain ⟨R1, R2, R3, R4, R5⟩ := hR
  have hy : ∀ v, v < n → ∃ y, y < n ∧ r (7 + y) = r v := by
    intro v hv
    have h1 : 1 ≤ tg_c (fun j => decide (r j = r v)) n := tg_c_pos hv (decide_eq_true rfl)
    rw [R5 (r v) (by have := R1 v (by omega); omega)] at h1
    obtain ⟨y, y1, y2⟩ := tg_c_ex h1
    exact ⟨y, y1, of_decide_eq_true y2⟩
  show ∃ f, wX_isLaying_2 post (nI k) (nI n) 0 1 pn be hb f 0 a1 a2 a3 a4 a5 a6 a7 a8 a9 a10 a11 a12 a13 a14
  refine pk_loop (fun f i s => wX_isLaying_2 post (nI k) (nI n) 0 1 pn be hb f (nI i) a1 a2 a3 a4 a5 a6 a7 a8 s a10 a11 a12 a13 a14) (fun i s => ∀ u, u < i → ∃ w, w < n ∧ s u = nI (7 + w) ∧ r (7 + w) = r u) n 0 a9 (by omega) (fun v hv => absurd hv (by omega)) ?_ ?_
  · intro f s h
    refine pk_le n n (fun _ => ?_) (fun z => absurd z (by omega))
    refine pk_loop (σ := Unit) (fun f i _ => wX_isLaying_72 post (nI n) 0 1 pn be hb a1 a2 a3 a4 a5 a6 a7 a8 s a10 a11 a12 a13 a14 f (nI i)) (fun i _ => True) n 0 () (by omega) trivial ?_ ?_
    · intro f _ _
      exact pk_le n n (fun _ => H s) (fun z => absurd z (by omega))
    · intro f i _ hi _ hw
      exact pk_le n i (fun z => absurd z (by omega)) (fun _ => tg_il82 hn R4 hC h hi (hw () trivial))
  · intro f i s hi h hw
    refine pk_le n i (fun z => absurd z (by omega)) (fun _ => tg_il12 hn hk hr hi (hy i hi) (fun s' h1 h2 => hw s' (fun u hu => ?_)))
    by_cases e : u = i
    · rw [e]; exact h2
    · rw [h1 u e]
      exact h u (by omega)
end
section
variable {n : Nat} {pn hb : Int32} {be : Int64} {a1 a2 a3 a4 a5 a7 a8 a9 a10 a11 a14 : Nat → Int32} {a6 a12 a13 : Nat → Int64}
/-- the first row -/
def tg_r0 (n v : Nat) : Nat := if v < n ∨ (7 ≤ v ∧ v < 7 + n) then 0 else v
theorem tg_r0_u {v : Nat} (h : tg_U n v) : tg_r0 n v = 0 := if_pos h
theorem tg_r0_n {v : Nat} (h : ¬ tg_U n v) : tg_r0 n v = v := if_neg h
theorem tg_oj {v : Nat} (hn : n ≤ 7) (hv : tg_U n v) : ∃ j, j < n ∧ tg_o v + j = v := by
  rcases hv with z | ⟨z, z2⟩
  · exact ⟨v, z, by rw [tg_o_lo (by omega)]; omega⟩
  · exact ⟨v - 7, by omega, by rw [tg_o_hi z]; omega⟩
theorem tg_sc26 {post : St2 → Prop} {J : Int32 → (Nat → Int32) → (Nat → Int32) → (Nat → Int32) → (Nat → Int32) → (Nat → Int32) → (Nat → Int64) → (Nat → Int32) → (Nat → Int32) → (Nat → Int32) → (Nat → Int32) → (Nat → Int32) → (Nat → Int64) → (Nat → Int64) → (Nat → Int32) → Prop} {T : Nat → Nat} {F : Nat → Nat → Int32} {v : Nat} {z0 : Int32} (hn : n ≤ 7) (hv : v < 14) (hC : tg_cells n T F a1)
    (H : ∀ m : Int64, (tg_U n v → m = (F (T v) (T v)).toInt64) → J (nI (v + 1)) a1 a2 a3 (upd a4 v z0) a5 (vp_updL a6 v m) a7 a8 a9 a10 a11 a12 a13 a14) : wX_startClasses_26 post J (nI v) z0 (nI v) (nI n) 0 1 pn be hb a1 a2 a3 a4 a5 a6 a7 a8 a9 a10 a11 a12 a13 a14 := by
  refine ⟨pk_in v 128 (by omega), nm_r (e' := upd a4 v z0) (by rw [nI_clamp (by omega)]) (tg_inUse hn hv (fun uu => br_f (by decide) ?_) (fun uu => br_t rfl ⟨pk_in v 14 hv, nm_r (e' := vp_updL a6 v 0) (by rw [nI_clamp (by omega)]) (nm_r (nI_1 v) (H 0 (fun z => absurd z uu)))⟩))⟩
  obtain ⟨j, hj, ej⟩ := tg_oj hn uu
  exact tg_shade (v := v) (j := j) hn hC uu hj rfl (by rw [ej]) ⟨pk_in v 14 hv, nm_r (e' := vp_updL a6 v (F (T v) (T v)).toInt64) (by rw [nI_clamp (by omega), ej]) (nm_r (nI_1 v) (H _ (fun _ => rfl)))⟩
theorem tg_sc2 {post : St2 → Prop} {T : Nat → Nat} {F : Nat → Nat → Int32} (hn : n ≤ 7) (hC : tg_cells n T F a1)
    (H : ∀ a4' a6', tg_row 0 a4' (tg_r0 n) → (∀ v, v < 14 → tg_U n v → a6' v = (F (T v) (T v)).toInt64) → ∃ f, wX_startClasses_60 post (nI n) 0 1 pn be hb f 0 a1 a2 a3 a4' a5 a6' a7 a8 a9 a10 a11 a12 a13 a14) : wpX_startClasses post ((nI n), 0, 1, pn, be, hb, a1, a2, a3, a4, a5, a6, a7, a8, a9, a10, a11, a12, a13, a14) := by
  show ∃ f, wX_startClasses_2 post (nI n) 0 1 pn be hb f 0 a1 a2 a3 a4 a5 a6 a7 a8 a9 a10 a11 a12 a13 a14
  refine pk_loop (σ := (Nat → Int32) × (Nat → Int64)) (fun f i s => wX_startClasses_2 post (nI n) 0 1 pn be hb f (nI i) a1 a2 a3 s.1 a5 s.2 a7 a8 a9 a10 a11 a12 a13 a14) (fun i s => (∀ v, v < i → s.1 v = nI (tg_r0 n v)) ∧ (∀ v, v < i → tg_U n v → s.2 v = (F (T v) (T v)).toInt64)) 14 0 (a4, a6) (by omega) ⟨fun v hv => absurd hv (by omega), fun v hv => absurd hv (by omega)⟩ ?_ ?_
  · intro f s ⟨h1, h2⟩
    refine pk_le 14 14 (fun _ => H s.1 s.2 (fun v hv => ⟨?_, ?_⟩) h2) (fun z => absurd z (by omega))
    · rw [show 14 * 0 + v = v by omega]
      exact h1 v hv
    · by_cases z : tg_U n v
      · rw [tg_r0_u z]; omega
      · rw [tg_r0_n z]; exact hv
  · intro f i ⟨a, m⟩ hi ⟨h1, h2⟩ hw
    have h1' : ∀ v, v < i → a v = nI (tg_r0 n v) := h1
    have h2' : ∀ v, v < i → tg_U n v → m v = (F (T v) (T v)).toInt64 := h2
    have fin : ∀ z0 : Int32, z0 = nI (tg_r0 n i) → wX_startClasses_26 post (wX_startClasses_2 post (nI n) 0 1 pn be hb f) (nI i) z0 (nI i) (nI n) 0 1 pn be hb a1 a2 a3 a a5 m a7 a8 a9 a10 a11 a12 a13 a14 := by
      intro z0 hz
      refine tg_sc26 hn hi hC (fun q hq => hw (upd a i z0, vp_updL m i q) ⟨fun v hv => ?_, fun v hv uv => ?_⟩)
      · show upd a i z0 v = nI (tg_r0 n v)
        by_cases e : v = i
        · rw [e, pk_us]; exact hz
        · rw [pk_un e]; exact h1' v (by omega)
      · show vp_updL m i q v = (F (T v) (T v)).toInt64
        by_cases e : v = i
        · rw [e] at uv ⊢
          rw [pk_uLs]; exact hq uv
        · rw [pk_uLn e]; exact h2' v (by omega) uv
    exact pk_le 14 i (fun z => absurd z (by omega)) (fun _ => tg_inUse hn hi (fun uu => br_f (by decide) (fin 0 (by rw [tg_r0_u uu]; rfl))) (fun uu => br_t rfl (fin (nI i) (by rw [tg_r0_n uu]))))
/-- the marks behind one pin -/
def tg_pin (m : Nat → Int64) (a b : Nat) (d : Int64) : Nat → Int64 := vp_updL (vp_updL m a (m a + d)) b (vp_updL m a (m a + d) b + d)
theorem tg_pin_a {m : Nat → Int64} {a b : Nat} {d : Int64} (h : a ≠ b) : tg_pin m a b d a = m a + d := by
  unfold tg_pin
  rw [pk_uLn h, pk_uLs]
theorem tg_pin_b {m : Nat → Int64} {a b : Nat} {d : Int64} (h : a ≠ b) : tg_pin m a b d b = m b + d := by
  unfold tg_pin
  rw [pk_uLs, pk_uLn (Ne.symm h)]
theorem tg_pin_n {m : Nat → Int64} {a b v : Nat} {d : Int64} (h1 : v ≠ a) (h2 : v ≠ b) : tg_pin m a b d v = m v := by
  unfold tg_pin
  rw [pk_uLn h2, pk_uLn h1]
theorem tg_s60s {post : St2 → Prop} {f i p a b : Nat} (hi : i < p) (hp : p ≤ 7) (ha : a < 7) (hb7 : b < 7) (e2 : a2 i = nI a) (e3 : a3 i = nI b)
    (H : wX_startClasses_60 post (nI n) 0 1 (nI p) be hb f (nI (i + 1)) a1 a2 a3 a4 a5 (tg_pin a6 a (7 + b) (lN (4 * (i + 1)))) a7 a8 a9 a10 a11 a12 a13 a14) : wX_startClasses_60 post (nI n) 0 1 (nI p) be hb (f + 1) (nI i) a1 a2 a3 a4 a5 a6 a7 a8 a9 a10 a11 a12 a13 a14 := by
  have q2 : a2 (nI i).toNatClampNeg = nI a := by
    rw [nI_clamp (by omega)]; exact e2
  have q3 : 7 + a3 (nI i).toNatClampNeg = nI (7 + b) := by
    rw [nI_clamp (by omega), e3]; exact nI_add 7 b
  have q4 : (4 * (nI i + 1)).toInt64 = lN (4 * (i + 1)) := by
    rw [nI_1]
    show (nI 4 * nI (i + 1)).toInt64 = _
    rw [pk_mul, nI_l (by omega)]
  refine pk_le p i (fun z => absurd z (by omega)) (fun _ => ⟨pk_in i 7 (by omega), pk_in a 14 (by omega) q2, pk_in a 14 (by omega) q2, nm_r (e' := vp_updL a6 a (a6 a + lN (4 * (i + 1)))) ?_ ⟨pk_in i 7 (by omega), pk_in (7 + b) 14 (by omega) q3, pk_in (7 + b) 14 (by omega) q3, nm_r (e' := tg_pin a6 a (7 + b) (lN (4 * (i + 1)))) ?_ (nm_r (nI_1 i) H)⟩⟩)
  · rw [q2, q4, nI_clamp (by omega)]
  · rw [q3, q4, nI_clamp (by omega)]
    rfl
theorem tg_s60x {post : St2 → Prop} {f p : Nat} {r : Nat → Nat} (hp : p ≤ 7) (hr : tg_row 0 a4 r)
    (H : ∀ a4' a5' r', tg_row 0 a4' r' → (∀ v, v < 14 → tg_lst r a6 v (r' v)) → post ((nI n), 0, 1, (nI p), be, hb, a1, a2, a3, a4', a5', a6, a7, a8, a9, a10, a11, a12, a13, a14)) : wX_startClasses_60 post (nI n) 0 1 (nI p) be hb (f + 1) (nI p) a1 a2 a3 a4 a5 a6 a7 a8 a9 a10 a11 a12 a13 a14 :=
  pk_le p p (fun _ => tg_regroup (k := 0) (by omega) hr (fun b a4' a5' r' h1 h2 _ => H a4' a5' r' h2 h1)) (fun z => absurd z (by omega))
theorem tg_R_start {T r' : Nat → Nat} {m : Nat → Int64} (hn1 : 1 ≤ n) (hn : n ≤ 7) (h : ∀ v, v < 14 → tg_lst (tg_r0 n) m v (r' v))
    (hm : ∀ u v, u < 14 → v < 14 → tg_U n u → tg_U n v → (m u = m v ↔ T u = T v))
    (hT : ∀ t, tg_c (fun j => decide (T j = t)) n = tg_c (fun j => decide (T (7 + j) = t)) n) : tg_R n T r' := by
  have single : ∀ v w, v < 14 → w < 14 → tg_r0 n v = tg_r0 n w → ¬ tg_U n v → v = w := by
    intro v w hv hw e uv
    rw [tg_r0_n uv] at e
    by_cases uw : tg_U n w
    · rw [tg_r0_u uw] at e
      exact absurd (Or.inl (by omega)) uv
    · rw [tg_r0_n uw] at e
      exact e
  refine tg_R_of hn h (fun v w hv hw e _ => single v w hv hw e) ?_ ?_
  · intro v w hv hw e e2
    by_cases uv : tg_U n v
    · by_cases uw : tg_U n w
      · exact (hm v w hv hw uv uw).mp e2
      · rw [single w v hw hv e.symm uw]
    · rw [single v w hv hw e uv]
  · intro c hc _
    by_cases uc : tg_U n c
    · have g : ∀ j, j < 14 → tg_U n j → ((tg_r0 n j = tg_r0 n c ∧ m j = m c) ↔ T j = T c) := by
        intro j hj uj
        rw [tg_r0_u uj, tg_r0_u uc]
        exact ⟨fun z => (hm j c hj hc uj uc).mp z.2, fun z => ⟨rfl, (hm j c hj hc uj uc).mpr z⟩⟩
      rw [tg_c_congr (fun j hj => tg_dec (g j (by omega) (Or.inl hj))), tg_c_congr (fun j hj => tg_dec (g (7 + j) (by omega) (Or.inr ⟨by omega, by omega⟩)))]
      exact hT (T c)
    · have g : ∀ j, tg_U n j → ¬ (tg_r0 n j = tg_r0 n c ∧ m j = m c) := by
        intro j uj z
        have z1 := z.1
        rw [tg_r0_u uj, tg_r0_n uc] at z1
        exact uc (Or.inl (by omega))
      rw [tg_c_zero (fun j hj => decide_eq_false (g j (Or.inl hj))), tg_c_zero (fun j hj => decide_eq_false (g (7 + j) (Or.inr ⟨by omega, by omega⟩)))]
/-- the type of a point of one graph with the edge p, q -/
def tg_t (p q x : Nat) : Nat := if x = p then 1 else if x = q then 2 else 0
theorem tg_t1 {p q x : Nat} : tg_t p q x = 1 ↔ x = p := by
  unfold tg_t
  by_cases h : x = p
  · rw [if_pos h]; exact ⟨fun _ => h, fun _ => rfl⟩
  · rw [if_neg h]
    by_cases h2 : x = q
    · rw [if_pos h2]; exact ⟨fun z => absurd z (by omega), fun z => absurd z h⟩
    · rw [if_neg h2]; exact ⟨fun z => absurd z (by omega), fun z => absurd z h⟩
theorem tg_t2 {p q x : Nat} : tg_t p q x = 2 ↔ (x ≠ p ∧ x = q) := by
  unfold tg_t
  by_cases h : x = p
  · rw [if_pos h]; exact ⟨fun z => absurd z (by omega), fun z => absurd h z.1⟩
  · rw [if_neg h]
    by_cases h2 : x = q
    · rw [if_pos h2]; exact ⟨fun _ => ⟨h, h2⟩, fun _ => rfl⟩
    · rw [if_neg h2]; exact ⟨fun z => absurd z (by omega), fun z => absurd z.2 h2⟩
theorem tg_t3 (p q x : Nat) : tg_t p q x ≤ 2 := by
  unfold tg_t
  by_cases h : x = p
  · rw [if_pos h]; omega
  · rw [if_neg h]
    by_cases h2 : x = q
    · rw [if_pos h2]; omega
    · rw [if_neg h2]; omega
theorem tg_t0c : ∀ n, n < 8 → ∀ p, p < n → ∀ q, q < n → tg_c (fun j => decide (tg_t p q j = 0)) n = n - (if p = q then 1 else 2) := by decide +kernel
theorem tg_tc {a b u v : Nat} (hn : n ≤ 7) (ha : a < n) (hb : b < n) (hu : u < n) (hv : v < n) (hab : a = b ↔ u = v) (t : Nat) : tg_c (fun j => decide (tg_t a b j = t)) n = tg_c (fun j => decide (tg_t u v j = t)) n := by
  by_cases h1 : t = 1
  · rw [h1, tg_c_congr (fun j _ => tg_dec (tg_t1 (p := a) (q := b) (x := j))), tg_c_congr (fun j _ => tg_dec (tg_t1 (p := u) (q := v) (x := j))), tg_c_one ha, tg_c_one hu]
  · by_cases h2 : t = 2
    · rw [h2]
      have g : ∀ p q, q < n → tg_c (fun j => decide (tg_t p q j = 2)) n = if p = q then 0 else 1 := by
        intro p q hq
        by_cases e : p = q
        · rw [if_pos e]
          refine tg_c_zero (fun j _ => decide_eq_false (fun z => ?_))
          have := tg_t2.mp z
          omega
        · rw [if_neg e, ← tg_c_one hq]
          refine tg_c_congr (fun j _ => tg_dec ?_)
          rw [tg_t2]
          exact ⟨fun z => z.2, fun z => ⟨by omega, z⟩⟩
      rw [g a b hb, g u v hv]
      by_cases e : a = b
      · rw [if_pos e, if_pos (hab.mp e)]
      · rw [if_neg e, if_neg (fun z => e (hab.mpr z))]
    · by_cases h0 : t = 0
      · rw [h0, tg_t0c n (by omega) a ha b hb, tg_t0c n (by omega) u hu v hv]
        by_cases e : a = b
        · rw [if_pos e, if_pos (hab.mp e)]
        · rw [if_neg e, if_neg (fun z => e (hab.mpr z))]
      · rw [tg_c_zero (fun j _ => decide_eq_false (fun z => by have := tg_t3 a b j; omega)), tg_c_zero (fun j _ => decide_eq_false (fun z => by have := tg_t3 u v j; omega))]
/-- the type of a point: x's edge a, b; y's edge u, v -/
def tg_T (a b u v w : Nat) : Nat := if 7 ≤ w then tg_t u v (w - 7) else tg_t a b w
theorem tg_TX {a b u v w : Nat} (h : w < 7) : tg_T a b u v w = tg_t a b w := if_neg (by omega)
theorem tg_TY {a b u v w : Nat} : tg_T a b u v (7 + w) = tg_t u v w := by
  unfold tg_T
  rw [if_pos (by omega), show 7 + w - 7 = w by omega]
/-- the shade by types -/
def tg_F (a b : Nat) (c : Int32) (s t : Nat) : Int32 := if a = b then (if s = 1 ∧ t = 1 then c else 0) else (if (s = 1 ∧ t = 2) ∨ (s = 2 ∧ t = 1) then c else 0)
theorem tg_Fe {a b p q x y : Nat} {c : Int32} (h : a = b ↔ p = q) : tg_F a b c (tg_t p q x) (tg_t p q y) = if (x = p ∧ y = q) ∨ (x = q ∧ y = p) then c else 0 := by
  unfold tg_F
  have x1 := tg_t1 (p := p) (q := q) (x := x)
  have y1 := tg_t1 (p := p) (q := q) (x := y)
  have x2 := tg_t2 (p := p) (q := q) (x := x)
  have y2 := tg_t2 (p := p) (q := q) (x := y)
  by_cases e : a = b
  · rw [if_pos e]
    have e' := h.mp e
    by_cases z : tg_t p q x = 1 ∧ tg_t p q y = 1
    · rw [if_pos z, if_pos (by omega)]
    · rw [if_neg z, if_neg (by omega)]
  · rw [if_neg e]
    have e' : ¬ p = q := fun z => e (h.mpr z)
    by_cases z : (tg_t p q x = 1 ∧ tg_t p q y = 2) ∨ (tg_t p q x = 2 ∧ tg_t p q y = 1)
    · rw [if_pos z, if_pos (by omega)]
    · rw [if_neg z, if_neg (by omega)]
theorem tg_cells_of {a b u v : Nat} {c : Int32} (hn : n ≤ 7) (hab : a = b ↔ u = v)
    (hX : ∀ x y, x < n → y < n → a1 (7 * x + y) = if (x = a ∧ y = b) ∨ (x = b ∧ y = a) then c else 0)
    (hY : ∀ x y, x < n → y < n → a1 (49 + 7 * x + y) = if (x = u ∧ y = v) ∨ (x = v ∧ y = u) then c else 0) : tg_cells n (tg_T a b u v) (tg_F a b c) a1 := by
  intro x y hx hy
  rw [tg_TX (by omega), tg_TX (by omega), tg_TY, tg_TY, tg_Fe Iff.rfl, tg_Fe hab]
  exact ⟨hX x y hx hy, hY x y hx hy⟩
end
section
variable {n : Nat} {pn hb : Int32} {be : Int64} {a1 a2 a3 a4 a5 a7 a8 a9 a10 a11 a14 : Nat → Int32} {a6 a12 a13 : Nat → Int64}
theorem tg_T1 {a b u v w : Nat} (ha : a < 7) : tg_T a b u v w = 1 ↔ (w = a ∨ w = 7 + u) := by
  unfold tg_T
  by_cases h : 7 ≤ w
  · rw [if_pos h, tg_t1]; omega
  · rw [if_neg h, tg_t1]; omega
theorem tg_T2 {a b u v w : Nat} (ha : a < 7) (hb : b < 7) : tg_T a b u v w = 2 ↔ (w ≠ a ∧ w ≠ 7 + u ∧ (w = b ∨ w = 7 + v)) := by
  unfold tg_T
  by_cases h : 7 ≤ w
  · rw [if_pos h, tg_t2]; omega
  · rw [if_neg h, tg_t2]; omega
theorem tg_T3 (a b u v w : Nat) : tg_T a b u v w ≤ 2 := by
  unfold tg_T
  by_cases h : 7 ≤ w
  · rw [if_pos h]; exact tg_t3 _ _ _
  · rw [if_neg h]; exact tg_t3 _ _ _
theorem tg_hm {T : Nat → Nat} {m : Nat → Int64} {g0 g1 g2 : Int64} (h01 : g0 ≠ g1) (h02 : g0 ≠ g2) (h12 : g1 ≠ g2)
    (h : ∀ w, w < 14 → tg_U n w → (T w = 0 ∧ m w = g0) ∨ (T w = 1 ∧ m w = g1) ∨ (T w = 2 ∧ m w = g2)) :
    ∀ u v, u < 14 → v < 14 → tg_U n u → tg_U n v → (m u = m v ↔ T u = T v) := by
  intro u v hu hv uu uv
  rcases h u hu uu with ⟨p1, p2⟩ | ⟨p1, p2⟩ | ⟨p1, p2⟩ <;> rcases h v hv uv with ⟨q1, q2⟩ | ⟨q1, q2⟩ | ⟨q1, q2⟩ <;> rw [p1, p2, q1, q2]
  · exact ⟨fun _ => rfl, fun _ => rfl⟩
  · exact ⟨fun z => absurd z h01, fun z => absurd z (by omega)⟩
  · exact ⟨fun z => absurd z h02, fun z => absurd z (by omega)⟩
  · exact ⟨fun z => absurd z.symm h01, fun z => absurd z (by omega)⟩
  · exact ⟨fun _ => rfl, fun _ => rfl⟩
  · exact ⟨fun z => absurd z h12, fun z => absurd z (by omega)⟩
  · exact ⟨fun z => absurd z.symm h02, fun z => absurd z (by omega)⟩
  · exact ⟨fun z => absurd z.symm h12, fun z => absurd z (by omega)⟩
  · exact ⟨fun _ => rfl, fun _ => rfl⟩
theorem tg_hT {a b u v : Nat} (hn : n ≤ 7) (ha : a < n) (hb : b < n) (hu : u < n) (hv : v < n) (hab : a = b ↔ u = v) (t : Nat) : tg_c (fun j => decide (tg_T a b u v j = t)) n = tg_c (fun j => decide (tg_T a b u v (7 + j) = t)) n := by
  rw [tg_c_congr (fun j hj => by rw [tg_TX (by omega)]) (q := fun j => decide (tg_t a b j = t)), tg_c_congr (fun j hj => by rw [tg_TY]) (p := fun j => decide (tg_T a b u v (7 + j) = t)) (q := fun j => decide (tg_t u v j = t))]
  exact tg_tc hn ha hb hu hv hab t
theorem tg_n1 : ∀ c, c < 4 → (0 : Int32).toInt64 ≠ (nI c).toInt64 + lN (4 * (0 + 1)) := by decide
theorem tg_n2 : ∀ c, c < 4 → (nI c).toInt64 + lN (4 * (0 + 1)) ≠ lN 100 := by decide
theorem tg_n3 : (0 : Int32).toInt64 ≠ lN 100 := by decide
theorem tg_start1 {post : St2 → Prop} {a u c : Nat} (hn1 : 1 ≤ n) (hn : n ≤ 7) (ha : a < n) (hu : u < n) (hc : c < 4) (hC : tg_cells n (tg_T a a u u) (tg_F a a (nI c)) a1) (e2 : a2 0 = nI a) (e3 : a3 0 = nI u)
    (H : ∀ a4' a5' a6' r', tg_row 0 a4' r' → tg_R n (tg_T a a u u) r' → post ((nI n), 0, 1, (nI 1), be, hb, a1, a2, a3, a4', a5', a6', a7, a8, a9, a10, a11, a12, a13, a14)) : wpX_startClasses post ((nI n), 0, 1, (nI 1), be, hb, a1, a2, a3, a4, a5, a6, a7, a8, a9, a10, a11, a12, a13, a14) := by
  refine tg_sc2 hn hC (fun a4' m0 hr hm => ⟨2, tg_s60s (i := 0) (p := 1) (a := a) (b := u) (by omega) (by omega) (by omega) (by omega) e2 e3 (tg_s60x (p := 1) (by omega) hr (fun a4'' a5'' r' h1 h2 => H a4'' a5'' _ r' h1 (tg_R_start hn1 hn h2 (tg_hm (tg_n1 c hc) tg_n3 (tg_n2 c hc) ?_) (tg_hT hn ha ha hu hu ⟨fun _ => rfl, fun _ => rfl⟩))))⟩)
  intro w hw uw
  have t1 := tg_T1 (a := a) (b := a) (u := u) (v := u) (w := w) (by omega)
  have t2 := tg_T2 (a := a) (b := a) (u := u) (v := u) (w := w) (by omega) (by omega)
  have t3 := tg_T3 a a u u w
  have hmw := hm w hw uw
  by_cases e : w = a ∨ w = 7 + u
  · refine Or.inr (Or.inl ⟨t1.mpr e, ?_⟩)
    have hF : tg_F a a (nI c) 1 1 = nI c := by
      unfold tg_F
      rw [if_pos rfl, if_pos ⟨rfl, rfl⟩]
    rw [t1.mpr e, hF] at hmw
    rcases e with e | e
    · rw [e] at hmw ⊢
      rw [tg_pin_a (by omega), hmw]
    · rw [e] at hmw ⊢
      rw [tg_pin_b (by omega), hmw]
  · have t0 : tg_T a a u u w = 0 := by omega
    refine Or.inl ⟨t0, ?_⟩
    have hF : tg_F a a (nI c) 0 0 = 0 := by
      unfold tg_F
      rw [if_pos rfl, if_neg (by omega)]
    rw [t0, hF] at hmw
    rw [tg_pin_n (by omega) (by omega), hmw]
theorem tg_n4 : (0 : Int32).toInt64 ≠ (0 : Int32).toInt64 + lN (4 * (0 + 1)) := by decide
theorem tg_n5 : (0 : Int32).toInt64 ≠ (0 : Int32).toInt64 + lN (4 * (1 + 1)) := by decide
theorem tg_n6 : (0 : Int32).toInt64 + lN (4 * (0 + 1)) ≠ (0 : Int32).toInt64 + lN (4 * (1 + 1)) := by decide
theorem tg_start2 {post : St2 → Prop} {a b u v : Nat} {c : Int32} (hn1 : 1 ≤ n) (hn : n ≤ 7) (ha : a < n) (hbn : b < n) (hu : u < n) (hv : v < n) (hab : a ≠ b) (huv : u ≠ v) (hC : tg_cells n (tg_T a b u v) (tg_F a b c) a1)
    (e2 : a2 0 = nI a) (e3 : a3 0 = nI u) (d2 : a2 1 = nI b) (d3 : a3 1 = nI v)
    (H : ∀ a4' a5' a6' r', tg_row 0 a4' r' → tg_R n (tg_T a b u v) r' → post ((nI n), 0, 1, (nI 2), be, hb, a1, a2, a3, a4', a5', a6', a7, a8, a9, a10, a11, a12, a13, a14)) : wpX_startClasses post ((nI n), 0, 1, (nI 2), be, hb, a1, a2, a3, a4, a5, a6, a7, a8, a9, a10, a11, a12, a13, a14) := by
  refine tg_sc2 hn hC (fun a4' m0 hr hm => ⟨3, tg_s60s (i := 0) (p := 2) (a := a) (b := u) (by omega) (by omega) (by omega) (by omega) e2 e3 (tg_s60s (i := 1) (p := 2) (a := b) (b := v) (by omega) (by omega) (by omega) (by omega) d2 d3 (tg_s60x (p := 2) (by omega) hr (fun a4'' a5'' r' h1 h2 => H a4'' a5'' _ r' h1 (tg_R_start hn1 hn h2 (tg_hm tg_n4 tg_n5 tg_n6 ?_) (tg_hT hn ha hbn hu hv ⟨fun z => absurd z hab, fun z => absurd z huv⟩)))))⟩)
  intro w hw uw
  have t1 := tg_T1 (a := a) (b := b) (u := u) (v := v) (w := w) (by omega)
  have t2 := tg_T2 (a := a) (b := b) (u := u) (v := v) (w := w) (by omega) (by omega)
  have t3 := tg_T3 a b u v w
  have hmw := hm w hw uw
  have hF : ∀ s, tg_F a b c s s = 0 := by
    intro s
    unfold tg_F
    rw [if_neg hab, if_neg (by omega)]
  rw [hF] at hmw
  by_cases e : w = a ∨ w = 7 + u
  · refine Or.inr (Or.inl ⟨t1.mpr e, ?_⟩)
    rw [tg_pin_n (by omega) (by omega)]
    rcases e with e | e
    · rw [e] at hmw ⊢
      rw [tg_pin_a (by omega), hmw]
    · rw [e] at hmw ⊢
      rw [tg_pin_b (by omega), hmw]
  · by_cases e' : w = b ∨ w = 7 + v
    · refine Or.inr (Or.inr ⟨by omega, ?_⟩)
      rcases e' with e' | e'
      · rw [e'] at hmw ⊢
        rw [tg_pin_a (by omega), tg_pin_n (by omega) (by omega), hmw]
      · rw [e'] at hmw ⊢
        rw [tg_pin_b (by omega), tg_pin_n (by omega) (by omega), hmw]
    · refine Or.inl ⟨by omega, ?_⟩
      rw [tg_pin_n (by omega) (by omega), tg_pin_n (by omega) (by omega), hmw]
theorem tg_enter {post : Int32 → St2 → Prop} {T r : Nat → Nat} {F : Nat → Nat → Int32} {k st f : Nat} (hn : n ≤ 7) (hk : k ≤ 7) (hst : st < 60000) (hr : tg_row k a4 r) (hR : tg_R n T r) (hC : tg_cells n T F a1) (H : ∀ s, post 1 s)
    (Hs : ∀ a4' a5' a6' x, x < n → tg_S n r x → tg_row k a4' r → wX_exists_10 post f (nI k) 0 (nI (st + 1)) (nI n) 0 1 pn be hb a1 a2 a3 a4' a5' a6' (upd a7 k (nI x)) (upd a8 k 7) a9 a10 a11 a12 a13 a14) :
    wX_exists_10 post (f + 1) (nI k) 1 (nI st) (nI n) 0 1 pn be hb a1 a2 a3 a4 a5 a6 a7 a8 a9 a10 a11 a12 a13 a14 := by
  refine pk_le 60000 st (fun z => absurd z (by omega)) (fun _ => br_f (nI_pos (by omega)) (br_f (by decide) (tg_refine hn (by omega) hr hR hC (fun a4' a5' a6' hr' => ?_))))
  refine tg_balance hn (by omega) hr' hR.2.2.2.2 (fun _ => br_t rfl (tg_isLaying hn (by omega) hr' hR hC (fun a9' => br_f (by decide) (H _)))) (fun hc => br_f (by decide) (br_t rfl (tg_chooseX hn (by omega) hr' ?_ (fun x hx sx => nm_r (nI_1 st) (Hs a4' a5' a6' x hx sx hr')))))
  obtain ⟨c, hc1, hc2⟩ := hc
  obtain ⟨x, y, hx, hy, hne, p1, p2⟩ := tg_c_2ex hc2
  exact ⟨x, hx, y, hy, hne, (of_decide_eq_true p2).trans (of_decide_eq_true p1).symm⟩
theorem tg_try {post : Int32 → St2 → Prop} {T r : Nat → Nat} {k st f x : Nat} (hn : n ≤ 7) (hk : k ≤ 7) (hst : st < 60000) (hr : tg_row k a4 r) (hR : tg_R n T r) (hx : x < n) (sx : tg_S n r x) (e7 : a7 k = nI x) (e8 : a8 k = 7)
    (Hn : ∀ a4' a5' a6' a8' r', tg_row (k + 1) a4' r' → tg_R n T r' → tg_us r n < tg_us r' n → wX_exists_10 post f (nI (k + 1)) 1 (nI (st + 1)) (nI n) 0 1 pn be hb a1 a2 a3 a4' a5' a6' a7 a8' a9 a10 a11 a12 a13 a14) :
    wX_exists_10 post (f + 1) (nI k) 0 (nI st) (nI n) 0 1 pn be hb a1 a2 a3 a4 a5 a6 a7 a8 a9 a10 a11 a12 a13 a14 := by
  have hR' := hR
  obtain ⟨R1, R2, R3, R4, R5⟩ := hR'
  have hy : ∃ y, y < n ∧ r (7 + y) = r x := by
    have h1 : 1 ≤ tg_c (fun j => decide (r j = r x)) n := tg_c_pos hx (decide_eq_true rfl)
    rw [R5 (r x) (by have := R1 x (by omega); omega)] at h1
    obtain ⟨y, y1, y2⟩ := tg_c_ex h1
    exact ⟨y, y1, of_decide_eq_true y2⟩
  refine pk_le 60000 st (fun z => absurd z (by omega)) (fun _ => br_f (nI_pos (by omega)) (br_t rfl (tg_tryNext hn hk hr hx e7 e8 hy (fun y a4' a5' a6' a8' r' hy e h1 h2 h3 => br_f (by decide) (nm_r (nI_1 k) (nm_r (nI_1 st) (Hn a4' a5' a6' a8' r' h1 (tg_split hn hR hx hy e h3 h2) ?_)))))))
  obtain ⟨w, hw, hne, ew⟩ := sx
  refine tg_us_lt (fun i j hi hj z => ((tg_lst_iff h2 (by omega) (by omega)).mp z).1) hx hw hne ew (fun j hj z => ?_)
  have z2 := ((tg_lst_iff h2 (by omega) (by omega)).mp z).2
  rw [h3 j (by omega), h3 x (by omega), if_pos (Or.inl rfl)] at z2
  by_cases q : j = x ∨ j = 7 + y
  · omega
  · rw [if_neg q] at z2
    exact absurd z2 (by decide)
theorem tg_ex10 {post : Int32 → St2 → Prop} {T : Nat → Nat} {F : Nat → Nat → Int32} (hn : n ≤ 7) (hC : tg_cells n T F a1) (H : ∀ s, post 1 s) :
    ∀ (d k st : Nat) (r : Nat → Nat) (a4 a5 : Nat → Int32) (a6 : Nat → Int64) (a7 a8 : Nat → Int32), k + d = 7 → st ≤ 2 * k → k ≤ tg_us r n → tg_row k a4 r → tg_R n T r → wX_exists_10 post (2 * d + 1) (nI k) 1 (nI st) (nI n) 0 1 pn be hb a1 a2 a3 a4 a5 a6 a7 a8 a9 a10 a11 a12 a13 a14 := by
  intro d
  induction d with
  | zero =>
    intro k st r a4 a5 a6 a7 a8 hk hst hu hr hR
    refine tg_enter hn (by omega) (by omega) hr hR hC H (fun a4' a5' a6' x hx sx _ => ?_)
    obtain ⟨w, hw, hne, ew⟩ := sx
    have := tg_us_sh hx hw hne ew
    omega
  | succ d ih =>
    intro k st r a4 a5 a6 a7 a8 hk hst hu hr hR
    refine tg_enter (f := 2 * d + 1 + 1) hn (by omega) (by omega) hr hR hC H (fun a4' a5' a6' x hx sx hr' => ?_)
    refine tg_try hn (by omega) (by omega) hr' hR hx sx pk_us pk_us (fun a4'' a5'' a6'' a8'' r' h1 h2 h3 => ?_)
    exact ih (k + 1) (st + 1 + 1) r' _ _ _ _ _ (by omega) (by omega) (by omega) h1 h2
theorem tg_exists1 {post : Int32 → St2 → Prop} {a u c : Nat} (hn1 : 1 ≤ n) (hn : n ≤ 7) (ha : a < n) (hu : u < n) (hc : c < 4) (hC : tg_cells n (tg_T a a u u) (tg_F a a (nI c)) a1) (e2 : a2 0 = nI a) (e3 : a3 0 = nI u)
    (H : ∀ s, post 1 s) : wpX_exists post ((nI n), 0, 1, (nI 1), be, hb, a1, a2, a3, a4, a5, a6, a7, a8, a9, a10, a11, a12, a13, a14) :=
  tg_start1 hn1 hn ha hu hc hC e2 e3 (fun a4' a5' a6' r' h1 h2 => ⟨15, tg_ex10 hn hC H 7 0 0 r' a4' a5' a6' a7 a8 (by omega) (by omega) (by omega) h1 h2⟩)
theorem tg_exists2 {post : Int32 → St2 → Prop} {a b u v : Nat} {c : Int32} (hn1 : 1 ≤ n) (hn : n ≤ 7) (ha : a < n) (hbn : b < n) (hu : u < n) (hv : v < n) (hab : a ≠ b) (huv : u ≠ v) (hC : tg_cells n (tg_T a b u v) (tg_F a b c) a1)
    (e2 : a2 0 = nI a) (e3 : a3 0 = nI u) (d2 : a2 1 = nI b) (d3 : a3 1 = nI v) (H : ∀ s, post 1 s) : wpX_exists post ((nI n), 0, 1, (nI 2), be, hb, a1, a2, a3, a4, a5, a6, a7, a8, a9, a10, a11, a12, a13, a14) :=
  tg_start2 hn1 hn ha hbn hu hv hab huv hC e2 e3 d2 d3 (fun a4' a5' a6' r' h1 h2 => ⟨15, tg_ex10 hn hC H 7 0 0 r' a4' a5' a6' a7 a8 (by omega) (by omega) (by omega) h1 h2⟩)
end
section
variable {n : Nat} {gx gy pn hb : Int32} {be : Int64} {a1 a2 a3 a4 a5 a7 a8 a9 a10 a11 a14 : Nat → Int32} {a6 a12 a13 : Nat → Int64}
/-- a point of the graph -/
def tg_P (n : Nat) (p : Int32) : Prop := ∃ j, j < n ∧ p = nI j
theorem tg_pc {x : Int32} {X Y : Prop} (hn : n ≤ 7) (ht : tg_P n x → Y) (hf : ¬ tg_P n x → X) : (x < 0 → X) ∧ (¬ x < 0 → ((nI n ≤ x → X) ∧ (¬ nI n ≤ x → Y))) := by
  by_cases h0 : x < 0
  · refine br_t h0 (hf (fun ⟨j, hj, e⟩ => nI_pos (n := j) (by omega) (by rw [← e]; exact h0)))
  · refine br_f h0 ?_
    by_cases h1 : nI n ≤ x
    · exact br_t h1 (hf (fun ⟨j, hj, e⟩ => nI_ge hj (by omega) (by rw [← e]; exact h1)))
    · refine br_f h1 (ht ?_)
      rcases pk_ix x (n := n) (by omega) with z | z | z
      · exact absurd z h0
      · exact absurd z h1
      · exact z
theorem tg_isPoint {post : Int32 → Prop} {p : Int32} (hn : n ≤ 7) (ht : tg_P n p → post 1) (hf : ¬ tg_P n p → post 0) : wpX_isPoint post ((nI n), gx, gy, pn, be, hb, a1, a2, a3, a4, a5, a6, a7, a8, a9, a10, a11, a12, a13, a14) p := tg_pc hn ht hf
theorem tg_fits {post : Int32 → Prop} {p0 p1 p2 : Int32} (hn : n ≤ 7) (g0 : ¬ p0 < 0) (g1 : ¬ 1 < p0) (ht : tg_P n p1 → tg_P n p2 → post 1) (hf : ¬ (tg_P n p1 ∧ tg_P n p2) → post 0) : wpX_fits post ((nI n), gx, gy, pn, be, hb, a1, a2, a3, a4, a5, a6, a7, a8, a9, a10, a11, a12, a13, a14) p0 p1 p2 :=
  br_f g0 (br_f g1 (tg_isPoint hn (fun h1 => br_f (by decide) (tg_isPoint hn (fun h2 => br_f (by decide) (ht h1 h2)) (fun h2 => br_t rfl (hf (fun z => h2 z.2))))) (fun h1 => br_t rfl (hf (fun z => h1 z.1)))))
theorem tg_i0 (a b : Nat) : 49 * (0 : Int32) + 7 * nI a + nI b = nI (7 * a + b) := by
  show nI 49 * nI 0 + nI 7 * nI a + nI b = _
  rw [pk_mul, pk_mul, nI_add, nI_add]
  exact congrArg nI (by omega)
theorem tg_i1 (a b : Nat) : 49 * (1 : Int32) + 7 * nI a + nI b = nI (49 + 7 * a + b) := by
  show nI 49 * nI 1 + nI 7 * nI a + nI b = _
  rw [pk_mul, pk_mul, nI_add, nI_add]
theorem tg_paint {post : Int32 → St2 → Prop} {p1 p2 x : Int32} (hn : n ≤ 7)
    (ht : ∀ a b, a < n → b < n → p1 = nI a → p2 = nI b → post (a1 (7 * a + b)) ((nI n), gx, gy, pn, be, hb, (upd (upd a1 (7 * a + b) (x &&& 3)) (7 * b + a) (x &&& 3)), a2, a3, a4, a5, a6, a7, a8, a9, a10, a11, a12, a13, a14))
    (hf : ¬ (tg_P n p1 ∧ tg_P n p2) → post (-1) ((nI n), gx, gy, pn, be, hb, a1, a2, a3, a4, a5, a6, a7, a8, a9, a10, a11, a12, a13, a14)) : wpX_paint post ((nI n), gx, gy, pn, be, hb, a1, a2, a3, a4, a5, a6, a7, a8, a9, a10, a11, a12, a13, a14) 0 p1 p2 x := by
  unfold wpX_paint
  refine tg_fits hn (by decide) (by decide) (fun ⟨a, ha, ea⟩ ⟨b, hb', eb⟩ => br_f (by decide) ?_) (fun h => br_t rfl (hf h))
  subst ea eb
  exact ⟨pk_in (7 * a + b) 98 (by omega) (tg_i0 a b), nm_r (e' := a1 (7 * a + b)) (by rw [tg_i0, nI_clamp (by omega)]) ⟨pk_in (7 * a + b) 98 (by omega) (tg_i0 a b), nm_r (e' := upd a1 (7 * a + b) (x &&& 3)) (by rw [tg_i0, nI_clamp (by omega)]) ⟨pk_in (7 * b + a) 98 (by omega) (tg_i0 b a), nm_r (e' := upd (upd a1 (7 * a + b) (x &&& 3)) (7 * b + a) (x &&& 3)) (by rw [tg_i0, nI_clamp (by omega)]) (ht a b ha hb' rfl rfl)⟩⟩⟩
theorem tg_colour0 {post : Int32 → Prop} {p1 p2 : Int32} (hn : n ≤ 7) (ht : ∀ a b, a < n → b < n → p1 = nI a → p2 = nI b → post (a1 (7 * a + b))) (hf : ¬ (tg_P n p1 ∧ tg_P n p2) → post (-1)) : wpX_colour post ((nI n), gx, gy, pn, be, hb, a1, a2, a3, a4, a5, a6, a7, a8, a9, a10, a11, a12, a13, a14) 0 p1 p2 := by
  unfold wpX_colour
  refine tg_fits hn (by decide) (by decide) (fun ⟨a, ha, ea⟩ ⟨b, hb', eb⟩ => br_f (by decide) ?_) (fun h => br_t rfl (hf h))
  subst ea eb
  refine ⟨pk_in (7 * a + b) 98 (by omega) (tg_i0 a b), ?_⟩
  rw [tg_i0, nI_clamp (by omega)]
  exact ht a b ha hb' rfl rfl
theorem tg_colour1 {post : Int32 → Prop} {p1 p2 : Int32} (hn : n ≤ 7) (ht : ∀ a b, a < n → b < n → p1 = nI a → p2 = nI b → post (a1 (49 + 7 * a + b))) (hf : ¬ (tg_P n p1 ∧ tg_P n p2) → post (-1)) : wpX_colour post ((nI n), gx, gy, pn, be, hb, a1, a2, a3, a4, a5, a6, a7, a8, a9, a10, a11, a12, a13, a14) 1 p1 p2 := by
  unfold wpX_colour
  refine tg_fits hn (by decide) (by decide) (fun ⟨a, ha, ea⟩ ⟨b, hb', eb⟩ => br_f (by decide) ?_) (fun h => br_t rfl (hf h))
  subst ea eb
  refine ⟨pk_in (49 + 7 * a + b) 98 (by omega) (tg_i1 a b), ?_⟩
  rw [tg_i1, nI_clamp (by omega)]
  exact ht a b ha hb' rfl rfl
/-- the two points a and d changed with each other -/
def tg_sw (a d x : Nat) : Nat := if x = a then d else if x = d then a else x
theorem tg_sw_a {a d x : Nat} (h : x = a) : tg_sw a d x = d := if_pos h
theorem tg_sw_d {a d x : Nat} (h : x ≠ a) (h2 : x = d) : tg_sw a d x = a := by
  unfold tg_sw
  rw [if_neg h, if_pos h2]
theorem tg_sw_n {a d x : Nat} (h : x ≠ a) (h2 : x ≠ d) : tg_sw a d x = x := by
  unfold tg_sw
  rw [if_neg h, if_neg h2]
theorem tg_sw_e (a d x : Nat) : (x = a ∧ tg_sw a d x = d) ∨ (x ≠ a ∧ x = d ∧ tg_sw a d x = a) ∨ (x ≠ a ∧ x ≠ d ∧ tg_sw a d x = x) := by
  by_cases h : x = a
  · exact Or.inl ⟨h, tg_sw_a h⟩
  · by_cases h2 : x = d
    · exact Or.inr (Or.inl ⟨h, h2, tg_sw_d h h2⟩)
    · exact Or.inr (Or.inr ⟨h, h2, tg_sw_n h h2⟩)
theorem tg_sw_lt {a d x : Nat} (ha : a < n) (hd : d < n) (hx : x < n) : tg_sw a d x < n := by
  have := tg_sw_e a d x
  omega
theorem tg_cs90 {post : Int32 → St2 → Prop} {J23 J35 : Int32 → (Nat → Int32) → (Nat → Int32) → (Nat → Int32) → (Nat → Int32) → (Nat → Int32) → (Nat → Int64) → (Nat → Int32) → (Nat → Int32) → (Nat → Int32) → (Nat → Int32) → (Nat → Int32) → (Nat → Int64) → (Nat → Int64) → (Nat → Int32) → Prop} {x2 x3 : Int32} {x y xs ys : Nat} (hx : x < 7) (hy : y < 7) (hxs : xs < 7) (hys : ys < 7)
    (H : J35 (nI (y + 1)) (upd a1 (49 + 7 * x + y) (a1 (7 * xs + ys))) a2 a3 a4 a5 a6 a7 a8 a9 a10 a11 a12 a13 a14) : wX_copySwapped_90 post J23 J35 1 x2 x3 0 (nI x) (nI y) (nI xs) (nI ys) (nI n) gx gy pn be hb a1 a2 a3 a4 a5 a6 a7 a8 a9 a10 a11 a12 a13 a14 := by
  have e : (0 : Int32) + 7 * nI xs + nI ys = nI (7 * xs + ys) := by
    show nI 0 + nI 7 * nI xs + nI ys = _
    rw [pk_mul, nI_add, nI_add]
    exact congrArg nI (by omega)
  exact ⟨pk_in (7 * xs + ys) 98 (by omega) e, pk_in (49 + 7 * x + y) 98 (by omega) (tg_i1 x y), nm_r (e' := upd a1 (49 + 7 * x + y) (a1 (7 * xs + ys))) (by rw [tg_i1, e, nI_clamp (by omega), nI_clamp (by omega)]) (nm_r (nI_1 y) H)⟩
theorem tg_cs66 {post : Int32 → St2 → Prop} {J23 J35 : Int32 → (Nat → Int32) → (Nat → Int32) → (Nat → Int32) → (Nat → Int32) → (Nat → Int32) → (Nat → Int64) → (Nat → Int32) → (Nat → Int32) → (Nat → Int32) → (Nat → Int32) → (Nat → Int32) → (Nat → Int64) → (Nat → Int64) → (Nat → Int32) → Prop} {a d x y xs : Nat} (hx : x < 7) (hy : y < 7) (hxs : xs < 7) (ha : a < 7) (hd : d < 7)
    (H : J35 (nI (y + 1)) (upd a1 (49 + 7 * x + y) (a1 (7 * xs + tg_sw a d y))) a2 a3 a4 a5 a6 a7 a8 a9 a10 a11 a12 a13 a14) : wX_copySwapped_66 post J23 J35 1 (nI a) (nI d) 0 (nI x) (nI y) (nI xs) (nI n) gx gy pn be hb a1 a2 a3 a4 a5 a6 a7 a8 a9 a10 a11 a12 a13 a14 := by
  refine pk_eq y a (fun z => tg_cs90 hx hy hxs hd ?_) (fun z => pk_eq y d (fun z2 => tg_cs90 hx hy hxs ha ?_) (fun z2 => tg_cs90 hx hy hxs hy ?_))
  · rw [tg_sw_a z] at H; exact H
  · rw [tg_sw_d z z2] at H; exact H
  · rw [tg_sw_n z z2] at H; exact H
/-- the copy up to the cell x, j -/
def tg_cp (n a d : Nat) (b s : Nat → Int32) (x j : Nat) : Prop := (∀ i, i < 49 → s i = b i) ∧ (∀ x' y', y' < n → (x' < x ∨ (x' = x ∧ y' < j)) → s (49 + 7 * x' + y') = b (7 * tg_sw a d x' + tg_sw a d y'))
theorem tg_cs35 {post : Int32 → St2 → Prop} {J : Int32 → (Nat → Int32) → (Nat → Int32) → (Nat → Int32) → (Nat → Int32) → (Nat → Int32) → (Nat → Int64) → (Nat → Int32) → (Nat → Int32) → (Nat → Int32) → (Nat → Int32) → (Nat → Int32) → (Nat → Int64) → (Nat → Int64) → (Nat → Int32) → Prop} {a d x : Nat} {b : Nat → Int32} (hn : n ≤ 7) (hx : x < n) (ha : a < n) (hd : d < n) (h0 : tg_cp n a d b a1 x 0)
    (H : ∀ s, tg_cp n a d b s (x + 1) 0 → J (nI (x + 1)) s a2 a3 a4 a5 a6 a7 a8 a9 a10 a11 a12 a13 a14) : ∃ f, wX_copySwapped_35 post J 1 (nI a) (nI d) 0 (nI x) (nI n) gx gy pn be hb f 0 a1 a2 a3 a4 a5 a6 a7 a8 a9 a10 a11 a12 a13 a14 := by
  refine pk_loop (fun f i s => wX_copySwapped_35 post J 1 (nI a) (nI d) 0 (nI x) (nI n) gx gy pn be hb f (nI i) s a2 a3 a4 a5 a6 a7 a8 a9 a10 a11 a12 a13 a14) (fun i s => tg_cp n a d b s x i) n 0 a1 (by omega) h0 ?_ ?_
  · intro f s ⟨h1, h2⟩
    refine pk_le n n (fun _ => nm_r (nI_1 x) (H s ⟨h1, fun x' y' hy' z => h2 x' y' hy' ?_⟩)) (fun z => absurd z (by omega))
    omega
  · intro f i s hi ⟨h1, h2⟩ hw
    have fin : wX_copySwapped_35 post J 1 (nI a) (nI d) 0 (nI x) (nI n) gx gy pn be hb f (nI (i + 1)) (upd s (49 + 7 * x + i) (s (7 * tg_sw a d x + tg_sw a d i))) a2 a3 a4 a5 a6 a7 a8 a9 a10 a11 a12 a13 a14 := by
      have l1 := tg_sw_lt ha hd hx
      have l2 := tg_sw_lt ha hd hi
      refine hw _ ⟨fun j hj => ?_, fun x' y' hy' z => ?_⟩
      · rw [pk_un (by omega)]
        exact h1 j hj
      · by_cases e : x' = x ∧ y' = i
        · rw [e.1, e.2, pk_us]
          exact h1 _ (by omega)
        · rw [pk_un (by omega)]
          exact h2 x' y' hy' (by omega)
    refine pk_le n i (fun z => absurd z (by omega)) (fun _ => pk_eq x a (fun z => tg_cs66 (by omega) (by omega) (by omega) (by omega) (by omega) ?_) (fun z => pk_eq x d (fun z2 => tg_cs66 (by omega) (by omega) (by omega) (by omega) (by omega) ?_) (fun z2 => tg_cs66 (by omega) (by omega) (by omega) (by omega) (by omega) ?_)))
    · rw [tg_sw_a z] at fin; exact fin
    · rw [tg_sw_d z z2] at fin; exact fin
    · rw [tg_sw_n z z2] at fin; exact fin
theorem tg_copy {post : Int32 → St2 → Prop} {p1 p2 : Int32} (hn : n ≤ 7)
    (ht : ∀ a d s, a < n → d < n → p1 = nI a → p2 = nI d → (∀ i, i < 49 → s i = a1 i) → (∀ x y, x < n → y < n → s (49 + 7 * x + y) = a1 (7 * tg_sw a d x + tg_sw a d y)) → post 0 ((nI n), gx, gy, pn, be, hb, s, a2, a3, a4, a5, a6, a7, a8, a9, a10, a11, a12, a13, a14))
    (hf : ¬ (tg_P n p1 ∧ tg_P n p2) → post (-1) ((nI n), gx, gy, pn, be, hb, a1, a2, a3, a4, a5, a6, a7, a8, a9, a10, a11, a12, a13, a14)) : wpX_copySwapped post ((nI n), gx, gy, pn, be, hb, a1, a2, a3, a4, a5, a6, a7, a8, a9, a10, a11, a12, a13, a14) 1 p1 p2 := by
  unfold wpX_copySwapped
  refine tg_fits hn (by decide) (by decide) (fun ⟨a, ha, ea⟩ ⟨d, hd, ed⟩ => br_f (by decide) (nm_r (e' := 0) (by decide) ?_)) (fun h => br_t rfl (hf h))
  subst ea ed
  refine pk_loop (fun f i s => wX_copySwapped_23 post 1 (nI a) (nI d) 0 (nI n) gx gy pn be hb f (nI i) s a2 a3 a4 a5 a6 a7 a8 a9 a10 a11 a12 a13 a14) (fun i s => tg_cp n a d a1 s i 0) n 0 a1 (by omega) ⟨fun _ _ => rfl, fun x' y' _ z => absurd z (by omega)⟩ ?_ ?_
  · intro f s ⟨h1, h2⟩
    exact pk_le n n (fun _ => ht a d s ha hd rfl rfl h1 (fun x y hx hy => h2 x y hy (Or.inl hx))) (fun z => absurd z (by omega))
  · intro f i s hi h hw
    exact pk_le n i (fun z => absurd z (by omega)) (fun _ => tg_cs35 hn hi ha hd h (fun s' h' => hw s' h'))
theorem tg_aim {post : St2 → Prop} (H : post ((nI n), 0, 1, 0, be, hb, a1, a2, a3, a4, a5, a6, a7, a8, a9, a10, a11, a12, a13, a14)) : wpX_aim post ((nI n), gx, gy, pn, be, hb, a1, a2, a3, a4, a5, a6, a7, a8, a9, a10, a11, a12, a13, a14) 0 1 := H
theorem tg_pinw {post : St2 → Prop} {p : Nat} {x y : Int32} (hp : p < 7) (H : post ((nI n), 0, 1, (nI (p + 1)), be, hb, a1, (upd a2 p x), (upd a3 p y), a4, a5, a6, a7, a8, a9, a10, a11, a12, a13, a14)) : wpX_pin post ((nI n), 0, 1, (nI p), be, hb, a1, a2, a3, a4, a5, a6, a7, a8, a9, a10, a11, a12, a13, a14) x y :=
  ⟨pk_in p 7 hp, nm_r (e' := upd a2 p x) (by rw [nI_clamp (by omega)]) ⟨pk_in p 7 hp, nm_r (e' := upd a3 p y) (by rw [nI_clamp (by omega)]) (nm_r (nI_1 p) H)⟩⟩
theorem tg_canLay {post : Int32 → St2 → Prop} {a b u v c : Nat} (hn1 : 1 ≤ n) (hn : n ≤ 7) (ha : a < n) (hbn : b < n) (hu : u < n) (hv : v < n) (hab : a = b ↔ u = v) (hc : c < 4)
    (hX : ∀ x y, x < n → y < n → a1 (7 * x + y) = if (x = a ∧ y = b) ∨ (x = b ∧ y = a) then nI c else 0)
    (hY : ∀ x y, x < n → y < n → a1 (49 + 7 * x + y) = if (x = u ∧ y = v) ∨ (x = v ∧ y = u) then nI c else 0) (H : ∀ s, post 1 s) : wpX_canLay post ((nI n), gx, gy, pn, be, hb, a1, a2, a3, a4, a5, a6, a7, a8, a9, a10, a11, a12, a13, a14) (nI a) (nI u) (nI b) (nI v) := by
  have hC := tg_cells_of hn hab hX hY
  unfold wpX_canLay
  refine tg_isPoint hn (fun _ => br_f (by decide) (tg_isPoint hn (fun _ => br_f (by decide) (tg_isPoint hn (fun _ => br_f (by decide) (tg_isPoint hn (fun _ => br_f (by decide) ?_) (fun z => absurd ⟨v, hv, rfl⟩ z))) (fun z => absurd ⟨b, hbn, rfl⟩ z))) (fun z => absurd ⟨u, hu, rfl⟩ z))) (fun z => absurd ⟨a, ha, rfl⟩ z)
  refine pk_eq a b (fun e => pk_eq u v (fun e2 => br_t rfl (tg_aim (tg_pinw (p := 0) (by omega) (br_t (congrArg nI e) ?_)))) (fun z => absurd (hab.mp e) z)) (fun e => pk_eq u v (fun z => absurd (hab.mpr z) e) (fun e2 => br_t rfl (tg_aim (tg_pinw (p := 0) (by omega) (br_f (fun q => e ((nI_eq (by omega) (by omega)).mp q)) (tg_pinw (p := 1) (by omega) ?_))))))
  · subst e e2
    exact tg_exists1 hn1 hn ha hu hc hC pk_us pk_us (fun ⟨_, _, _, _, _, _, _, _, _, _, _, _, _, _, _, _, _, _, _, _⟩ => br_f (by decide) (H _))
  · exact tg_exists2 hn1 hn ha hbn hu hv e e2 hC (by rw [pk_un (by decide), pk_us]) (by rw [pk_un (by decide), pk_us]) pk_us pk_us (fun ⟨_, _, _, _, _, _, _, _, _, _, _, _, _, _, _, _, _, _, _, _⟩ => br_f (by decide) (H _))
theorem tg_laid {post : Int32 → St2 → Prop} (hn1 : 1 ≤ n) (hn : n ≤ 7) (hX : ∀ x y, x < n → y < n → a1 (7 * x + y) = 0) (hY : ∀ x y, x < n → y < n → a1 (49 + 7 * x + y) = 0) (H : ∀ s, post 0 s) : wpX_laid post ((nI n), gx, gy, pn, be, hb, a1, a2, a3, a4, a5, a6, a7, a8, a9, a10, a11, a12, a13, a14) 0 := by
  have hC : tg_cells n (tg_T 0 0 0 0) (tg_F 0 0 (nI 0)) a1 := tg_cells_of hn ⟨fun _ => rfl, fun _ => rfl⟩ (fun x y hx hy => by rw [hX x y hx hy]; split <;> rfl) (fun x y hx hy => by rw [hY x y hx hy]; split <;> rfl)
  unfold wpX_laid
  refine tg_isPoint hn (fun _ => br_f (by decide) (tg_aim ⟨2, br_f (by decide) (br_f (by decide) ⟨1, pk_le n 0 (fun z => absurd z (by omega)) (fun _ => ⟨1, br_t (by decide) (br_t rfl (tg_pinw (p := 0) (by omega) ?_))⟩)⟩)⟩)) (fun z => absurd ⟨0, hn1, rfl⟩ z)
  exact tg_exists1 (a := 0) (u := 0) (c := 0) hn1 hn hn1 hn1 (by omega) hC pk_us pk_us (fun ⟨_, _, _, _, _, _, _, _, _, _, _, _, _, _, _, _, _, _, _, _⟩ => br_f (by decide) (br_f (by decide) (nm_e (br_t (by decide) (H _)))))
end
section
variable {n : Nat} {x1 x2 x3 x4 : Int32} {post : Int32 → St0 → Prop} {mc ms kc ks : Nat} {a1 a2 a3 a4 a5 a7 a8 a9 a10 a11 a14 : Nat → Int32} {a6 a12 a13 : Nat → Int64}
theorem tg_nIj {j a : Nat} (hj : j < 7) (ha : a < 7) (e : nI a = nI j) : j = a := ((nI_eq (by omega) (by omega)).mp e).symm
theorem tg_E {a b x y : Nat} {c : Int32} (ha : a < 7) (hb : b < 7) (hx : x < 7) (hy : y < 7) : upd (upd (fun _ => 0) (7 * a + b) c) (7 * b + a) c (7 * x + y) = if (x = a ∧ y = b) ∨ (x = b ∧ y = a) then c else 0 := by
  show (if 7 * x + y = 7 * b + a then c else if 7 * x + y = 7 * a + b then c else 0) = _
  by_cases e1 : 7 * x + y = 7 * b + a
  · rw [if_pos e1, if_pos (by omega)]
  · rw [if_neg e1]
    by_cases e2 : 7 * x + y = 7 * a + b
    · rw [if_pos e2, if_pos (by omega)]
    · rw [if_neg e2, if_neg (by omega)]
theorem tg_E1 {a b j : Nat} {c : Int32} (ha : a < 7) (hb : b < 7) (hj : 49 ≤ j) : upd (upd (fun _ => 0) (7 * a + b) c) (7 * b + a) c j = 0 := by
  rw [pk_un (by omega), pk_un (by omega)]
theorem tg_swap {q : Int32 → Prop} {a d x : Nat} (ha : a < 7) (hd : d < 7) (hx : x < 7) (H : q (nI (tg_sw a d x))) : wpL_swap q () (nI x) (nI a) (nI d) := by
  refine pk_eq x a (fun z => ?_) (fun z => pk_eq x d (fun z2 => ?_) (fun z2 => ?_))
  · rw [tg_sw_a z] at H; exact H
  · rw [tg_sw_d z z2] at H; exact H
  · rw [tg_sw_n z z2] at H; exact H
theorem tg_swapG {q : Int32 → Prop} {p0 p1 p2 : Int32} (H : ∀ r, q r) : wpL_swap q () p0 p1 p2 := br_c (fun _ => H _) (fun _ => br_c (fun _ => H _) (fun _ => H _))
/-- all points given: the copy, and the laying of x upon it -/
theorem tg_l94a {a b d : Nat} (hn1 : 1 ≤ n) (hn : n ≤ 7) (ha : a < n) (hb : b < n) (hd : d < n) (H : post 1 ()) :
    wL_lawOf_94 post mc ms (nI a) (nI b) x3 (nI d) 1 1 kc ks (nI n) 0 0 0 0 0 (fun _ => 0) a2 a3 a4 a5 a6 a7 a8 a9 a10 a11 a12 a13 a14 := by
  obtain ⟨c, hc, ec⟩ := pk_andE x3 (m := 3) 2 (by decide)
  unfold wL_lawOf_94
  refine tg_paint hn (fun a' b' ha' hb' ea eb => ?_) (fun z => absurd ⟨⟨a, ha, rfl⟩, ⟨b, hb, rfl⟩⟩ z)
  rw [tg_nIj (by omega) (by omega) ea, tg_nIj (by omega) (by omega) eb, ec]
  refine br_f (by decide) (br_t rfl ?_)
  refine tg_copy hn (fun a' d' s ha' hd' ea ed h1 h2 => ?_) (fun z => absurd ⟨⟨a, ha, rfl⟩, ⟨d, hd, rfl⟩⟩ z)
  rw [tg_nIj (by omega) (by omega) ea, tg_nIj (by omega) (by omega) ed] at h2
  have sv := tg_sw_lt ha hd hb
  have hX : ∀ x y, x < n → y < n → s (7 * x + y) = if (x = a ∧ y = b) ∨ (x = b ∧ y = a) then nI c else 0 := by
    intro x y hx hy
    rw [h1 _ (by omega), tg_E (by omega) (by omega) (by omega) (by omega)]
  have hY : ∀ x y, x < n → y < n → s (49 + 7 * x + y) = if (x = d ∧ y = tg_sw a d b) ∨ (x = tg_sw a d b ∧ y = d) then nI c else 0 := by
    intro x y hx hy
    have l1 := tg_sw_lt ha hd hx
    have l2 := tg_sw_lt ha hd hy
    have e1 := tg_sw_e a d x
    have e2 := tg_sw_e a d y
    have e3 := tg_sw_e a d b
    rw [h2 x y hx hy, tg_E (by omega) (by omega) (by omega) (by omega)]
    by_cases z : (tg_sw a d x = a ∧ tg_sw a d y = b) ∨ (tg_sw a d x = b ∧ tg_sw a d y = a)
    · rw [if_pos z, if_pos (by omega)]
    · rw [if_neg z, if_neg (by omega)]
  refine br_f (by decide) (br_t rfl (br_t rfl (tg_swap (by omega) (by omega) (by omega) ?_)))
  refine tg_colour0 hn (fun a' b' ha' hb' ea eb => ?_) (fun z => absurd ⟨⟨a, ha, rfl⟩, ⟨b, hb, rfl⟩⟩ z)
  rw [tg_nIj (by omega) (by omega) ea, tg_nIj (by omega) (by omega) eb]
  refine br_f (by decide) (br_t ?_ (br_f (by decide) (br_f (by decide) ?_)))
  · rw [hX a b ha hb, if_pos (Or.inl ⟨rfl, rfl⟩), ec]
  · refine tg_colour1 hn (fun a' b' ha' hb' ea eb => br_t ?_ ?_) (fun z => absurd ⟨⟨d, hd, rfl⟩, ⟨tg_sw a d b, sv, rfl⟩⟩ z)
    · rw [tg_nIj (by omega) (by omega) ea, tg_nIj (by omega) (by omega) eb, hY d _ hd sv, if_pos (Or.inl ⟨rfl, rfl⟩), ec]
    · refine tg_canLay hn1 hn ha hb hd sv ?_ hc hX hY (fun ⟨_, _, _, _, _, _, _, _, _, _, _, _, _, _, _, _, _, _, _, _⟩ => br_t rfl H)
      have e3 := tg_sw_e a d b
      omega
/-- no point to copy with: the second graph stays empty -/
theorem tg_l94b {a b : Nat} (hn : n ≤ 7) (ha : a < n) (hb : b < n) (hd : ¬ tg_P n x4) (H : post 1 ()) :
    wL_lawOf_94 post mc ms (nI a) (nI b) x3 x4 1 0 kc ks (nI n) 0 0 0 0 0 (fun _ => 0) a2 a3 a4 a5 a6 a7 a8 a9 a10 a11 a12 a13 a14 := by
  unfold wL_lawOf_94
  refine tg_paint hn (fun a' b' ha' hb' ea eb => ?_) (fun z => absurd ⟨⟨a, ha, rfl⟩, ⟨b, hb, rfl⟩⟩ z)
  rw [tg_nIj (by omega) (by omega) ea, tg_nIj (by omega) (by omega) eb]
  refine br_f (by decide) (br_t rfl ?_)
  refine tg_copy hn (fun a' d' s ha' hd' ea ed h1 h2 => absurd ⟨d', hd', ed⟩ hd) (fun _ => ?_)
  refine br_t rfl (br_t rfl (br_t rfl (tg_swapG (fun r => ?_))))
  refine tg_colour0 hn (fun a' b' ha' hb' ea eb => ?_) (fun z => absurd ⟨⟨a, ha, rfl⟩, ⟨b, hb, rfl⟩⟩ z)
  rw [tg_nIj (by omega) (by omega) ea, tg_nIj (by omega) (by omega) eb]
  refine br_f (by decide) (br_t ?_ (br_f (by decide) (br_t rfl (br_f (by decide) ?_))))
  · rw [tg_E (by omega) (by omega) (by omega) (by omega), if_pos (Or.inl ⟨rfl, rfl⟩)]
  · refine tg_colour1 hn (fun a' b' ha' hb' ea eb => br_t (tg_E1 (by omega) (by omega) (by omega)) ?_) (fun z => absurd ⟨⟨a, ha, rfl⟩, ⟨b, hb, rfl⟩⟩ z)
    refine tg_paint hn (fun a' b' ha' hb' ea eb => br_t ?_ H) (fun z => absurd ⟨⟨b, hb, rfl⟩, ⟨a, ha, rfl⟩⟩ z)
    rw [tg_nIj (by omega) (by omega) ea, tg_nIj (by omega) (by omega) eb, pk_us]
/-- a flag of the law -/
def tg_fl (b : Int32) (p : Prop) : Prop := (b = 1 ∧ p) ∨ (b = 0 ∧ ¬ p)
/-- nothing painted: two empty graphs -/
theorem tg_l94c {od : Int32} (hn1 : 1 ≤ n) (hn : n ≤ 7) (hab : ¬ (tg_P n x1 ∧ tg_P n x2)) (ho : tg_fl od (tg_P n x1 ∧ tg_P n x4)) (H : post 1 ()) :
    wL_lawOf_94 post mc ms x1 x2 x3 x4 0 od kc ks (nI n) 0 0 0 0 0 (fun _ => 0) a2 a3 a4 a5 a6 a7 a8 a9 a10 a11 a12 a13 a14 := by
  have tail : ∀ s : Nat → Int32, (∀ x y, x < n → y < n → s (7 * x + y) = 0) → (∀ x y, x < n → y < n → s (49 + 7 * x + y) = 0) → ∀ z : Int32, wL_lawOf_139 post mc ms x1 x2 x3 x4 0 od z z kc ks (nI n) 0 0 0 0 0 s a2 a3 a4 a5 a6 a7 a8 a9 a10 a11 a12 a13 a14 := by
    intro s hX hY z
    refine br_t rfl (br_t rfl (tg_swapG (fun r => ?_)))
    refine tg_colour0 hn (fun a b ha hb ea eb => absurd ⟨⟨a, ha, ea⟩, ⟨b, hb, eb⟩⟩ hab) (fun _ => ?_)
    refine br_t rfl (br_t rfl (br_t rfl (br_t rfl ?_)))
    refine tg_colour1 hn (fun a' b' ha' hb' _ _ => br_t (hY a' b' ha' hb') ?_) (fun z => absurd ⟨⟨0, hn1, rfl⟩, ⟨0, hn1, rfl⟩⟩ z)
    exact tg_laid hn1 hn hX hY (fun ⟨_, _, _, _, _, _, _, _, _, _, _, _, _, _, _, _, _, _, _, _⟩ => br_t rfl H)
  unfold wL_lawOf_94
  refine tg_paint hn (fun a b ha hb ea eb => absurd ⟨⟨a, ha, ea⟩, ⟨b, hb, eb⟩⟩ hab) (fun _ => ?_)
  refine br_t rfl (br_t rfl ?_)
  refine tg_copy hn (fun a' d' s ha' hd' ea ed h1 h2 => ?_) (fun hnd => ?_)
  · rcases ho with ⟨e, _⟩ | ⟨_, z⟩
    · subst e
      exact br_f (by decide) (tail s (fun x y hx hy => h1 _ (by omega)) (fun x y hx hy => h2 x y hx hy) 0)
    · exact absurd ⟨⟨a', ha', ea⟩, ⟨d', hd', ed⟩⟩ z
  · rcases ho with ⟨_, z⟩ | ⟨e, _⟩
    · exact absurd z hnd
    · subst e
      exact br_t rfl (tail (fun _ => 0) (fun _ _ _ _ => rfl) (fun _ _ _ _ => rfl) (-1))
theorem tg_l94 {ok od : Int32} (hn1 : 1 ≤ n) (hn : n ≤ 7) (hk : tg_fl ok (tg_P n x1 ∧ tg_P n x2)) (ho : tg_fl od (tg_P n x1 ∧ tg_P n x4)) (H : post 1 ()) :
    wL_lawOf_94 post mc ms x1 x2 x3 x4 ok od kc ks (nI n) 0 0 0 0 0 (fun _ => 0) a2 a3 a4 a5 a6 a7 a8 a9 a10 a11 a12 a13 a14 := by
  rcases hk with ⟨e, ⟨a, ha, ea⟩, ⟨b, hb, eb⟩⟩ | ⟨e, z⟩
  · subst e ea eb
    rcases ho with ⟨e, _, ⟨d, hd, ed⟩⟩ | ⟨e, z⟩
    · subst e ed
      exact tg_l94a hn1 hn ha hb hd H
    · subst e
      exact tg_l94b hn ha hb (fun q => z ⟨⟨a, ha, rfl⟩, q⟩) H
  · subst e
    exact tg_l94c hn1 hn z ho H
theorem tg_l70 {pa ok : Int32} (hn1 : 1 ≤ n) (hn : n ≤ 7) (hp : tg_fl pa (tg_P n x1)) (hk : tg_fl ok (tg_P n x1 ∧ tg_P n x2)) (H : post 1 ()) :
    wL_lawOf_70 post mc ms x1 x2 x3 x4 (nI n) pa ok kc ks (nI n) 0 0 0 0 0 (fun _ => 0) a2 a3 a4 a5 a6 a7 a8 a9 a10 a11 a12 a13 a14 := by
  rcases hp with ⟨e, p⟩ | ⟨e, p⟩
  · subst e
    exact br_f (by decide) (tg_pc hn (fun q => tg_l94 hn1 hn hk (Or.inl ⟨rfl, p, q⟩) H) (fun q => tg_l94 hn1 hn hk (Or.inr ⟨rfl, fun z => q z.2⟩) H))
  · subst e
    exact br_t rfl (tg_l94 hn1 hn hk (Or.inr ⟨rfl, fun z => p z.1⟩) H)
theorem tg_l48 {pa : Int32} (hn1 : 1 ≤ n) (hn : n ≤ 7) (hp : tg_fl pa (tg_P n x1)) (H : post 1 ()) :
    wL_lawOf_48 post mc ms x1 x2 x3 x4 (nI n) pa kc ks (nI n) 0 0 0 0 0 (fun _ => 0) a2 a3 a4 a5 a6 a7 a8 a9 a10 a11 a12 a13 a14 := by
  rcases hp with ⟨e, p⟩ | ⟨e, p⟩
  · subst e
    exact br_f (by decide) (tg_pc hn (fun q => tg_l70 hn1 hn (Or.inl ⟨rfl, p⟩) (Or.inl ⟨rfl, p, q⟩) H) (fun q => tg_l70 hn1 hn (Or.inl ⟨rfl, p⟩) (Or.inr ⟨rfl, fun z => q z.2⟩) H))
  · subst e
    exact br_t rfl (tg_l70 hn1 hn (Or.inr ⟨rfl, p⟩) (Or.inr ⟨rfl, fun z => p z.1⟩) H)
theorem tg_i26 {q : St2 → Prop} {mc ms : Nat} {z0 : Int32} (h1 : 14 ≤ mc) (h2 : 332 ≤ ms) (H : q (z0, 0, 0, 0, 0, 0, (fun _ => 0), (fun _ => 0), (fun _ => 0), (fun _ => 0), (fun _ => 0), (fun _ => 0), (fun _ => 0), (fun _ => 0), (fun _ => 0), (fun _ => 0), (fun _ => 0), (fun _ => 0), (fun _ => 0), (fun _ => 0))) : wX_init_26 q mc ms z0 0 0 0 0 0 0 0 0 :=
  ⟨by omega, by omega, by omega, by omega, by omega, by omega, by omega, by omega, by omega, by omega, by omega, by omega, by omega, by omega, by omega, by omega, by omega, by omega, by omega, by omega, by omega, by omega, by omega, by omega, by omega, by omega, by omega, by omega, H⟩
theorem tg_l21 {x0 : Int32} (hn1 : 1 ≤ n) (hn : n ≤ 7) (h0 : ∀ q : St2 → Prop, wX_init_26 q 14 332 (nI n) 0 0 0 0 0 0 0 0 → wpX_init q 14 332 (0, 0, 0, 0, 0, 0) x0) (H : post 1 ()) :
    wL_lawOf_21 post 15 352 x0 x1 x2 x3 x4 (nI n) 0 0 := by
  refine ⟨by omega, by omega, 14, 332, by omega, by omega, h0 _ (tg_i26 (by omega) (by omega) ?_)⟩
  exact tg_pc hn (fun q => tg_l48 hn1 hn (Or.inl ⟨rfl, q⟩) H) (fun q => tg_l48 hn1 hn (Or.inr ⟨rfl, q⟩) H)
theorem tg_lawOf {x0 : Int32} (H : post 1 ()) : wpL_lawOf post 15 352 () x0 x1 x2 x3 x4 := by
  by_cases h1 : 1 ≤ x0
  · refine br_t h1 ?_
    by_cases h2 : x0 ≤ 7
    · refine br_t h2 ?_
      obtain ⟨n, hn, e⟩ := nI_of2 (x := x0) (M := 7) (n := 7) (by decide) (by
        intro z
        rw [Int32.lt_iff_toInt_lt] at z
        rw [Int32.le_iff_toInt_le] at h1
        have e0 : (0 : Int32).toInt = 0 := by decide
        have e1 : (1 : Int32).toInt = 1 := by decide
        omega) h2
      have hn1 : 1 ≤ n := by
        rcases Nat.eq_zero_or_pos n with z | z
        · rw [z] at e
          rw [e] at h1
          exact absurd h1 (by decide)
        · exact z
      subst e
      exact tg_l21 hn1 hn (fun q h => br_t h1 (br_t h2 h)) H
    · refine br_f h2 ?_
      exact tg_l21 (n := 7) (by omega) (by omega) (fun q h => br_t h1 (br_f h2 h)) H
  · refine br_f h1 ?_
    exact tg_l21 (n := 1) (by omega) (by omega) (fun q h => br_f h1 h) H
theorem tg_cellAt {q : Int32 → Prop} {L : Nat} {xs : Nat → Int32} {i : Nat} {x : Int32} (hL : L ≤ 5) (hi : i < 5) (ei : x = nI i) (H : ∀ r, q r) : wpL_cellAt q L xs () x :=
  pk_le L i (fun _ => H _) (fun z => ⟨pk_in i L z ei, H _⟩) rfl ei
theorem i_vc (xs : Nat → Int32) (L : Nat) (hL : L ≤ 5) : wpL_law (fun r => r = 1) L xs := by
  unfold wpL_law
  refine tg_cellAt (i := 0) hL (by omega) rfl (fun r1 => tg_cellAt (i := 1) hL (by omega) rfl (fun r2 => tg_cellAt (i := 2) hL (by omega) rfl (fun r3 => tg_cellAt (i := 3) hL (by omega) rfl (fun r4 => tg_cellAt (i := 4) hL (by omega) rfl (fun r5 => ⟨15, 352, by omega, by omega, tg_lawOf rfl⟩)))))
end
