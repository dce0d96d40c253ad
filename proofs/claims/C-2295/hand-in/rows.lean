section
theorem pk_us {f : Nat → Int32} {k : Nat} {x : Int32} : upd f k x k = x := if_pos rfl
theorem pk_un {f : Nat → Int32} {k j : Nat} {x : Int32} (h : j ≠ k) : upd f k x j = f j := if_neg h
theorem pk_sub {a b : Nat} (h : b ≤ a) : nI a - nI b = nI (a - b) := by
  obtain ⟨c, rfl⟩ : ∃ c, a = c + b := ⟨a - b, by omega⟩
  rw [← nI_add, Int32.add_sub_cancel, Nat.add_sub_cancel]
theorem pk_mul (a b : Nat) : nI a * nI b = nI (a * b) := (Int32.ofNat_mul a b).symm
theorem pk_div {a d : Nat} (ha : a < 2 ^ 31) (h0 : 0 < d) (hd : d < 2 ^ 31) : nI a / nI d = nI (a / d) := by
  apply Int32.toInt_inj.mp
  rw [lg_idiv_nonneg (by rw [nI_toInt ha]; omega) (by rw [nI_toInt hd]; omega), nI_toInt ha, nI_toInt hd, nI_toInt (Nat.lt_of_le_of_lt (Nat.div_le_self a d) ha)]
  first | rfl | exact (Int.natCast_ediv _ _).symm
theorem pk_ix (x : Int32) {n : Nat} (hn : n < 2 ^ 31) : x < 0 ∨ nI n ≤ x ∨ ∃ j : Nat, j < n ∧ x = nI j := by
  by_cases h : x < 0
  · exact Or.inl h
  · obtain ⟨j, hj, rfl⟩ := nI_of h
    by_cases h2 : j < n
    · exact Or.inr (Or.inr ⟨j, h2, rfl⟩)
    · exact Or.inr (Or.inl (nI_le (by omega) hj))
theorem pk_le {x y : Int32} {A B : Prop} (a b : Nat) (f : a ≤ b → A) (g : b < a → B) (hx : x = nI a := by rfl) (hy : y = nI b := by rfl) (ha : a < 2 ^ 31 := by omega) (hb : b < 2 ^ 31 := by omega) : (x ≤ y → A) ∧ (¬ x ≤ y → B) := by
  subst hx hy
  rw [nI_leI ha hb]
  exact ⟨f, fun z => g (by omega)⟩
theorem pk_lt {x y : Int32} {A B : Prop} (a b : Nat) (f : a < b → A) (g : b ≤ a → B) (hx : x = nI a := by rfl) (hy : y = nI b := by rfl) (ha : a < 2 ^ 31 := by omega) (hb : b < 2 ^ 31 := by omega) : (x < y → A) ∧ (¬ x < y → B) := by
  subst hx hy
  rw [nI_ltI ha hb]
  exact ⟨f, fun z => g (by omega)⟩
theorem pk_eq {x y : Int32} {A B : Prop} (a b : Nat) (f : a = b → A) (g : a ≠ b → B) (hx : x = nI a := by rfl) (hy : y = nI b := by rfl) (ha : a < 2 ^ 31 := by omega) (hb : b < 2 ^ 31 := by omega) : (x = y → A) ∧ (¬ x = y → B) := by
  subst hx hy
  rw [nI_eq ha hb]
  exact ⟨f, g⟩
theorem pk_in {x : Int32} (n N : Nat) (h : n < N) (hx : x = nI n := by rfl) (hN : N < 2 ^ 31 := by omega) : vp_in x N := by
  subst hx
  exact vp_in_nI h hN
theorem pk_cl {x : Int32} (n : Nat) (hx : x = nI n := by rfl) (h : n < 2 ^ 31 := by omega) : x.toNatClampNeg = n := by
  subst hx
  exact nI_clamp h
end
section
/-! counting below n -/
def ri_ct (P : Nat → Bool) : Nat → Nat
  | 0 => 0
  | n + 1 => ri_ct P n + (if P n = true then 1 else 0)
theorem ri_ct_congr {P Q : Nat → Bool} : ∀ n : Nat, (∀ q, q < n → P q = Q q) → ri_ct P n = ri_ct Q n := by
  intro n
  induction n with
  | zero => intro _; rfl
  | succ n ih =>
    intro h
    show ri_ct P n + (if P n = true then 1 else 0) = ri_ct Q n + (if Q n = true then 1 else 0)
    rw [ih (fun q hq => h q (by omega)), h n (by omega)]
theorem ri_ct_one {P Q : Nat → Bool} {p : Nat} : ∀ n : Nat, p < n → (∀ q, q < n → q ≠ p → P q = Q q) →
    ri_ct P n + (if Q p = true then 1 else 0) = ri_ct Q n + (if P p = true then 1 else 0) := by
  intro n
  induction n with
  | zero => intro h; exact absurd h (Nat.not_lt_zero _)
  | succ n ih =>
    intro hp h
    show ri_ct P n + (if P n = true then 1 else 0) + _ = ri_ct Q n + (if Q n = true then 1 else 0) + _
    by_cases e : p = n
    · subst e
      rw [ri_ct_congr (P := P) (Q := Q) p (fun q hq => h q (by omega) (by omega))]
      generalize (if P p = true then 1 else 0) = a
      generalize (if Q p = true then 1 else 0) = b
      omega
    · have z := ih (by omega) (fun q hq hn => h q (by omega) hn)
      rw [h n (by omega) (fun z => e z.symm)]
      generalize (if P p = true then 1 else 0) = a at z ⊢
      generalize (if Q p = true then 1 else 0) = b at z ⊢
      generalize (if Q n = true then 1 else 0) = d at z ⊢
      omega
theorem ri_ct_le {P : Nat → Bool} : ∀ n : Nat, ri_ct P n ≤ n := by
  intro n
  induction n with
  | zero => exact Nat.le_refl _
  | succ n ih =>
    show ri_ct P n + (if P n = true then 1 else 0) ≤ n + 1
    by_cases h : P n = true
    · rw [if_pos h]; omega
    · rw [if_neg h]; omega
theorem ri_ct_pos {P : Nat → Bool} {p : Nat} : ∀ n : Nat, p < n → P p = true → 0 < ri_ct P n := by
  intro n
  induction n with
  | zero => intro h; exact absurd h (Nat.not_lt_zero _)
  | succ n ih =>
    intro hp h
    show 0 < ri_ct P n + (if P n = true then 1 else 0)
    by_cases e : p = n
    · subst e
      rw [if_pos h]; omega
    · have z := ih (by omega) h
      omega
theorem ri_ct_ex {P : Nat → Bool} : ∀ n : Nat, 0 < ri_ct P n → ∃ p, p < n ∧ P p = true := by
  intro n
  induction n with
  | zero => intro h; exact absurd h (Nat.lt_irrefl _)
  | succ n ih =>
    intro h
    have h' : 0 < ri_ct P n + (if P n = true then 1 else 0) := h
    by_cases e : P n = true
    · exact ⟨n, by omega, e⟩
    · rw [if_neg e] at h'
      obtain ⟨p, hp, z⟩ := ih (by omega)
      exact ⟨p, by omega, z⟩
theorem ri_ct_less {P : Nat → Bool} {p n : Nat} (hp : p < n) (h : P p = true) :
    ∃ Q : Nat → Bool, (∀ j, j ≠ p → Q j = P j) ∧ Q p = false ∧ ri_ct P n = ri_ct Q n + 1 := by
  obtain ⟨Q, hQ⟩ : ∃ Q : Nat → Bool, Q = fun j => if j = p then false else P j := ⟨_, rfl⟩
  have h1 : Q p = false := by rw [hQ]; exact if_pos rfl
  have h2 : ∀ j, j ≠ p → Q j = P j := fun j hj => by rw [hQ]; exact if_neg hj
  have e := ri_ct_one (P := P) (Q := Q) n hp (fun j _ hj => (h2 j hj).symm)
  rw [if_pos h, if_neg (by rw [h1]; decide)] at e
  exact ⟨Q, h2, h1, by omega⟩
theorem ri_ct_two {P : Nat → Bool} {p q n : Nat} (hp : p < n) (hq : q < n) (hne : q ≠ p) (h1 : P p = true) (h2 : P q = true) : 2 ≤ ri_ct P n := by
  obtain ⟨Q, a, b, e⟩ := ri_ct_less hp h1
  have z := ri_ct_pos (P := Q) n hq ((a q hne).trans h2)
  omega
theorem ri_ct_lt {P : Nat → Bool} {p n : Nat} (hp : p < n) (h : P p = false) : ri_ct P n < n := by
  obtain ⟨Q, hQ⟩ : ∃ Q : Nat → Bool, Q = fun j => if j = p then true else P j := ⟨_, rfl⟩
  have h1 : Q p = true := by rw [hQ]; exact if_pos rfl
  have h2 : ∀ j, j ≠ p → Q j = P j := fun j hj => by rw [hQ]; exact if_neg hj
  have e := ri_ct_one (P := P) (Q := Q) n hp (fun j _ hj => (h2 j hj).symm)
  rw [if_pos h1, if_neg (by rw [h]; decide)] at e
  have z := ri_ct_le (P := Q) n
  omega
/-- two places exchanged -/
def ri_sw (a b q : Nat) : Nat := if q = b then a else if q = a then b else q
theorem ri_sw_lt {a b q n : Nat} (ha : a < n) (hb : b < n) (hq : q < n) : ri_sw a b q < n := by
  unfold ri_sw
  by_cases h : q = b
  · rw [if_pos h]; exact ha
  · rw [if_neg h]
    by_cases h' : q = a
    · rw [if_pos h']; exact hb
    · rw [if_neg h']; exact hq
theorem ri_sw_b {a b : Nat} : ri_sw a b b = a := if_pos rfl
theorem ri_sw_a {a b : Nat} : ri_sw a b a = b := by
  unfold ri_sw
  by_cases h : a = b
  · rw [if_pos h]; exact h
  · rw [if_neg h, if_pos rfl]
theorem ri_sw_n {a b q : Nat} (h1 : q ≠ a) (h2 : q ≠ b) : ri_sw a b q = q := by
  unfold ri_sw
  rw [if_neg h2, if_neg h1]
theorem ri_sw_sw (a b q : Nat) : ri_sw a b (ri_sw a b q) = q := by
  by_cases h : q = b
  · rw [h, ri_sw_b, ri_sw_a]
  · by_cases h' : q = a
    · rw [h', ri_sw_a, ri_sw_b]
    · rw [ri_sw_n h' h, ri_sw_n h' h]
theorem ri_ct_sw {P Q : Nat → Bool} {a b n : Nat} (ha : a < n) (hb : b < n) (h : ∀ q, Q q = P (ri_sw a b q)) : ri_ct Q n = ri_ct P n := by
  by_cases e : a = b
  · refine ri_ct_congr n (fun q _ => ?_)
    rw [h]
    by_cases z : q = b
    · rw [z, ri_sw_b, e]
    · rw [ri_sw_n (by omega) z]
  · obtain ⟨M, hM⟩ : ∃ M : Nat → Bool, M = fun j => if j = a then P b else P j := ⟨_, rfl⟩
    have m1 : M a = P b := by rw [hM]; exact if_pos rfl
    have m2 : ∀ j, j ≠ a → M j = P j := fun j hj => by rw [hM]; exact if_neg hj
    have e1 := ri_ct_one (P := M) (Q := P) n ha (fun j _ hj => m2 j hj)
    have e2 := ri_ct_one (P := Q) (Q := M) n hb (fun j _ hj => by
      by_cases z : j = a
      · rw [h, z, ri_sw_a, m1]
      · rw [h, ri_sw_n z hj, m2 j z])
    rw [m1] at e1
    rw [m2 b (fun z => e z.symm), h b, ri_sw_b] at e2
    generalize (if P a = true then 1 else 0) = x at e1 e2
    generalize (if P b = true then 1 else 0) = y at e1 e2
    omega
end
section
/-! slots of a table (records, places aside): the pages of form k hold different used slots, and a used slot is held -/
def ri_T (k : Int32) (fm wh us : Nat → Int32) : Prop :=
  (∀ p, p < 24 → fm p = k → ∃ x, x < 24 ∧ wh p = nI x ∧ ¬ us x = 0) ∧
  (∀ p q, p < 24 → q < 24 → fm p = k → fm q = k → wh p = wh q → p = q) ∧
  (∀ x, x < 24 → ¬ us x = 0 → ∃ p, p < 24 ∧ fm p = k ∧ wh p = nI x)
theorem ri_nI {x y : Nat} (hx : x < 24) (hy : y < 24) (h : nI x = nI y) : x = y := (nI_eq (by omega) (by omega)).mp h
theorem ri_T_keep {k : Int32} {fm wh us fm' wh' : Nat → Int32} {p : Nat} (h : ri_T k fm wh us) (h1 : ¬ fm p = k) (h2 : ¬ fm' p = k)
    (hk : ∀ q, q ≠ p → fm' q = fm q ∧ wh' q = wh q) : ri_T k fm' wh' us := by
  obtain ⟨a, b, d⟩ := h
  have np : ∀ q, fm' q = k → q ≠ p := fun q e z => h2 (z ▸ e)
  refine ⟨fun q hq e => ?_, fun q r hq hr eq er ew => ?_, fun x hx hu => ?_⟩
  · have z := hk q (np q e)
    rw [z.1] at e
    rw [z.2]
    exact a q hq e
  · have z := hk q (np q eq)
    have y := hk r (np r er)
    rw [z.1] at eq
    rw [y.1] at er
    rw [z.2, y.2] at ew
    exact b q r hq hr eq er ew
  · obtain ⟨q, hq, e, w⟩ := d x hx hu
    have n : q ≠ p := fun z => h1 (z ▸ e)
    exact ⟨q, hq, (hk q n).1.trans e, (hk q n).2.trans w⟩
theorem ri_T_drop {k : Int32} {fm wh us fm' wh' : Nat → Int32} {p x : Nat} (h : ri_T k fm wh us) (hp : p < 24) (hx : x < 24) (h1 : fm p = k) (hw : wh p = nI x) (h2 : ¬ fm' p = k)
    (hk : ∀ q, q ≠ p → fm' q = fm q ∧ wh' q = wh q) : ri_T k fm' wh' (upd us x 0) := by
  obtain ⟨a, b, d⟩ := h
  have np : ∀ q, fm' q = k → q ≠ p := fun q e z => h2 (z ▸ e)
  refine ⟨fun q hq e => ?_, fun q r hq hr eq er ew => ?_, fun y hy hu => ?_⟩
  · have n := np q e
    have z := hk q n
    rw [z.1] at e
    rw [z.2]
    obtain ⟨y, hy, ey, uy⟩ := a q hq e
    have ne : y ≠ x := fun t => n (b q p hq hp e h1 (by rw [ey, hw, t]))
    exact ⟨y, hy, ey, by rw [pk_un ne]; exact uy⟩
  · have z := hk q (np q eq)
    have y := hk r (np r er)
    rw [z.1] at eq
    rw [y.1] at er
    rw [z.2, y.2] at ew
    exact b q r hq hr eq er ew
  · have ne : y ≠ x := fun t => hu (by rw [t]; exact pk_us)
    rw [pk_un ne] at hu
    obtain ⟨q, hq, e, w⟩ := d y hy hu
    have n : q ≠ p := fun z => ne (ri_nI hy hx (by rw [← w, ← hw, z]))
    exact ⟨q, hq, (hk q n).1.trans e, (hk q n).2.trans w⟩
theorem ri_T_add {k v : Int32} {fm wh us fm' wh' : Nat → Int32} {p x : Nat} (h : ri_T k fm wh us) (hp : p < 24) (hx : x < 24) (h1 : ¬ fm p = k) (hu : us x = 0) (h2 : fm' p = k) (hw : wh' p = nI x)
    (hk : ∀ q, q ≠ p → fm' q = fm q ∧ wh' q = wh q) (hv : ¬ v = 0) : ri_T k fm' wh' (upd us x v) := by
  obtain ⟨a, b, d⟩ := h
  have old : ∀ q, q < 24 → q ≠ p → fm' q = k → ∃ y, y < 24 ∧ wh' q = nI y ∧ ¬ us y = 0 ∧ y ≠ x := by
    intro q hq n e
    have z := hk q n
    rw [z.1] at e
    rw [z.2]
    obtain ⟨y, hy, ey, uy⟩ := a q hq e
    exact ⟨y, hy, ey, uy, fun t => uy (by rw [t]; exact hu)⟩
  refine ⟨fun q hq e => ?_, fun q r hq hr eq er ew => ?_, fun y hy hy0 => ?_⟩
  · by_cases n : q = p
    · rw [n]
      exact ⟨x, hx, hw, by rw [pk_us]; exact hv⟩
    · obtain ⟨y, hy, ey, uy, ne⟩ := old q hq n e
      exact ⟨y, hy, ey, by rw [pk_un ne]; exact uy⟩
  · by_cases n : q = p
    · by_cases m : r = p
      · rw [n, m]
      · obtain ⟨y, hy, ey, uy, ne⟩ := old r hr m er
        rw [n, hw, ey] at ew
        exact absurd (ri_nI hx hy ew).symm ne
    · by_cases m : r = p
      · obtain ⟨y, hy, ey, uy, ne⟩ := old q hq n eq
        rw [m, hw, ey] at ew
        exact absurd (ri_nI hy hx ew) ne
      · have z := hk q n
        have y := hk r m
        rw [z.1] at eq
        rw [y.1] at er
        rw [z.2, y.2] at ew
        exact b q r hq hr eq er ew
  · by_cases ne : y = x
    · exact ⟨p, hp, h2, by rw [ne]; exact hw⟩
    · rw [pk_un ne] at hy0
      obtain ⟨q, hq, e, w⟩ := d y hy hy0
      have n : q ≠ p := fun z => h1 (z ▸ e)
      exact ⟨q, hq, (hk q n).1.trans e, (hk q n).2.trans w⟩
theorem ri_T_sw {k : Int32} {fm wh us fm' wh' : Nat → Int32} {a b : Nat} (h : ri_T k fm wh us) (ha : a < 24) (hb : b < 24)
    (h1 : ∀ q, fm' q = fm (ri_sw a b q)) (h2 : ∀ q, wh' q = wh (ri_sw a b q)) : ri_T k fm' wh' us := by
  obtain ⟨s, t, d⟩ := h
  refine ⟨fun q hq e => ?_, fun q r hq hr eq er ew => ?_, fun y hy hy0 => ?_⟩
  · rw [h1] at e
    rw [h2]
    exact s _ (ri_sw_lt ha hb hq) e
  · rw [h1] at eq er
    rw [h2, h2] at ew
    have z := t _ _ (ri_sw_lt ha hb hq) (ri_sw_lt ha hb hr) eq er ew
    rw [← ri_sw_sw a b q, z, ri_sw_sw]
  · obtain ⟨q, hq, e, w⟩ := d y hy hy0
    exact ⟨ri_sw a b q, ri_sw_lt ha hb hq, by rw [h1, ri_sw_sw]; exact e, by rw [h2, ri_sw_sw]; exact w⟩
/-- a page that isn't of form k leaves a slot free -/
theorem ri_T_free {k : Int32} {fm wh us : Nat → Int32} {p : Nat} (h : ri_T k fm wh us) (hp : p < 24) (h1 : ¬ fm p = k)
    (hall : ∀ x, x < 23 → ¬ us x = 0) : us 23 = 0 := by
  obtain ⟨a, b, d⟩ := h
  apply Classical.byContradiction
  intro h23
  have hu : ∀ x, x < 24 → ¬ us x = 0 := by
    intro x hx
    by_cases e : x = 23
    · rw [e]; exact h23
    · exact hall x (by omega)
  obtain ⟨B, hB⟩ : ∃ B : Nat → Nat → Bool, B = fun n q => decide (fm q = k ∧ (wh q).toNatClampNeg < n) := ⟨_, rfl⟩
  have hB' : ∀ n q, B n q = true ↔ (fm q = k ∧ (wh q).toNatClampNeg < n) := by
    intro n q
    rw [hB]
    exact decide_eq_true_iff
  have hcl : ∀ q, q < 24 → fm q = k → ∃ y, y < 24 ∧ wh q = nI y ∧ (wh q).toNatClampNeg = y := by
    intro q hq e
    obtain ⟨y, hy, ey, _⟩ := a q hq e
    exact ⟨y, hy, ey, by rw [ey]; exact nI_clamp (by omega)⟩
  have key : ∀ n, n ≤ 24 → ri_ct (B n) 24 = n := by
    intro n
    induction n with
    | zero =>
      intro _
      apply Nat.eq_zero_of_not_pos
      intro z
      obtain ⟨q, hq, e⟩ := ri_ct_ex 24 z
      have := ((hB' 0 q).mp e).2
      omega
    | succ n ih =>
      intro hn
      obtain ⟨s, hs, es, ws⟩ := d n (by omega) (hu n (by omega))
      have cs : (wh s).toNatClampNeg = n := by rw [ws]; exact nI_clamp (by omega)
      have e := ri_ct_one (P := B (n + 1)) (Q := B n) 24 hs (fun q hq ne => by
        apply Bool.eq_iff_iff.mpr
        rw [hB', hB']
        constructor
        · rintro ⟨e1, e2⟩
          obtain ⟨y, hy, ey, cy⟩ := hcl q hq e1
          refine ⟨e1, ?_⟩
          rw [cy] at e2 ⊢
          have : y ≠ n := fun t => ne (b q s hq hs e1 es (by rw [ey, ws, t]))
          omega
        · rintro ⟨e1, e2⟩
          exact ⟨e1, by omega⟩)
      have t1 : B (n + 1) s = true := (hB' _ _).mpr ⟨es, by omega⟩
      have t2 : ¬ B n s = true := fun z => by
        have := ((hB' _ _).mp z).2
        omega
      rw [if_pos t1, if_neg t2, ih (by omega)] at e
      omega
  have z := key 24 (Nat.le_refl _)
  have t : B 24 p = false := by
    apply Bool.eq_false_iff.mpr
    intro t
    exact h1 ((hB' _ _).mp t).1
  have := ri_ct_lt (n := 24) hp t
  omega
/-! holders of a frame -/
def ri_hb (fm wh : Nat → Int32) (x : Nat) : Nat → Bool := fun p => decide (fm p = 1 ∧ wh p = nI x)
def ri_h (fm wh : Nat → Int32) (x : Nat) : Nat := ri_ct (ri_hb fm wh x) 24
theorem ri_hb_iff {fm wh : Nat → Int32} {x p : Nat} : ri_hb fm wh x p = true ↔ (fm p = 1 ∧ wh p = nI x) := decide_eq_true_iff
theorem ri_h_chg {fm wh fm' wh' : Nat → Int32} {p : Nat} (hp : p < 24) (hk : ∀ q, q ≠ p → fm' q = fm q ∧ wh' q = wh q) (y : Nat) :
    ri_h fm' wh' y + (if fm p = 1 ∧ wh p = nI y then 1 else 0) = ri_h fm wh y + (if fm' p = 1 ∧ wh' p = nI y then 1 else 0) := by
  have e := ri_ct_one (P := ri_hb fm' wh' y) (Q := ri_hb fm wh y) 24 hp (fun q _ ne => by
    unfold ri_hb
    rw [(hk q ne).1, (hk q ne).2])
  simp only [ri_hb_iff] at e
  exact e
theorem ri_h_lt {fm wh : Nat → Int32} (x : Nat) : ri_h fm wh x < 25 := by
  have := ri_ct_le (P := ri_hb fm wh x) 24
  exact Nat.lt_succ_of_le this
theorem ri_h_ex {fm wh : Nat → Int32} {x : Nat} (h : 0 < ri_h fm wh x) : ∃ p, p < 24 ∧ fm p = 1 ∧ wh p = nI x := by
  obtain ⟨p, hp, e⟩ := ri_ct_ex 24 h
  exact ⟨p, hp, ri_hb_iff.mp e⟩
theorem ri_h_pos {fm wh : Nat → Int32} {x p : Nat} (hp : p < 24) (h1 : fm p = 1) (h2 : wh p = nI x) : 0 < ri_h fm wh x :=
  ri_ct_pos 24 hp (ri_hb_iff.mpr ⟨h1, h2⟩)
theorem ri_h_one {fm wh : Nat → Int32} {x p q : Nat} (h : ri_h fm wh x = 1) (hp : p < 24) (h1 : fm p = 1) (h2 : wh p = nI x) (hq : q < 24) (h3 : fm q = 1) (h4 : wh q = nI x) : q = p := by
  apply Classical.byContradiction
  intro ne
  have := ri_ct_two hp hq ne (ri_hb_iff.mpr ⟨h1, h2⟩) (ri_hb_iff.mpr ⟨h3, h4⟩)
  have e : ri_ct (ri_hb fm wh x) 24 = 1 := h
  omega
end
section
/-! the invariant: c p w is word w of page p, g p = 1 if it is released -/
def ri_P (F : Nat) (c : Nat → Nat → Int32) (g fm wh me rl fv sv ad : Nat → Int32) (p : Nat) : Prop :=
  (fm p = 0 ∧ g p = 1 ∧ ∀ w, w < 4 → c p w = 0) ∨
  (fm p = 1 ∧ g p = 0 ∧ ∃ x, x < F ∧ wh p = nI x ∧ ∀ w, w < 4 → c p w = me (x * 4 + w)) ∨
  (fm p = 2 ∧ g p = 0 ∧ ∃ x, x < 24 ∧ wh p = nI x ∧ ∀ w, w < 4 → c p w = if rl x ≤ nI w then sv x else fv x) ∨
  (fm p = 3 ∧ g p = 0 ∧ ∃ x, x < 24 ∧ wh p = nI x ∧ ∀ w, w < 4 → c p w = ad (x * 4 + w))
theorem ri_P_keep {F : Nat} {c c' : Nat → Nat → Int32} {g fm wh me rl fv sv ad g' fm' wh' me' rl' fv' sv' ad' : Nat → Int32} {q : Nat}
    (h : ri_P F c g fm wh me rl fv sv ad q) (hc : ∀ w, w < 4 → c' q w = c q w) (hg : g' q = g q) (hf : fm' q = fm q) (hw : wh' q = wh q)
    (h1 : fm q = 1 → ∀ x, x < F → wh q = nI x → ∀ w, w < 4 → me' (x * 4 + w) = me (x * 4 + w))
    (h2 : fm q = 2 → ∀ x, x < 24 → wh q = nI x → rl' x = rl x ∧ fv' x = fv x ∧ sv' x = sv x)
    (h3 : fm q = 3 → ∀ x, x < 24 → wh q = nI x → ∀ w, w < 4 → ad' (x * 4 + w) = ad (x * 4 + w)) :
    ri_P F c' g' fm' wh' me' rl' fv' sv' ad' q := by
  unfold ri_P
  rw [hf, hg, hw]
  rcases h with ⟨e, eg, k⟩ | ⟨e, eg, x, hx, ex, k⟩ | ⟨e, eg, x, hx, ex, k⟩ | ⟨e, eg, x, hx, ex, k⟩
  · exact Or.inl ⟨e, eg, fun w hw => (hc w hw).trans (k w hw)⟩
  · exact Or.inr (Or.inl ⟨e, eg, x, hx, ex, fun w hw => by rw [hc w hw, k w hw, h1 e x hx ex w hw]⟩)
  · exact Or.inr (Or.inr (Or.inl ⟨e, eg, x, hx, ex, fun w hw => by
      obtain ⟨a, b, d⟩ := h2 e x hx ex
      rw [hc w hw, k w hw, a, b, d]⟩))
  · exact Or.inr (Or.inr (Or.inr ⟨e, eg, x, hx, ex, fun w hw => by rw [hc w hw, k w hw, h3 e x hx ex w hw]⟩))
def ri_I (F : Nat) (c : Nat → Nat → Int32) (g fm wh ho me ru rl fv sv au ad : Nat → Int32) : Prop :=
  (4 ≤ F ∧ F ≤ 16) ∧ (∀ p, p < 24 → ri_P F c g fm wh me rl fv sv ad p) ∧ ri_T 2 fm wh ru ∧ ri_T 3 fm wh au ∧ (∀ x, x < F → ho x = nI (ri_h fm wh x))
/-- the content with page p replaced -/
def ri_cp (c : Nat → Nat → Int32) (p : Nat) (v : Nat → Int32) : Nat → Nat → Int32 := fun q w => if q = p then v w else c q w
theorem ri_cp_s {c : Nat → Nat → Int32} {p w : Nat} {v : Nat → Int32} : ri_cp c p v p w = v w := if_pos rfl
theorem ri_cp_n {c : Nat → Nat → Int32} {p q w : Nat} {v : Nat → Int32} (h : q ≠ p) : ri_cp c p v q w = c q w := if_neg h
section
variable {F : Nat} {c : Nat → Nat → Int32} {g fm wh ho me ru rl fv sv au ad : Nat → Int32} {p x : Nat}
theorem ri_cong {c' : Nat → Nat → Int32} {g' : Nat → Int32} (h : ri_I F c g fm wh ho me ru rl fv sv au ad) (hc : ∀ q, q < 24 → ∀ w, w < 4 → c' q w = c q w) (hg : ∀ q, q < 24 → g' q = g q) : ri_I F c' g' fm wh ho me ru rl fv sv au ad := by
  obtain ⟨hF, hP, h2, h3, hG⟩ := h
  exact ⟨hF, fun q hq => ri_P_keep (hP q hq) (hc q hq) (hg q hq) rfl rfl (fun _ _ _ _ _ _ => rfl) (fun _ _ _ _ => ⟨rfl, rfl, rfl⟩) (fun _ _ _ _ _ _ => rfl), h2, h3, hG⟩
theorem ri_fr1 (h : ri_I F c g fm wh ho me ru rl fv sv au ad) (hp : p < 24) (h1 : fm p = 1) : g p = 0 ∧ ∃ x, x < F ∧ wh p = nI x ∧ ∀ w, w < 4 → c p w = me (x * 4 + w) := by
  rcases h.2.1 p hp with ⟨e, eg, k⟩ | ⟨e, eg, k⟩ | ⟨e, eg, k⟩ | ⟨e, eg, k⟩
  · exact absurd (h1.symm.trans e) (by decide)
  · exact ⟨eg, k⟩
  · exact absurd (h1.symm.trans e) (by decide)
  · exact absurd (h1.symm.trans e) (by decide)
theorem ri_gn (h : ri_I F c g fm wh ho me ru rl fv sv au ad) (hp : p < 24) : (fm p = 0 ∧ g p = 1 ∧ ∀ w, w < 4 → c p w = 0) ∨ (¬ fm p = 0 ∧ g p = 0) := by
  rcases h.2.1 p hp with ⟨e, eg, k⟩ | ⟨e, eg, k⟩ | ⟨e, eg, k⟩ | ⟨e, eg, k⟩
  · exact Or.inl ⟨e, eg, k⟩
  · exact Or.inr ⟨by rw [e]; decide, eg⟩
  · exact Or.inr ⟨by rw [e]; decide, eg⟩
  · exact Or.inr ⟨by rw [e]; decide, eg⟩
theorem ri_ho0 (h : ri_I F c g fm wh ho me ru rl fv sv au ad) (hx : x < F) (h0 : ho x = 0) : ri_h fm wh x = 0 := by
  have e := h.2.2.2.2 x hx
  rw [h0] at e
  have hl := ri_h_lt (fm := fm) (wh := wh) x
  exact ((nI_eq (a := 0) (by decide) (by omega)).mp e).symm
theorem ri_ho1 (h : ri_I F c g fm wh ho me ru rl fv sv au ad) (hx : x < F) (h0 : ho x = 1) : ri_h fm wh x = 1 := by
  have e := h.2.2.2.2 x hx
  rw [h0] at e
  have hl := ri_h_lt (fm := fm) (wh := wh) x
  exact ((nI_eq (a := 1) (by decide) (by omega)).mp e).symm
theorem ri_hon (h : ri_I F c g fm wh ho me ru rl fv sv au ad) (hx : x < F) (h0 : ¬ ho x = 0) : ∃ q, q < 24 ∧ fm q = 1 ∧ wh q = nI x := by
  have e := h.2.2.2.2 x hx
  refine ri_h_ex (Nat.pos_of_ne_zero (fun z => h0 ?_))
  rw [e, z]
  rfl
/-- page p let go: the pages -/
theorem ri_P_go (hP : ∀ q, q < 24 → ri_P F c g fm wh me rl fv sv ad q) : ∀ q, q < 24 → ri_P F (ri_cp c p (fun _ => 0)) (upd g p 1) (upd fm p 0) wh me rl fv sv ad q := by
  intro q hq
  by_cases e : q = p
  · rw [e]
    exact Or.inl ⟨pk_us, pk_us, fun w _ => ri_cp_s⟩
  · exact ri_P_keep (hP q hq) (fun w _ => ri_cp_n e) (pk_un e) (pk_un e) rfl (fun _ _ _ _ _ _ => rfl) (fun _ _ _ _ => ⟨rfl, rfl, rfl⟩) (fun _ _ _ _ _ _ => rfl)
theorem ri_go1 (h : ri_I F c g fm wh ho me ru rl fv sv au ad) (hp : p < 24) (h1 : fm p = 1) (hw : wh p = nI x) (hx : x < F) : ri_I F (ri_cp c p (fun _ => 0)) (upd g p 1) (upd fm p 0) wh (upd ho x (ho x - 1)) me ru rl fv sv au ad := by
  obtain ⟨hF, hP, h2, h3, hG⟩ := h
  have hk : ∀ q, q ≠ p → upd fm p 0 q = fm q ∧ wh q = wh q := fun q n => ⟨pk_un n, rfl⟩
  refine ⟨hF, ri_P_go hP, ri_T_keep h2 (by rw [h1]; decide) (by rw [pk_us]; decide) hk, ri_T_keep h3 (by rw [h1]; decide) (by rw [pk_us]; decide) hk, ?_⟩
  intro y hy
  have e := ri_h_chg hp hk y
  rw [if_neg (c := upd fm p 0 p = 1 ∧ wh p = nI y) (fun z => absurd (pk_us.symm.trans z.1) (by decide))] at e
  by_cases t : y = x
  · rw [t] at e ⊢
    rw [if_pos ⟨h1, hw⟩] at e
    rw [pk_us, hG x hx, ← show ri_h (upd fm p 0) wh x + 1 = ri_h fm wh x from e]
    exact nI_pred _
  · rw [if_neg (fun z => t (by have := z.2; rw [hw] at this; exact ((nI_eq (by omega) (by omega)).mp this).symm))] at e
    rw [pk_un t, hG y hy]
    exact congrArg nI e.symm
theorem ri_go2 (h : ri_I F c g fm wh ho me ru rl fv sv au ad) (hp : p < 24) (h1 : fm p = 2) (hw : wh p = nI x) (hx : x < 24) : ri_I F (ri_cp c p (fun _ => 0)) (upd g p 1) (upd fm p 0) wh ho me (upd ru x 0) rl fv sv au ad := by
  obtain ⟨hF, hP, h2, h3, hG⟩ := h
  have hk : ∀ q, q ≠ p → upd fm p 0 q = fm q ∧ wh q = wh q := fun q n => ⟨pk_un n, rfl⟩
  refine ⟨hF, ri_P_go hP, ri_T_drop h2 hp hx h1 hw (by rw [pk_us]; decide) hk, ri_T_keep h3 (by rw [h1]; decide) (by rw [pk_us]; decide) hk, ?_⟩
  intro y hy
  have e := ri_h_chg hp hk y
  rw [if_neg (c := upd fm p 0 p = 1 ∧ wh p = nI y) (fun z => absurd (pk_us.symm.trans z.1) (by decide)), if_neg (fun z => absurd (h1.symm.trans z.1) (by decide))] at e
  rw [hG y hy]
  exact congrArg nI e.symm
theorem ri_go3 (h : ri_I F c g fm wh ho me ru rl fv sv au ad) (hp : p < 24) (h1 : fm p = 3) (hw : wh p = nI x) (hx : x < 24) : ri_I F (ri_cp c p (fun _ => 0)) (upd g p 1) (upd fm p 0) wh ho me ru rl fv sv (upd au x 0) ad := by
  obtain ⟨hF, hP, h2, h3, hG⟩ := h
  have hk : ∀ q, q ≠ p → upd fm p 0 q = fm q ∧ wh q = wh q := fun q n => ⟨pk_un n, rfl⟩
  refine ⟨hF, ri_P_go hP, ri_T_keep h2 (by rw [h1]; decide) (by rw [pk_us]; decide) hk, ri_T_drop h3 hp hx h1 hw (by rw [pk_us]; decide) hk, ?_⟩
  intro y hy
  have e := ri_h_chg hp hk y
  rw [if_neg (c := upd fm p 0 p = 1 ∧ wh p = nI y) (fun z => absurd (pk_us.symm.trans z.1) (by decide)), if_neg (fun z => absurd (h1.symm.trans z.1) (by decide))] at e
  rw [hG y hy]
  exact congrArg nI e.symm
theorem ri_go0 (h : ri_I F c g fm wh ho me ru rl fv sv au ad) (hp : p < 24) (h1 : fm p = 0) : ri_I F (ri_cp c p (fun _ => 0)) (upd g p 1) (upd fm p 0) wh ho me ru rl fv sv au ad := by
  obtain ⟨hF, hP, h2, h3, hG⟩ := h
  have hk : ∀ q, q ≠ p → upd fm p 0 q = fm q ∧ wh q = wh q := fun q n => ⟨pk_un n, rfl⟩
  refine ⟨hF, ri_P_go hP, ri_T_keep h2 (by rw [h1]; decide) (by rw [pk_us]; decide) hk, ri_T_keep h3 (by rw [h1]; decide) (by rw [pk_us]; decide) hk, ?_⟩
  intro y hy
  have e := ri_h_chg hp hk y
  rw [if_neg (c := upd fm p 0 p = 1 ∧ wh p = nI y) (fun z => absurd (pk_us.symm.trans z.1) (by decide)), if_neg (fun z => absurd (h1.symm.trans z.1) (by decide))] at e
  rw [hG y hy]
  exact congrArg nI e.symm
/-- a page without room put into a frame (free or shared) -/
theorem ri_put1 (h : ri_I F c g fm wh ho me ru rl fv sv au ad) (hp : p < 24) (h0 : fm p = 0) (hx : x < F) : ri_I F (ri_cp c p (fun w => me (x * 4 + w))) (upd g p 0) (upd fm p 1) (upd wh p (nI x)) (upd ho x (ho x + 1)) me ru rl fv sv au ad := by
  obtain ⟨hF, hP, h2, h3, hG⟩ := h
  have hk : ∀ q, q ≠ p → upd fm p 1 q = fm q ∧ upd wh p (nI x) q = wh q := fun q n => ⟨pk_un n, pk_un n⟩
  refine ⟨hF, ?_, ri_T_keep h2 (by rw [h0]; decide) (by rw [pk_us]; decide) hk, ri_T_keep h3 (by rw [h0]; decide) (by rw [pk_us]; decide) hk, ?_⟩
  · intro q hq
    by_cases e : q = p
    · rw [e]
      exact Or.inr (Or.inl ⟨pk_us, pk_us, x, hx, pk_us, fun w _ => ri_cp_s⟩)
    · exact ri_P_keep (hP q hq) (fun w _ => ri_cp_n e) (pk_un e) (pk_un e) (pk_un e) (fun _ _ _ _ _ _ => rfl) (fun _ _ _ _ => ⟨rfl, rfl, rfl⟩) (fun _ _ _ _ _ _ => rfl)
  · intro y hy
    have e := ri_h_chg hp hk y
    rw [if_neg (c := fm p = 1 ∧ wh p = nI y) (fun z => absurd (h0.symm.trans z.1) (by decide))] at e
    by_cases t : y = x
    · rw [t] at e ⊢
      rw [if_pos ⟨pk_us, pk_us⟩] at e
      rw [pk_us, hG x hx, show ri_h (upd fm p 1) (upd wh p (nI x)) x = ri_h fm wh x + 1 from e]
      exact nI_1 _
    · rw [if_neg (fun z => t (by have := z.2; rw [pk_us] at this; exact ((nI_eq (by omega) (by omega)).mp this).symm))] at e
      rw [pk_un t, hG y hy]
      exact congrArg nI e.symm
theorem ri_put2 {v a b : Int32} (h : ri_I F c g fm wh ho me ru rl fv sv au ad) (hp : p < 24) (h0 : fm p = 0) (hx : x < 24) (hu : ru x = 0) : ri_I F (ri_cp c p (fun w => if v ≤ nI w then b else a)) (upd g p 0) (upd fm p 2) (upd wh p (nI x)) ho me (upd ru x 1) (upd rl x v) (upd fv x a) (upd sv x b) au ad := by
  obtain ⟨hF, hP, h2, h3, hG⟩ := h
  have hk : ∀ q, q ≠ p → upd fm p 2 q = fm q ∧ upd wh p (nI x) q = wh q := fun q n => ⟨pk_un n, pk_un n⟩
  refine ⟨hF, ?_, ri_T_add h2 hp hx (by rw [h0]; decide) hu pk_us pk_us hk (by decide), ri_T_keep h3 (by rw [h0]; decide) (by rw [pk_us]; decide) hk, ?_⟩
  · intro q hq
    by_cases e : q = p
    · rw [e]
      exact Or.inr (Or.inr (Or.inl ⟨pk_us, pk_us, x, hx, pk_us, fun w _ => by rw [pk_us, pk_us, pk_us]; exact ri_cp_s⟩))
    · refine ri_P_keep (hP q hq) (fun w _ => ri_cp_n e) (pk_un e) (pk_un e) (pk_un e) (fun _ _ _ _ _ _ => rfl) (fun eq y hy ey => ?_) (fun _ _ _ _ _ _ => rfl)
      have ne : y ≠ x := by
        intro t
        obtain ⟨z, hz, ez, uz⟩ := h2.1 q hq eq
        rw [ez] at ey
        rw [ri_nI hz hy ey, t] at uz
        exact uz hu
      exact ⟨pk_un ne, pk_un ne, pk_un ne⟩
  · intro y hy
    have e := ri_h_chg hp hk y
    rw [if_neg (c := fm p = 1 ∧ wh p = nI y) (fun z => absurd (h0.symm.trans z.1) (by decide)), if_neg (fun z => absurd (pk_us.symm.trans z.1) (by decide))] at e
    rw [hG y hy]
    exact congrArg nI e.symm
theorem ri_put3 {ad' : Nat → Int32} (h : ri_I F c g fm wh ho me ru rl fv sv au ad) (hp : p < 24) (h0 : fm p = 0) (hx : x < 24) (hu : au x = 0) (ha : ∀ j, j / 4 ≠ x → ad' j = ad j) : ri_I F (ri_cp c p (fun w => ad' (x * 4 + w))) (upd g p 0) (upd fm p 3) (upd wh p (nI x)) ho me ru rl fv sv (upd au x 1) ad' := by
  obtain ⟨hF, hP, h2, h3, hG⟩ := h
  have hk : ∀ q, q ≠ p → upd fm p 3 q = fm q ∧ upd wh p (nI x) q = wh q := fun q n => ⟨pk_un n, pk_un n⟩
  refine ⟨hF, ?_, ri_T_keep h2 (by rw [h0]; decide) (by rw [pk_us]; decide) hk, ri_T_add h3 hp hx (by rw [h0]; decide) hu pk_us pk_us hk (by decide), ?_⟩
  · intro q hq
    by_cases e : q = p
    · rw [e]
      exact Or.inr (Or.inr (Or.inr ⟨pk_us, pk_us, x, hx, pk_us, fun w _ => ri_cp_s⟩))
    · refine ri_P_keep (hP q hq) (fun w _ => ri_cp_n e) (pk_un e) (pk_un e) (pk_un e) (fun _ _ _ _ _ _ => rfl) (fun _ _ _ _ => ⟨rfl, rfl, rfl⟩) (fun eq y hy ey w hw => ha _ ?_)
      intro t
      have t' : y = x := by omega
      obtain ⟨z, hz, ez, uz⟩ := h3.1 q hq eq
      rw [ez] at ey
      rw [ri_nI hz hy ey, t'] at uz
      exact uz hu
  · intro y hy
    have e := ri_h_chg hp hk y
    rw [if_neg (c := fm p = 1 ∧ wh p = nI y) (fun z => absurd (h0.symm.trans z.1) (by decide)), if_neg (fun z => absurd (pk_us.symm.trans z.1) (by decide))] at e
    rw [hG y hy]
    exact congrArg nI e.symm
/-- words written into a free frame -/
theorem ri_mem0 {me' : Nat → Int32} (h : ri_I F c g fm wh ho me ru rl fv sv au ad) (hx : x < F) (h0 : ho x = 0) (hm : ∀ j, j / 4 ≠ x → me' j = me j) : ri_I F c g fm wh ho me' ru rl fv sv au ad := by
  have z := ri_ho0 h hx h0
  obtain ⟨hF, hP, h2, h3, hG⟩ := h
  refine ⟨hF, fun q hq => ri_P_keep (hP q hq) (fun _ _ => rfl) rfl rfl rfl (fun eq y hy ey w hw => hm _ ?_) (fun _ _ _ _ => ⟨rfl, rfl, rfl⟩) (fun _ _ _ _ _ _ => rfl), h2, h3, hG⟩
  intro t
  have t' : y = x := by omega
  rw [t'] at ey
  have := ri_h_pos hq eq ey
  omega
/-- words written into the frame of one page -/
theorem ri_mem1 {me' : Nat → Int32} (h : ri_I F c g fm wh ho me ru rl fv sv au ad) (hp : p < 24) (h1 : fm p = 1) (hw : wh p = nI x) (hx : x < F) (h0 : ho x = 1) (hm : ∀ j, j / 4 ≠ x → me' j = me j) : ri_I F (ri_cp c p (fun w => me' (x * 4 + w))) g fm wh ho me' ru rl fv sv au ad := by
  have z := ri_ho1 h hx h0
  have hg := (ri_fr1 h hp h1).1
  obtain ⟨hF, hP, h2, h3, hG⟩ := h
  refine ⟨hF, fun q hq => ?_, h2, h3, hG⟩
  by_cases e : q = p
  · rw [e]
    exact Or.inr (Or.inl ⟨h1, hg, x, hx, hw, fun w _ => ri_cp_s⟩)
  · refine ri_P_keep (hP q hq) (fun _ _ => ri_cp_n e) rfl rfl rfl (fun eq y hy ey w hw' => hm _ ?_) (fun _ _ _ _ => ⟨rfl, rfl, rfl⟩) (fun _ _ _ _ _ _ => rfl)
    intro t
    have t' : y = x := by omega
    rw [t'] at ey
    exact e (ri_h_one z hp h1 hw hq eq ey)
theorem ri_swap {c' : Nat → Nat → Int32} {g' fm' wh' : Nat → Int32} {a b : Nat} (h : ri_I F c g fm wh ho me ru rl fv sv au ad) (ha : a < 24) (hb : b < 24)
    (h1 : ∀ q, fm' q = fm (ri_sw a b q)) (h2 : ∀ q, wh' q = wh (ri_sw a b q))
    (h3 : ∀ q, q < 24 → g' q = g (ri_sw a b q)) (h4 : ∀ q, q < 24 → ∀ w, w < 4 → c' q w = c (ri_sw a b q) w) : ri_I F c' g' fm' wh' ho me ru rl fv sv au ad := by
  obtain ⟨hF, hP, k2, k3, hG⟩ := h
  refine ⟨hF, fun q hq => ?_, ri_T_sw k2 ha hb h1 h2, ri_T_sw k3 ha hb h1 h2, fun x hx => ?_⟩
  · have z := hP (ri_sw a b q) (ri_sw_lt ha hb hq)
    unfold ri_P at z ⊢
    rw [h1, h2, h3 q hq]
    rcases z with ⟨e, eg, k⟩ | ⟨e, eg, x, hx, ex, k⟩ | ⟨e, eg, x, hx, ex, k⟩ | ⟨e, eg, x, hx, ex, k⟩
    · exact Or.inl ⟨e, eg, fun w hw => (h4 q hq w hw).trans (k w hw)⟩
    · exact Or.inr (Or.inl ⟨e, eg, x, hx, ex, fun w hw => (h4 q hq w hw).trans (k w hw)⟩)
    · exact Or.inr (Or.inr (Or.inl ⟨e, eg, x, hx, ex, fun w hw => (h4 q hq w hw).trans (k w hw)⟩))
    · exact Or.inr (Or.inr (Or.inr ⟨e, eg, x, hx, ex, fun w hw => (h4 q hq w hw).trans (k w hw)⟩))
  · rw [hG x hx]
    refine congrArg nI (ri_ct_sw ha hb (fun q => ?_)).symm
    unfold ri_hb
    rw [h1, h2]
/-- some page in a frame isn't one of two given ones, if no frame is free -/
theorem ri_third (h : ri_I F c g fm wh ho me ru rl fv sv au ad) (hall : ∀ x, x < F → ¬ ho x = 0) (A B : Nat) : ∃ q, q < 24 ∧ fm q = 1 ∧ q ≠ A ∧ q ≠ B := by
  have hF := h.1.1
  obtain ⟨a, ha, a1, aw⟩ := ri_hon h (show 0 < F by omega) (hall 0 (by omega))
  obtain ⟨b, hb, b1, bw⟩ := ri_hon h (show 1 < F by omega) (hall 1 (by omega))
  obtain ⟨d, hd, d1, dw⟩ := ri_hon h (show 2 < F by omega) (hall 2 (by omega))
  have n1 : a ≠ b := fun t => absurd (ri_nI (x := 0) (y := 1) (by decide) (by decide) (by rw [← aw, ← bw, t])) (by decide)
  have n2 : a ≠ d := fun t => absurd (ri_nI (x := 0) (y := 2) (by decide) (by decide) (by rw [← aw, ← dw, t])) (by decide)
  have n3 : b ≠ d := fun t => absurd (ri_nI (x := 1) (y := 2) (by decide) (by decide) (by rw [← bw, ← dw, t])) (by decide)
  by_cases ea : a = A ∨ a = B
  · by_cases eb : b = A ∨ b = B
    · exact ⟨d, hd, d1, by omega, by omega⟩
    · exact ⟨b, hb, b1, by omega, by omega⟩
  · exact ⟨a, ha, a1, by omega, by omega⟩
end
end
section
/-! peek, letGo, runsOf -/
theorem ri_ix (x w : Nat) : nI x * 4 + nI w = nI (x * 4 + w) := by
  rw [← nI_add, ← pk_mul]
  rfl
theorem ri_b1 : vp_nar .boolean 1 = 1 := rfl
theorem ri_b0 : vp_nar .boolean 0 = 0 := rfl
section
variable {f hd sc : Int32} {fm wh tc ho me ru rl fv sv au ad : Nat → Int32} {p x w : Nat}
theorem wk_pk0 {post : Int32 → Prop} (hp : p < 24) (h1 : fm p = 0) (K : post 0) : wpX_peek post (f, hd, sc, fm, wh, tc, ho, me, ru, rl, fv, sv, au, ad) (nI p) (nI w) := by
  have hi : vp_in (nI p) 24 := vp_in_nI hp (by decide)
  have hc : (nI p).toNatClampNeg = p := nI_clamp (by omega)
  unfold wpX_peek
  dsimp only
  rw [hc, h1]
  exact ⟨hi, nm_e ⟨hi, nm_e (br_t (by decide) K)⟩⟩
theorem wk_pk1 {post : Int32 → Prop} (hp : p < 24) (hw : w < 4) (hx : x < 16) (h1 : fm p = 1) (h2 : wh p = nI x) (K : post (me (x * 4 + w))) : wpX_peek post (f, hd, sc, fm, wh, tc, ho, me, ru, rl, fv, sv, au, ad) (nI p) (nI w) := by
  have hi : vp_in (nI p) 24 := vp_in_nI hp (by decide)
  have hc : (nI p).toNatClampNeg = p := nI_clamp (by omega)
  have hj : vp_in (nI (x * 4 + w)) 64 := vp_in_nI (by omega) (by decide)
  have hk : (nI (x * 4 + w)).toNatClampNeg = x * 4 + w := nI_clamp (by omega)
  unfold wpX_peek
  dsimp only
  rw [hc, h1, h2]
  refine ⟨hi, nm_e ⟨hi, nm_e (br_f (by decide) (br_f (by decide) (br_t rfl ?_)))⟩⟩
  rw [ri_ix, hk]
  exact ⟨hj, K⟩
theorem wk_pk2 {post : Int32 → Prop} (hp : p < 24) (hx : x < 24) (h1 : fm p = 2) (h2 : wh p = nI x) (K : post (if rl x ≤ nI w then sv x else fv x)) : wpX_peek post (f, hd, sc, fm, wh, tc, ho, me, ru, rl, fv, sv, au, ad) (nI p) (nI w) := by
  have hi : vp_in (nI p) 24 := vp_in_nI hp (by decide)
  have hc : (nI p).toNatClampNeg = p := nI_clamp (by omega)
  have hj : vp_in (nI x) 24 := vp_in_nI (by omega) (by decide)
  have hk : (nI x).toNatClampNeg = x := nI_clamp (by omega)
  unfold wpX_peek
  dsimp only
  rw [hc, h1, h2]
  refine ⟨hi, nm_e ⟨hi, nm_e (br_f (by decide) (br_f (by decide) (br_f (by decide) (br_t rfl ⟨hj, ?_⟩))))⟩⟩
  rw [hk]
  refine br_c (fun z => ⟨hj, ?_⟩) (fun z => ⟨hj, ?_⟩)
  · rw [if_pos z] at K; exact K
  · rw [if_neg z] at K; exact K
theorem wk_pk3 {post : Int32 → Prop} (hp : p < 24) (hw : w < 4) (hx : x < 24) (h1 : fm p = 3) (h2 : wh p = nI x) (K : post (ad (x * 4 + w))) : wpX_peek post (f, hd, sc, fm, wh, tc, ho, me, ru, rl, fv, sv, au, ad) (nI p) (nI w) := by
  have hi : vp_in (nI p) 24 := vp_in_nI hp (by decide)
  have hc : (nI p).toNatClampNeg = p := nI_clamp (by omega)
  have hj : vp_in (nI (x * 4 + w)) 96 := vp_in_nI (by omega) (by decide)
  have hk : (nI (x * 4 + w)).toNatClampNeg = x * 4 + w := nI_clamp (by omega)
  unfold wpX_peek
  dsimp only
  rw [hc, h1, h2]
  refine ⟨hi, nm_e ⟨hi, nm_e (br_f (by decide) (br_f (by decide) (br_f (by decide) (br_f (by decide) (br_t rfl ?_)))))⟩⟩
  rw [ri_ix, hk]
  exact ⟨hj, K⟩
theorem wk_pk {F : Nat} {c : Nat → Nat → Int32} {g : Nat → Int32} {post : Int32 → Prop} (h : ri_I F c g fm wh ho me ru rl fv sv au ad) (hp : p < 24) (hw : w < 4) (K : post (c p w)) : wpX_peek post (f, hd, sc, fm, wh, tc, ho, me, ru, rl, fv, sv, au, ad) (nI p) (nI w) := by
  have hF := h.1.2
  rcases h.2.1 p hp with ⟨e, eg, k⟩ | ⟨e, eg, x, hx, ex, k⟩ | ⟨e, eg, x, hx, ex, k⟩ | ⟨e, eg, x, hx, ex, k⟩
  · exact wk_pk0 hp e (by rw [k w hw] at K; exact K)
  · exact wk_pk1 hp hw (by omega) e ex (by rw [k w hw] at K; exact K)
  · exact wk_pk2 hp hx e ex (by rw [k w hw] at K; exact K)
  · exact wk_pk3 hp hw hx e ex (by rw [k w hw] at K; exact K)
theorem wk_go0 {post : SX → Prop} (hp : p < 24) (h1 : fm p = 0) (K : post (f, hd, sc, upd fm p 0, wh, tc, ho, me, ru, rl, fv, sv, au, ad)) : wpX_letGo post (f, hd, sc, fm, wh, tc, ho, me, ru, rl, fv, sv, au, ad) (nI p) := by
  have hi : vp_in (nI p) 24 := vp_in_nI hp (by decide)
  have hc : (nI p).toNatClampNeg = p := nI_clamp (by omega)
  unfold wpX_letGo wX_letGo_27 wX_letGo_44
  dsimp only
  rw [hc, h1]
  exact ⟨hi, nm_e ⟨hi, br_f (by decide) ⟨hi, br_f (by decide) ⟨hi, br_f (by decide) ⟨hi, nm_e K⟩⟩⟩⟩⟩
theorem wk_go1 {post : SX → Prop} (hp : p < 24) (hx : x < 16) (h1 : fm p = 1) (h2 : wh p = nI x) (K : post (f, hd, sc, upd fm p 0, wh, tc, upd ho x (ho x - 1), me, ru, rl, fv, sv, au, ad)) : wpX_letGo post (f, hd, sc, fm, wh, tc, ho, me, ru, rl, fv, sv, au, ad) (nI p) := by
  have hi : vp_in (nI p) 24 := vp_in_nI hp (by decide)
  have hc : (nI p).toNatClampNeg = p := nI_clamp (by omega)
  have hj : vp_in (nI x) 16 := vp_in_nI hx (by decide)
  have hk : (nI x).toNatClampNeg = x := nI_clamp (by omega)
  unfold wpX_letGo wX_letGo_27 wX_letGo_44
  dsimp only
  rw [hc, h1, h2]
  refine ⟨hi, nm_e ?_⟩
  rw [hk]
  exact ⟨hi, br_t rfl ⟨hj, hj, nm_e ⟨hi, br_f (by decide) ⟨hi, br_f (by decide) ⟨hi, nm_e K⟩⟩⟩⟩⟩
theorem wk_go2 {post : SX → Prop} (hp : p < 24) (hx : x < 24) (h1 : fm p = 2) (h2 : wh p = nI x) (K : post (f, hd, sc, upd fm p 0, wh, tc, ho, me, upd ru x 0, rl, fv, sv, au, ad)) : wpX_letGo post (f, hd, sc, fm, wh, tc, ho, me, ru, rl, fv, sv, au, ad) (nI p) := by
  have hi : vp_in (nI p) 24 := vp_in_nI hp (by decide)
  have hc : (nI p).toNatClampNeg = p := nI_clamp (by omega)
  have hj : vp_in (nI x) 24 := vp_in_nI hx (by decide)
  have hk : (nI x).toNatClampNeg = x := nI_clamp (by omega)
  unfold wpX_letGo wX_letGo_27 wX_letGo_44
  dsimp only
  rw [hc, h1, h2]
  refine ⟨hi, nm_e ?_⟩
  rw [hk]
  exact ⟨hi, br_f (by decide) ⟨hi, br_t rfl ⟨hj, nm_e ⟨hi, br_f (by decide) ⟨hi, nm_e K⟩⟩⟩⟩⟩
theorem wk_go3 {post : SX → Prop} (hp : p < 24) (hx : x < 24) (h1 : fm p = 3) (h2 : wh p = nI x) (K : post (f, hd, sc, upd fm p 0, wh, tc, ho, me, ru, rl, fv, sv, upd au x 0, ad)) : wpX_letGo post (f, hd, sc, fm, wh, tc, ho, me, ru, rl, fv, sv, au, ad) (nI p) := by
  have hi : vp_in (nI p) 24 := vp_in_nI hp (by decide)
  have hc : (nI p).toNatClampNeg = p := nI_clamp (by omega)
  have hj : vp_in (nI x) 24 := vp_in_nI hx (by decide)
  have hk : (nI x).toNatClampNeg = x := nI_clamp (by omega)
  unfold wpX_letGo wX_letGo_27 wX_letGo_44
  dsimp only
  rw [hc, h1, h2]
  refine ⟨hi, nm_e ?_⟩
  rw [hk]
  exact ⟨hi, br_f (by decide) ⟨hi, br_f (by decide) ⟨hi, br_t rfl ⟨hj, nm_e ⟨hi, nm_e K⟩⟩⟩⟩⟩
/-- letGo over the invariant -/
theorem ev_go {F : Nat} {c : Nat → Nat → Int32} {g : Nat → Int32} {post : SX → Prop} (h : ri_I F c g fm wh ho me ru rl fv sv au ad) (hp : p < 24)
    (K : ∀ ho' ru' au' : Nat → Int32, ri_I F (ri_cp c p (fun _ => 0)) (upd g p 1) (upd fm p 0) wh ho' me ru' rl fv sv au' ad → (¬ fm p = 1 → ho' = ho) → post (f, hd, sc, upd fm p 0, wh, tc, ho', me, ru', rl, fv, sv, au', ad)) : wpX_letGo post (f, hd, sc, fm, wh, tc, ho, me, ru, rl, fv, sv, au, ad) (nI p) := by
  have hF := h.1.2
  rcases h.2.1 p hp with ⟨e, eg, k⟩ | ⟨e, eg, x, hx, ex, k⟩ | ⟨e, eg, x, hx, ex, k⟩ | ⟨e, eg, x, hx, ex, k⟩
  · exact wk_go0 hp e (K _ _ _ (ri_go0 h hp e) (fun _ => rfl))
  · exact wk_go1 hp (by omega) e ex (K _ _ _ (ri_go1 h hp e ex hx) (fun n => absurd e n))
  · exact wk_go2 hp hx e ex (K _ _ _ (ri_go2 h hp e ex hx) (fun _ => rfl))
  · exact wk_go3 hp hx e ex (K _ _ _ (ri_go3 h hp e ex hx) (fun _ => rfl))
theorem wk_r35 {F : Nat} {c : Nat → Nat → Int32} {g : Nat → Int32} {post : Int32 → Prop} {m : Nat} (h : ri_I F c g fm wh ho me ru rl fv sv au ad) (hp : p < 24) (hm : m ≤ 4) :
    ∀ d w : Nat, m < w → 4 ≤ w + d → w ≤ 5 → ((∀ j, w ≤ j → j < 4 → c p j = c p m) → post (nI m)) → ((∃ j, w ≤ j ∧ j < 4 ∧ ¬ c p j = c p m) → post 0) →
      wX_runsOf_35 post (nI p) (nI m) f hd sc fm wh tc ho me ru rl fv sv au ad (d + 1) (nI w) := by
  intro d
  induction d with
  | zero =>
    intro w hmw h4 h5 K1 K0
    exact br_t (nI_le (a := 4) (by omega) (by omega)) (K1 (fun j a b => by omega))
  | succ d ih =>
    intro w hmw h4 h5 K1 K0
    by_cases hw : 4 ≤ w
    · exact br_t (nI_le (a := 4) hw (by omega)) (K1 (fun j a b => by omega))
    · refine br_f (nI_ge (b := 4) (by omega) (by decide)) (wk_pk h hp (by omega) (wk_pk h hp (by omega) ?_))
      refine br_c (fun e => ?_) (fun e => K0 ⟨w, Nat.le_refl _, by omega, e⟩)
      refine nm_r (nI_1 w) (ih (w + 1) (by omega) (by omega) (by omega) (fun k => K1 (fun j a b => ?_)) (fun k => K0 ?_))
      · by_cases t : j = w
        · rw [t]; exact e
        · exact k j (by omega) b
      · obtain ⟨j, a, b, n⟩ := k
        exact ⟨j, by omega, b, n⟩
theorem wk_r9 {F : Nat} {c : Nat → Nat → Int32} {g : Nat → Int32} {post : Int32 → Prop} (h : ri_I F c g fm wh ho me ru rl fv sv au ad) (hp : p < 24)
    (K1 : ∀ m, 1 ≤ m → m ≤ 4 → (∀ j, j < m → c p j = c p 0) → (m < 4 → ¬ c p m = c p 0) → (∀ j, m < j → j < 4 → c p j = c p m) → post (nI m))
    (K0 : (¬ ∀ j, j < 4 → c p j = c p 0) → post 0) :
    ∀ d m : Nat, m + d = 4 → 1 ≤ m → (∀ j, j < m → c p j = c p 0) → wX_runsOf_9 post (nI p) (c p 0) f hd sc fm wh tc ho me ru rl fv sv au ad (d + 1) (nI m) := by
  have fin : ∀ m, 1 ≤ m → m ≤ 4 → (∀ j, j < m → c p j = c p 0) → (m < 4 → ¬ c p m = c p 0) → ∃ n35 : Nat, wX_runsOf_35 post (nI p) (nI m) f hd sc fm wh tc ho me ru rl fv sv au ad n35 (nI (m + 1)) := by
    intro m h1 h4 hj hn
    refine ⟨4 + 1, wk_r35 h hp h4 4 (m + 1) (by omega) (by omega) (by omega) (fun k => K1 m h1 h4 hj hn (fun j a b => k j (by omega) b)) (fun k => K0 (fun z => ?_))⟩
    obtain ⟨j, a, b, _⟩ := k
    exact hn (by omega) (z m (by omega))
  intro d
  induction d with
  | zero =>
    intro m hm h1 hj
    exact br_t (nI_le (a := 4) (by omega) (by omega)) (nm_r (nI_1 m) (fin m h1 (by omega) hj (fun z => by omega)))
  | succ d ih =>
    intro m hm h1 hj
    refine br_f (nI_ge (b := 4) (by omega) (by decide)) (wk_pk h hp (by omega) ?_)
    refine br_c (fun e => ?_) (fun e => nm_r (nI_1 m) (fin m h1 (by omega) hj (fun _ => e)))
    refine nm_r (nI_1 m) (ih (m + 1) (by omega) (by omega) (fun j hj' => ?_))
    by_cases t : j = m
    · rw [t]; exact e
    · exact hj j (by omega)
theorem wk_runs {F : Nat} {c : Nat → Nat → Int32} {g : Nat → Int32} {post : Int32 → Prop} (h : ri_I F c g fm wh ho me ru rl fv sv au ad) (hp : p < 24)
    (K1 : ∀ m, 1 ≤ m → m ≤ 4 → (∀ j, j < m → c p j = c p 0) → (m < 4 → ¬ c p m = c p 0) → (∀ j, m < j → j < 4 → c p j = c p m) → post (nI m))
    (K0 : (¬ ∀ j, j < 4 → c p j = c p 0) → post 0) : wpX_runsOf post (f, hd, sc, fm, wh, tc, ho, me, ru, rl, fv, sv, au, ad) (nI p) := by
  unfold wpX_runsOf
  dsimp only
  refine wk_pk (w := 0) h hp (by decide) ⟨3 + 1, wk_r9 h hp K1 K0 3 1 rfl (by decide) (fun j hj => ?_)⟩
  rw [show j = 0 by omega]
end
end
section
/-! squeeze, putAside, evict -/
section
variable {f hd sc : Int32} {fm wh tc ho me ru rl fv sv au ad : Nat → Int32} {p x : Nat}
theorem wk_sq69 {post : SX → Prop} {z : Int32} {r : Nat} (hp : p < 24) (hr : r < 24) (hx : x < 16) (h1 : fm p = 1) (h2 : wh p = nI x)
    (K : post (f, hd, sc, upd (upd fm p 0) p 2, upd wh p (nI r), tc, upd ho x (ho x - 1), me, ru, rl, fv, upd sv r z, au, ad)) :
    wX_squeeze_69 post (nI p) (nI r) z (nI r) f hd sc fm wh tc ho me ru rl fv sv au ad := by
  have hi : vp_in (nI p) 24 := vp_in_nI hp (by decide)
  have hc : (nI p).toNatClampNeg = p := nI_clamp (by omega)
  have hj : vp_in (nI r) 24 := vp_in_nI hr (by decide)
  have hk : (nI r).toNatClampNeg = r := nI_clamp (by omega)
  unfold wX_squeeze_69
  rw [hc, hk]
  refine ⟨hj, nm_e (wk_go1 hp hx h1 h2 ?_)⟩
  exact ⟨hi, nm_e ⟨hi, nm_e K⟩⟩
theorem wk_sq23 {post : SX → Prop} {r m : Nat} (hp : p < 24) (hr : r < 24) (hx : x < 16) (h1 : fm p = 1) (h2 : wh p = nI x) (hm : m ≤ 4)
    (K : post (f, hd, sc, upd (upd fm p 0) p 2, upd wh p (nI r), tc, upd ho x (ho x - 1), me, upd ru r 1, upd rl r (nI m), upd fv r (me (x * 4 + 0)), upd sv r (if 4 ≤ m then 0 else me (x * 4 + m)), au, ad)) :
    wX_squeeze_23 post (nI p) (nI m) (nI r) f hd sc fm wh tc ho me ru rl fv sv au ad := by
  have hj : vp_in (nI r) 24 := vp_in_nI hr (by decide)
  have hk : (nI r).toNatClampNeg = r := nI_clamp (by omega)
  unfold wX_squeeze_23
  rw [hk]
  refine ⟨hj, nm_e ⟨hj, nm_e (wk_pk1 (w := 0) hp (by decide) hx h1 h2 ⟨hj, nm_e ?_⟩)⟩⟩
  refine pk_le 4 m (fun a => ?_) (fun a => ?_)
  · rw [if_pos a] at K
    exact wk_sq69 hp hr hx h1 h2 K
  · rw [if_neg (by omega)] at K
    exact wk_pk1 (w := m) hp (by omega) hx h1 h2 (wk_sq69 hp hr hx h1 h2 K)
theorem wk_sq {post : SX → Prop} {m : Nat} (hp : p < 24) (hT : ri_T 2 fm wh ru) (h1 : ¬ fm p = 2)
    (K : ∀ r, r < 24 → ru r = 0 → wX_squeeze_23 post (nI p) (nI m) (nI r) f hd sc fm wh tc ho me ru rl fv sv au ad) : wpX_squeeze post (f, hd, sc, fm, wh, tc, ho, me, ru, rl, fv, sv, au, ad) (nI p) (nI m) := by
  have loop : ∀ d r : Nat, r + d = 23 → (∀ j, j < r → ¬ ru j = 0) → wX_squeeze_2 post (nI p) (nI m) f hd sc fm wh tc ho me ru rl fv sv au ad (d + 1) (nI r) := by
    intro d
    induction d with
    | zero =>
      intro r hr hj
      have e : r = 23 := by omega
      refine br_t (nI_le (a := 23) (by omega) (by omega)) (K r (by omega) ?_)
      rw [e]
      exact ri_T_free hT hp h1 (fun j z => hj j (by omega))
    | succ d ih =>
      intro r hr hj
      have hk : (nI r).toNatClampNeg = r := nI_clamp (by omega)
      unfold wX_squeeze_2
      rw [hk]
      refine br_f (nI_ge (b := 23) (by omega) (by decide)) ⟨vp_in_nI (by omega) (by decide), br_c (fun e => K r (by omega) e) (fun e => nm_r (nI_1 r) (ih (r + 1) (by omega) (fun j z => ?_)))⟩
      by_cases t : j = r
      · rw [t]; exact e
      · exact hj j (by omega)
  exact ⟨23 + 1, loop 23 0 rfl (fun j z => absurd z (Nat.not_lt_zero _))⟩
theorem wk_pa32 {post : SX → Prop} {r : Nat} (hp : p < 24) (hr : r < 24) (hx : x < 16) (h1 : fm p = 1) (h2 : wh p = nI x) (ad0 : Nat → Int32)
    (K : ∀ ad' : Nat → Int32, (∀ j, j / 4 ≠ r → ad' j = ad0 j) → (∀ j, j < 4 → ad' (r * 4 + j) = me (x * 4 + j)) →
      post (f, hd, sc, upd (upd fm p 0) p 3, upd wh p (nI r), tc, upd ho x (ho x - 1), me, ru, rl, fv, sv, au, ad')) :
    ∀ (d w : Nat) (ad : Nat → Int32), w + d = 4 → (∀ j, j / 4 ≠ r → ad j = ad0 j) → (∀ j, j < w → ad (r * 4 + j) = me (x * 4 + j)) →
      wX_putAside_32 post (nI p) (nI r) f hd sc (d + 1) (nI w) fm wh tc ho me ru rl fv sv au ad := by
  have hi : vp_in (nI p) 24 := vp_in_nI hp (by decide)
  have hc : (nI p).toNatClampNeg = p := nI_clamp (by omega)
  intro d
  induction d with
  | zero =>
    intro w ad hw ha hb
    unfold wX_putAside_32
    rw [hc]
    refine br_t (nI_le (a := 4) (by omega) (by omega)) (wk_go1 hp hx h1 h2 ?_)
    exact ⟨hi, nm_e ⟨hi, nm_e (K ad ha (fun j z => hb j (by omega)))⟩⟩
  | succ d ih =>
    intro w ad hw ha hb
    have hk : (nI (r * 4 + w)).toNatClampNeg = r * 4 + w := nI_clamp (by omega)
    unfold wX_putAside_32
    rw [ri_ix, hk]
    refine br_f (nI_ge (b := 4) (by omega) (by decide)) (wk_pk1 hp (by omega) hx h1 h2 ⟨vp_in_nI (by omega) (by decide), nm_e (nm_r (nI_1 w) (ih (w + 1) _ (by omega) (fun j z => ?_) (fun j z => ?_)))⟩)
    · rw [pk_un (by omega)]
      exact ha j z
    · by_cases t : j = w
      · rw [t]; exact pk_us
      · rw [pk_un (by omega)]
        exact hb j (by omega)
theorem wk_pa {post : SX → Prop} (hp : p < 24) (hT : ri_T 3 fm wh au) (hx : x < 16) (h1 : fm p = 1) (h2 : wh p = nI x)
    (K : ∀ (r : Nat) (ad' : Nat → Int32), r < 24 → au r = 0 → (∀ j, j / 4 ≠ r → ad' j = ad j) → (∀ j, j < 4 → ad' (r * 4 + j) = me (x * 4 + j)) →
      post (f, hd, sc, upd (upd fm p 0) p 3, upd wh p (nI r), tc, upd ho x (ho x - 1), me, ru, rl, fv, sv, upd au r 1, ad')) : wpX_putAside post (f, hd, sc, fm, wh, tc, ho, me, ru, rl, fv, sv, au, ad) (nI p) := by
  have go : ∀ r, r < 24 → au r = 0 → ∃ n32 : Nat, wX_putAside_32 post (nI p) (nI r) f hd sc n32 0 fm wh tc ho me ru rl fv sv (upd au r 1) ad := fun r hr e =>
    ⟨4 + 1, wk_pa32 (au := upd au r 1) hp hr hx h1 h2 ad (fun ad' a b => K r ad' hr e a b) 4 0 ad rfl (fun _ _ => rfl) (fun j z => absurd z (Nat.not_lt_zero _))⟩
  have loop : ∀ d r : Nat, r + d = 23 → (∀ j, j < r → ¬ au j = 0) → wX_putAside_2 post (nI p) f hd sc fm wh tc ho me ru rl fv sv au ad (d + 1) (nI r) := by
    intro d
    induction d with
    | zero =>
      intro r hr hj
      have hk : (nI r).toNatClampNeg = r := nI_clamp (by omega)
      have e : r = 23 := by omega
      unfold wX_putAside_2
      rw [hk]
      refine br_t (nI_le (a := 23) (by omega) (by omega)) ⟨vp_in_nI (by omega) (by decide), nm_e (go r (by omega) ?_)⟩
      rw [e]
      exact ri_T_free hT hp (by rw [h1]; decide) (fun j z => hj j (by omega))
    | succ d ih =>
      intro r hr hj
      have hk : (nI r).toNatClampNeg = r := nI_clamp (by omega)
      have hv : vp_in (nI r) 24 := vp_in_nI (by omega) (by decide)
      unfold wX_putAside_2
      rw [hk]
      refine br_f (nI_ge (b := 23) (by omega) (by decide)) ⟨hv, br_c (fun e => ⟨hv, nm_e (go r (by omega) e)⟩) (fun e => nm_r (nI_1 r) (ih (r + 1) (by omega) (fun j z => ?_)))⟩
      by_cases t : j = r
      · rw [t]; exact e
      · exact hj j (by omega)
  exact ⟨23 + 1, loop 23 0 rfl (fun j z => absurd z (Nat.not_lt_zero _))⟩
/-- a page taken out of its frame: nothing that a guest sees changes -/
theorem ev_evict {F : Nat} {c : Nat → Nat → Int32} {g : Nat → Int32} {post : SX → Prop} (h : ri_I F c g fm wh ho me ru rl fv sv au ad) (hp : p < 24) (h1 : fm p = 1)
    (K : ∀ fm' wh' ho' ru' rl' fv' sv' au' ad' : Nat → Int32, ri_I F c g fm' wh' ho' me ru' rl' fv' sv' au' ad' → ¬ fm' p = 1 → (∀ q, q ≠ p → fm' q = fm q ∧ wh' q = wh q) →
      post (f, hd, sc, fm', wh', tc, ho', me, ru', rl', fv', sv', au', ad')) : wpX_evict post (f, hd, sc, fm, wh, tc, ho, me, ru, rl, fv, sv, au, ad) (nI p) := by
  obtain ⟨hg, x, hx, h2, hme⟩ := ri_fr1 h hp h1
  have hF := h.1.2
  have I1 := ri_go1 h hp h1 h2 hx
  unfold wpX_evict
  dsimp only
  refine wk_runs h hp (fun m m1 m4 a b d => ?_) (fun a => ?_)
  · refine br_f (nI_nle (by omega) (by omega)) (wk_sq hp h.2.2.1 (by rw [h1]; decide) (fun r hr hu => wk_sq23 hp hr (by omega) h1 h2 m4 ?_))
    dsimp only
    refine K _ _ _ _ _ _ _ _ _ (ri_cong (ri_put2 (p := p) (x := r) (v := nI m) (a := me (x * 4 + 0)) (b := if 4 ≤ m then 0 else me (x * 4 + m)) I1 hp pk_us hr hu) (fun q hq w hw => ?_) (fun q hq => ?_)) (by rw [pk_us]; decide) (fun q n => ⟨by rw [pk_un n, pk_un n], pk_un n⟩)
    · by_cases e : q = p
      · rw [e, ri_cp_s]
        by_cases z : m ≤ w
        · rw [if_pos (nI_le z (by omega)), if_neg (by omega), ← hme m (by omega)]
          by_cases t : w = m
          · rw [t]
          · exact d w (by omega) hw
        · rw [if_neg (nI_ge (by omega) (by omega)), ← hme 0 (by decide)]
          exact a w (by omega)
      · rw [ri_cp_n e, ri_cp_n e]
    · by_cases e : q = p
      · rw [e, pk_us]; exact hg
      · rw [pk_un e, pk_un e]
  · refine br_t (by decide) (wk_pa hp h.2.2.2.1 (by omega) h1 h2 (fun r ad' hr hu ha hb => ?_))
    dsimp only
    refine K _ _ _ _ _ _ _ _ _ (ri_cong (ri_put3 (p := p) (x := r) I1 hp pk_us hr hu ha) (fun q hq w hw => ?_) (fun q hq => ?_)) (by rw [pk_us]; decide) (fun q n => ⟨by rw [pk_un n, pk_un n], pk_un n⟩)
    · by_cases e : q = p
      · rw [e, ri_cp_s, hb w hw]
        exact hme w hw
      · rw [ri_cp_n e, ri_cp_n e]
    · by_cases e : q = p
      · rw [e, pk_us]; exact hg
      · rw [pk_un e, pk_un e]
end
end
section
/-! freeFrame, takeFrame -/
def ri_fr (F : Nat) (ho : Nat → Int32) (r : Int32) : Prop :=
  (∃ x, x < F ∧ r = nI x ∧ ho x = 0) ∨ (r = -1 ∧ ∀ x, x < F → ¬ ho x = 0)
/-- how many steps the hand wants until page q is out -/
def ri_nd (H : Nat) (tc : Nat → Int32) (q : Nat) : Nat := (if H ≤ q then q - H else q + 24 - H) + 1 + (if tc q = 0 then 0 else 24)
def ri_nx (H : Nat) : Nat := if H + 1 < 24 then H + 1 else 0
theorem ri_nx_lt (H : Nat) : ri_nx H < 24 := by
  unfold ri_nx
  by_cases h : H + 1 < 24
  · rw [if_pos h]; exact h
  · rw [if_neg h]; decide
theorem ri_nd_0 {H q : Nat} {tc : Nat → Int32} (hH : H < 24) (hq : q < 24) : ri_nd H tc q ≤ 48 := by
  unfold ri_nd
  by_cases h : H ≤ q
  · rw [if_pos h]
    by_cases t : tc q = 0
    · rw [if_pos t]; omega
    · rw [if_neg t]; omega
  · rw [if_neg h]
    by_cases t : tc q = 0
    · rw [if_pos t]; omega
    · rw [if_neg t]; omega
theorem ri_nd_pos {H q : Nat} {tc : Nat → Int32} : 1 ≤ ri_nd H tc q := by
  unfold ri_nd
  generalize (if H ≤ q then q - H else q + 24 - H) = a
  generalize (if tc q = 0 then 0 else 24) = b
  omega
theorem ri_nd_n {H q : Nat} {tc tc' : Nat → Int32} (hH : H < 24) (hq : q < 24) (hn : q ≠ H) (ht : tc' q = tc q) : ri_nd (ri_nx H) tc' q + 1 = ri_nd H tc q := by
  unfold ri_nd ri_nx
  rw [ht]
  generalize (if tc q = 0 then 0 else 24) = b
  by_cases z : H + 1 < 24
  · rw [if_pos z]
    by_cases h : H ≤ q
    · rw [if_pos h, if_pos (by omega)]; omega
    · rw [if_neg h, if_neg (by omega)]; omega
  · rw [if_neg z, if_pos (Nat.zero_le _), if_neg (by omega)]
    omega
theorem ri_nd_s {H : Nat} {tc tc' : Nat → Int32} (hH : H < 24) (h1 : ¬ tc H = 0) (h2 : tc' H = 0) : ri_nd (ri_nx H) tc' H + 1 = ri_nd H tc H := by
  unfold ri_nd ri_nx
  rw [if_pos h2, if_neg h1, if_pos (Nat.le_refl H)]
  by_cases z : H + 1 < 24
  · rw [if_pos z, if_neg (by omega)]
    omega
  · rw [if_neg z, if_pos (Nat.zero_le _)]
    omega
section
variable {hd sc : Int32} {fm wh tc ho me ru rl fv sv au ad : Nat → Int32} {F : Nat}
theorem wk_free {post : Int32 → Prop} (hF : F ≤ 16) (K : ∀ r : Int32, ri_fr F ho r → post r) : wpX_freeFrame post (nI F, hd, sc, fm, wh, tc, ho, me, ru, rl, fv, sv, au, ad) := by
  have loop : ∀ d x : Nat, x + d = F → (∀ j, j < x → ¬ ho j = 0) → wX_freeFrame_2 post (nI F) hd sc fm wh tc ho me ru rl fv sv au ad (d + 1) (nI x) := by
    intro d
    induction d with
    | zero =>
      intro x hx hj
      exact br_t (nI_le (by omega) (by omega)) (K _ (Or.inr ⟨rfl, fun j z => hj j (by omega)⟩))
    | succ d ih =>
      intro x hx hj
      have hk : (nI x).toNatClampNeg = x := nI_clamp (by omega)
      unfold wX_freeFrame_2
      rw [hk]
      refine br_f (nI_ge (by omega) (by omega)) ⟨vp_in_nI (by omega) (by decide), br_c (fun e => K _ (Or.inl ⟨x, by omega, rfl, e⟩)) (fun e => nm_r (nI_1 x) (ih (x + 1) (by omega) (fun j z => ?_)))⟩
      by_cases t : j = x
      · rw [t]; exact e
      · exact hj j (by omega)
  exact ⟨F + 1, loop F 0 (Nat.zero_add F) (fun j z => absurd z (Nat.not_lt_zero _))⟩
theorem wk_tk100 {post : Int32 → SX → Prop} {J : Int32 → Int32 → Int32 → Int32 → Int32 → (Nat → Int32) → (Nat → Int32) → (Nat → Int32) → (Nat → Int32) → (Nat → Int32) → (Nat → Int32) → (Nat → Int32) → (Nat → Int32) → (Nat → Int32) → (Nat → Int32) → (Nat → Int32) → Prop} {a b : Int32} {s : Nat} (hF : F ≤ 16)
    (K : ∀ r : Int32, ri_fr F ho r → J r (nI (s + 1)) (nI F) hd sc fm wh tc ho me ru rl fv sv au ad) : wX_takeFrame_100 post J a b (nI s) (nI F) hd sc fm wh tc ho me ru rl fv sv au ad := by
  unfold wX_takeFrame_100
  exact wk_free hF (fun r hr => nm_r (nI_1 s) (K r hr))
theorem wk_tk47 {c : Nat → Nat → Int32} {g : Nat → Int32} {post : Int32 → SX → Prop} {J : Int32 → Int32 → Int32 → Int32 → Int32 → (Nat → Int32) → (Nat → Int32) → (Nat → Int32) → (Nat → Int32) → (Nat → Int32) → (Nat → Int32) → (Nat → Int32) → (Nat → Int32) → (Nat → Int32) → (Nat → Int32) → (Nat → Int32) → Prop} {A B H s : Nat} {z : Int32}
    (h : ri_I F c g fm wh ho me ru rl fv sv au ad) (hA : A < 24) (hB : B < 24) (hH : H < 24)
    (K : ∀ (r : Int32) (fm' wh' tc' ho' ru' rl' fv' sv' au' ad' : Nat → Int32), ri_fr F ho' r → ri_I F c g fm' wh' ho' me ru' rl' fv' sv' au' ad' →
      (∀ q, q < 24 → fm' q = 1 → q ≠ A → q ≠ B → fm q = 1 ∧ ((q ≠ H ∧ tc' q = tc q) ∨ (q = H ∧ ¬ tc q = 0 ∧ tc' q = 0))) → fm' A = fm A → wh' A = wh A →
      J r (nI (s + 1)) (nI F) z sc fm' wh' tc' ho' me ru' rl' fv' sv' au' ad') :
    wX_takeFrame_47 post J (nI A) (nI B) (nI s) (nI H) z (nI F) hd sc fm wh tc ho me ru rl fv sv au ad := by
  have hF := h.1.2
  have hi : vp_in (nI H) 24 := vp_in_nI hH (by decide)
  have hc : (nI H).toNatClampNeg = H := nI_clamp (by omega)
  have same : (∀ q, q < 24 → fm q = 1 → q ≠ A → q ≠ B → q ≠ H) → wX_takeFrame_100 post J (nI A) (nI B) (nI s) (nI F) z sc fm wh tc ho me ru rl fv sv au ad := fun hn =>
    wk_tk100 hF (fun r hr => K r _ _ _ _ _ _ _ _ _ _ hr h (fun q hq e a b => ⟨e, Or.inl ⟨hn q hq e a b, rfl⟩⟩) rfl rfl)
  unfold wX_takeFrame_47
  rw [hc]
  refine ⟨hi, br_c (fun h1 => ?_) (fun h1 => same (fun q hq e _ _ t => h1 (t ▸ e)))⟩
  refine pk_eq H A (fun e => same (fun q hq _ a _ t => a (t.trans e))) (fun nA => ?_)
  refine pk_eq H B (fun e => same (fun q hq _ _ b t => b (t.trans e))) (fun nB => ?_)
  refine ⟨hi, br_c (fun t0 => ?_) (fun t0 => ⟨hi, nm_e ?_⟩)⟩
  · refine ev_evict h hH h1 (fun fm' wh' ho' ru' rl' fv' sv' au' ad' I' n1 hk => ?_)
    refine wk_tk100 hF (fun r hr => K r _ _ _ _ _ _ _ _ _ _ hr I' (fun q hq e a b => ?_) (hk A (fun t => nA t.symm)).1 (hk A (fun t => nA t.symm)).2)
    have n : q ≠ H := fun t => n1 (t ▸ e)
    exact ⟨(hk q n).1.symm.trans e, Or.inl ⟨n, rfl⟩⟩
  · refine wk_tk100 hF (fun r hr => K r _ _ _ _ _ _ _ _ _ _ hr h (fun q hq e a b => ⟨e, ?_⟩) rfl rfl)
    by_cases n : q = H
    · exact Or.inr ⟨n, by rw [n]; exact t0, by rw [n]; exact pk_us⟩
    · exact Or.inl ⟨n, pk_un n⟩
end
section
variable {sc : Int32} {me : Nat → Int32} {F : Nat}
theorem wk_tk8 {c : Nat → Nat → Int32} {g : Nat → Int32} {post : Int32 → SX → Prop} {A B : Nat} {kf kw : Int32} (hA : A < 24) (hB : B < 24)
    (K : ∀ (x H : Nat) (fm wh tc ho ru rl fv sv au ad : Nat → Int32), x < F → H < 24 → ho x = 0 → fm A = kf → wh A = kw → ri_I F c g fm wh ho me ru rl fv sv au ad → post (nI x) (nI F, nI H, sc, fm, wh, tc, ho, me, ru, rl, fv, sv, au, ad)) :
    ∀ (d s H : Nat) (r : Int32) (fm wh tc ho ru rl fv sv au ad : Nat → Int32), s + d = 48 → H < 24 → ri_I F c g fm wh ho me ru rl fv sv au ad → ri_fr F ho r → fm A = kf → wh A = kw →
      (∀ q, q < 24 → fm q = 1 → q ≠ A → q ≠ B → s + ri_nd H tc q ≤ 48) →
      wX_takeFrame_8 post (nI A) (nI B) (d + 1) r (nI s) (nI F) (nI H) sc fm wh tc ho me ru rl fv sv au ad := by
  have done : ∀ (n s H x : Nat) (fm wh tc ho ru rl fv sv au ad : Nat → Int32), x < F → s < 72 → H < 24 → ri_I F c g fm wh ho me ru rl fv sv au ad → ho x = 0 → fm A = kf → wh A = kw →
      wX_takeFrame_8 post (nI A) (nI B) (n + 1) (nI x) (nI s) (nI F) (nI H) sc fm wh tc ho me ru rl fv sv au ad := by
    intro n s H x fm wh tc ho ru rl fv sv au ad hx hs hH h h0 e1 e2
    have hF := h.1.2
    exact br_f (nI_ge (b := 72) hs (by decide)) (br_t (nI_pos' (by omega)) (br_t (nI_pos' (by omega)) (K x H fm wh tc ho ru rl fv sv au ad hx hH h0 e1 e2 h)))
  intro d
  induction d with
  | zero =>
    intro s H r fm wh tc ho ru rl fv sv au ad hs hH h hr e1 e2 hq
    rcases hr with ⟨x, hx, rfl, h0⟩ | ⟨rfl, hall⟩
    · exact done 0 s H x fm wh tc ho ru rl fv sv au ad hx (by omega) hH h h0 e1 e2
    · obtain ⟨q, q1, q2, q3, q4⟩ := ri_third h hall A B
      have z := hq q q1 q2 q3 q4
      have y := ri_nd_pos (H := H) (q := q) (tc := tc)
      omega
  | succ d ih =>
    intro s H r fm wh tc ho ru rl fv sv au ad hs hH h hr e1 e2 hq
    rcases hr with ⟨x, hx, rfl, h0⟩ | ⟨rfl, hall⟩
    · exact done (d + 1) s H x fm wh tc ho ru rl fv sv au ad hx (by omega) hH h h0 e1 e2
    · have step : wX_takeFrame_47 post (wX_takeFrame_8 post (nI A) (nI B) (d + 1)) (nI A) (nI B) (nI s) (nI H) (nI (ri_nx H)) (nI F) (nI H) sc fm wh tc ho me ru rl fv sv au ad := by
        refine wk_tk47 h hA hB hH (fun r fm' wh' tc' ho' ru' rl' fv' sv' au' ad' hr' I' hk a1 a2 => ?_)
        refine ih (s + 1) (ri_nx H) r fm' wh' tc' ho' ru' rl' fv' sv' au' ad' (by omega) (ri_nx_lt H) I' hr' (a1.trans e1) (a2.trans e2) (fun q q1 q2 q3 q4 => ?_)
        obtain ⟨b1, b2⟩ := hk q q1 q2 q3 q4
        have z := hq q q1 b1 q3 q4
        rcases b2 with ⟨t1, t2⟩ | ⟨t1, t2, t3⟩
        · have y := ri_nd_n hH q1 t1 t2
          omega
        · subst t1
          have y := ri_nd_s hH t2 t3
          omega
      refine br_f (nI_ge (b := 72) (by omega) (by decide)) (br_f (by decide) ?_)
      rw [nI_1]
      by_cases z : H + 1 < 24
      · refine br_f (nI_ge (b := 24) z (by decide)) ?_
        rw [show ri_nx H = H + 1 from if_pos z] at step
        exact step
      · refine br_t (nI_le (a := 24) (by omega) (by omega)) ?_
        rw [show ri_nx H = 0 from if_neg z] at step
        exact step
end
section
variable {sc : Int32} {fm wh tc ho me ru rl fv sv au ad : Nat → Int32} {F : Nat}
/-- a free frame: what a guest sees doesn't change, nor page A -/
theorem ev_take {c : Nat → Nat → Int32} {g : Nat → Int32} {post : Int32 → SX → Prop} {A B H : Nat} (h : ri_I F c g fm wh ho me ru rl fv sv au ad) (hA : A < 24) (hB : B < 24) (hH : H < 24)
    (K : ∀ (x H' : Nat) (fm' wh' tc' ho' ru' rl' fv' sv' au' ad' : Nat → Int32), x < F → H' < 24 → ho' x = 0 → fm' A = fm A → wh' A = wh A →
      ri_I F c g fm' wh' ho' me ru' rl' fv' sv' au' ad' → post (nI x) (nI F, nI H', sc, fm', wh', tc', ho', me, ru', rl', fv', sv', au', ad')) : wpX_takeFrame post (nI F, nI H, sc, fm, wh, tc, ho, me, ru, rl, fv, sv, au, ad) (nI A) (nI B) := by
  unfold wpX_takeFrame
  dsimp only
  refine wk_free h.1.2 (fun r hr => ⟨48 + 1, ?_⟩)
  exact wk_tk8 hA hB K 48 0 H r fm wh tc ho ru rl fv sv au ad rfl hH h hr rfl rfl (fun q q1 _ _ _ => by
    have := ri_nd_0 (tc := tc) hH q1
    omega)
end
end
section
/-! bringIn, own -/
section
variable {sc : Int32} {F : Nat}
theorem wk_br28 {c : Nat → Nat → Int32} {g : Nat → Int32} {hd : Int32} {fm wh tc ho ru rl fv sv au ad : Nat → Int32} {post : SX → Prop} {p x : Nat}
    (hp : p < 24) (hx : x < F) (hfm : ¬ fm p = 1) (h0 : ho x = 0)
    (K : ∀ fm' wh' ho' me' ru' au' : Nat → Int32, fm' p = 1 → ri_I F c (upd g p 0) fm' wh' ho' me' ru' rl fv sv au' ad → post (nI F, hd, sc, fm', wh', tc, ho', me', ru', rl, fv, sv, au', ad)) :
    ∀ (d w : Nat) (me : Nat → Int32), w + d = 4 → ri_I F c g fm wh ho me ru rl fv sv au ad → (∀ j, j < w → me (x * 4 + j) = c p j) →
      wX_bringIn_28 post (nI p) (nI x) (nI F) hd sc (d + 1) (nI w) fm wh tc ho me ru rl fv sv au ad := by
  have hi : vp_in (nI p) 24 := vp_in_nI hp (by decide)
  have hc : (nI p).toNatClampNeg = p := nI_clamp (by omega)
  intro d
  induction d with
  | zero =>
    intro w me hw h hb
    have hF := h.1.2
    have hj : vp_in (nI x) 16 := vp_in_nI (by omega) (by decide)
    have hk : (nI x).toNatClampNeg = x := nI_clamp (by omega)
    unfold wX_bringIn_28
    rw [hc, hk]
    refine br_t (nI_le (a := 4) (by omega) (by omega)) (ev_go h hp (fun ho' ru' au' I' e => ?_))
    have e' := e hfm
    subst e'
    have I2 := ri_put1 (p := p) (x := x) I' hp pk_us hx
    rw [h0] at I2
    refine ⟨hj, nm_e ⟨hi, nm_e ⟨hi, nm_e (K _ _ _ _ _ _ pk_us (ri_cong I2 (fun q hq v hv => ?_) (fun q hq => ?_)))⟩⟩⟩
    · by_cases t : q = p
      · rw [t, ri_cp_s]
        exact (hb v (by omega)).symm
      · rw [ri_cp_n t, ri_cp_n t]
    · by_cases t : q = p
      · rw [t, pk_us, pk_us]
      · rw [pk_un t, pk_un t, pk_un t]
  | succ d ih =>
    intro w me hw h hb
    have hF := h.1.2
    have hk : (nI (x * 4 + w)).toNatClampNeg = x * 4 + w := nI_clamp (by omega)
    unfold wX_bringIn_28
    rw [ri_ix, hk]
    refine br_f (nI_ge (b := 4) (by omega) (by decide)) (wk_pk h hp (by omega) ⟨vp_in_nI (by omega) (by decide), nm_e (nm_r (nI_1 w) (ih (w + 1) _ (by omega) (ri_mem0 h hx h0 (fun j z => pk_un ?_)) (fun j z => ?_)))⟩)
    · omega
    · by_cases t : j = w
      · rw [t]; exact pk_us
      · rw [pk_un (by omega)]
        exact hb j (by omega)
theorem ev_bring {c : Nat → Nat → Int32} {g fm wh tc ho me ru rl fv sv au ad : Nat → Int32} {post : SX → Prop} {p k H : Nat}
    (h : ri_I F c g fm wh ho me ru rl fv sv au ad) (hp : p < 24) (hk : k < 24) (hH : H < 24)
    (K : ∀ (H' : Nat) (fm' wh' tc' ho' me' ru' rl' fv' sv' au' ad' : Nat → Int32), H' < 24 → fm' p = 1 → ri_I F c (upd g p 0) fm' wh' ho' me' ru' rl' fv' sv' au' ad' →
      post (nI F, nI H', sc, fm', wh', tc', ho', me', ru', rl', fv', sv', au', ad')) : wpX_bringIn post (nI F, nI H, sc, fm, wh, tc, ho, me, ru, rl, fv, sv, au, ad) (nI p) (nI k) := by
  have hi : vp_in (nI p) 24 := vp_in_nI hp (by decide)
  have hc : (nI p).toNatClampNeg = p := nI_clamp (by omega)
  unfold wpX_bringIn
  dsimp only
  rw [hc]
  refine ⟨hi, nm_e ⟨hi, br_c (fun e => ?_) (fun e => ?_)⟩⟩
  · refine K _ _ _ _ _ _ _ _ _ _ _ _ hH e (ri_cong h (fun _ _ _ _ => rfl) (fun q hq => ?_))
    by_cases t : q = p
    · rw [t, pk_us]
      exact (ri_fr1 h hp e).1.symm
    · exact pk_un t
  · refine ev_take h hp hk hH (fun x H' fm' wh' tc' ho' ru' rl' fv' sv' au' ad' hx hH' h0 e1 e2 I' => ?_)
    dsimp only
    refine ⟨4 + 1, ?_⟩
    exact wk_br28 (g := g) hp hx (by rw [e1]; exact e) h0 (fun fm2 wh2 ho2 me2 ru2 au2 a1 I2 => K _ _ _ _ _ _ _ _ _ _ _ _ hH' a1 I2) 4 0 me rfl I' (fun j z => absurd z (Nat.not_lt_zero _))
theorem wk_ow34 {hd : Int32} {fm wh tc ho ru rl fv sv au ad : Nat → Int32} {post : SX → Prop} {p x y : Nat} (me0 : Nat → Int32)
    (hp : p < 24) (hx : x < 16) (hy : y < 16) (hxy : x ≠ y)
    (K : ∀ me : Nat → Int32, (∀ j, j / 4 ≠ y → me j = me0 j) → (∀ j, j < 4 → me (y * 4 + j) = me0 (x * 4 + j)) →
      post (nI F, hd, sc, fm, upd wh p (nI y), tc, upd (upd ho x (ho x - 1)) y 1, me, ru, rl, fv, sv, au, ad)) :
    ∀ (d w : Nat) (me : Nat → Int32), w + d = 4 → (∀ j, j / 4 ≠ y → me j = me0 j) → (∀ j, j < w → me (y * 4 + j) = me0 (x * 4 + j)) →
      wX_own_34 post (nI p) (nI x) (nI y) (nI F) hd sc (d + 1) (nI w) fm wh tc ho me ru rl fv sv au ad := by
  have hi : vp_in (nI p) 24 := vp_in_nI hp (by decide)
  have hc : (nI p).toNatClampNeg = p := nI_clamp (by omega)
  have hix : vp_in (nI x) 16 := vp_in_nI hx (by decide)
  have hcx : (nI x).toNatClampNeg = x := nI_clamp (by omega)
  have hiy : vp_in (nI y) 16 := vp_in_nI hy (by decide)
  have hcy : (nI y).toNatClampNeg = y := nI_clamp (by omega)
  intro d
  induction d with
  | zero =>
    intro w me hw ha hb
    unfold wX_own_34
    rw [hc, hcx, hcy]
    exact br_t (nI_le (a := 4) (by omega) (by omega)) ⟨hix, hix, nm_e ⟨hiy, nm_e ⟨hi, nm_e (K me ha (fun j z => hb j (by omega)))⟩⟩⟩
  | succ d ih =>
    intro w me hw ha hb
    have hk : (nI (x * 4 + w)).toNatClampNeg = x * 4 + w := nI_clamp (by omega)
    have hl : (nI (y * 4 + w)).toNatClampNeg = y * 4 + w := nI_clamp (by omega)
    unfold wX_own_34
    rw [ri_ix, ri_ix, hk, hl]
    refine br_f (nI_ge (b := 4) (by omega) (by decide)) ⟨vp_in_nI (by omega) (by decide), vp_in_nI (by omega) (by decide), nm_e (nm_r (nI_1 w) (ih (w + 1) _ (by omega) (fun j z => ?_) (fun j z => ?_)))⟩
    · rw [pk_un (by omega)]
      exact ha j z
    · by_cases t : j = w
      · rw [t, pk_us]
        exact ha _ (by omega)
      · rw [pk_un (by omega)]
        exact hb j (by omega)
theorem ev_own {c : Nat → Nat → Int32} {g fm wh tc ho me ru rl fv sv au ad : Nat → Int32} {post : SX → Prop} {p H : Nat}
    (h : ri_I F c g fm wh ho me ru rl fv sv au ad) (hp : p < 24) (hH : H < 24)
    (K : ∀ (x H' : Nat) (fm' wh' tc' ho' me' ru' rl' fv' sv' au' ad' : Nat → Int32), H' < 24 → x < F → fm' p = 1 → wh' p = nI x → ho' x = 1 → ri_I F c (upd g p 0) fm' wh' ho' me' ru' rl' fv' sv' au' ad' →
      post (nI F, nI H', sc, fm', wh', tc', ho', me', ru', rl', fv', sv', au', ad')) : wpX_own post (nI F, nI H, sc, fm, wh, tc, ho, me, ru, rl, fv, sv, au, ad) (nI p) := by
  have hi : vp_in (nI p) 24 := vp_in_nI hp (by decide)
  have hc : (nI p).toNatClampNeg = p := nI_clamp (by omega)
  have hF := h.1.2
  unfold wpX_own
  dsimp only
  rw [hc]
  refine ev_bring h hp hp hH (fun H1 fm1 wh1 tc1 ho1 me1 ru1 rl1 fv1 sv1 au1 ad1 hH1 f1 I1 => ?_)
  dsimp only
  obtain ⟨g1, x, hx, w1, c1⟩ := ri_fr1 I1 hp f1
  have hcx : (nI x).toNatClampNeg = x := nI_clamp (by omega)
  refine ⟨hi, nm_r w1 ?_⟩
  rw [hcx]
  refine ⟨vp_in_nI (by omega) (by decide), br_c (fun e => K _ _ _ _ _ _ _ _ _ _ _ _ _ hH1 hx f1 w1 e I1) (fun e => ?_)⟩
  refine ev_take I1 hp hp hH1 (fun y H2 fm2 wh2 tc2 ho2 ru2 rl2 fv2 sv2 au2 ad2 hy hH2 h0 e1 e2 I2 => ?_)
  dsimp only
  refine ⟨4 + 1, ?_⟩
  have f2 : fm2 p = 1 := e1.trans f1
  have w2 : wh2 p = nI x := e2.trans w1
  have hxy : x ≠ y := by
    intro t
    have a := ri_ho0 I2 hy h0
    have b := ri_h_pos hp f2 w2
    rw [t] at b
    omega
  refine wk_ow34 me1 hp (by omega) (by omega) hxy (fun me3 ha hb => ?_) 4 0 me1 rfl (fun _ _ => rfl) (fun j z => absurd z (Nat.not_lt_zero _))
  have I3 := ri_mem0 I2 hy h0 ha
  have I4 := ri_put1 (p := p) (x := y) (ri_go1 I3 hp f2 w2 hx) hp pk_us hy
  have q1 : upd ho2 x (ho2 x - 1) y + 1 = 1 := by
    rw [pk_un (fun t => hxy t.symm), h0]
    rfl
  have q2 : upd (upd fm2 p 0) p 1 = fm2 := by
    funext q
    by_cases t : q = p
    · rw [t, pk_us]; exact f2.symm
    · rw [pk_un t, pk_un t]
  rw [q1, q2] at I4
  refine K y _ _ _ _ _ _ _ _ _ _ _ _ hH2 hy f2 pk_us pk_us (ri_cong I4 (fun q hq v hv => ?_) (fun q hq => ?_))
  · by_cases t : q = p
    · rw [t, ri_cp_s, hb v hv]
      obtain ⟨_, x', hx', w', c'⟩ := ri_fr1 I2 hp f2
      have : x' = x := by
        rw [w2] at w'
        exact (ri_nI (by omega) (by omega) w').symm
      rw [c' v hv, this]
    · rw [ri_cp_n t, ri_cp_n t]
  · by_cases t : q = p
    · rw [t, pk_us, pk_us]
    · rw [pk_un t, pk_un t, pk_un t, pk_un t]
end
end
section
/-! hashOf, equalFrames, merge, scan -/
section
variable {f hd sc : Int32} {fm wh tc ho me ru rl fv sv au ad : Nat → Int32} {p x y : Nat}
theorem wk_hash {post : Int32 → Prop} (hx : x < 16) (K : ∀ r, post r) : wpX_hashOf post (f, hd, sc, fm, wh, tc, ho, me, ru, rl, fv, sv, au, ad) (nI x) := by
  have loop : ∀ (d w : Nat) (r : Int32), w + d = 4 → wX_hashOf_5 post (nI x) f hd sc fm wh tc ho me ru rl fv sv au ad (d + 1) r (nI w) := by
    intro d
    induction d with
    | zero =>
      intro w r hw
      exact br_t (nI_le (a := 4) (by omega) (by omega)) (K r)
    | succ d ih =>
      intro w r hw
      unfold wX_hashOf_5 wpX_mixed
      rw [ri_ix]
      exact br_f (nI_ge (b := 4) (by omega) (by decide)) ⟨vp_in_nI (by omega) (by decide), nm_r (nI_1 w) (ih (w + 1) _ (by omega))⟩
  exact ⟨4 + 1, loop 4 0 7 rfl⟩
theorem wk_eqf {post : Int32 → Prop} (hx : x < 16) (hy : y < 16) (K1 : (∀ w, w < 4 → me (x * 4 + w) = me (y * 4 + w)) → post 1) (K0 : post 0) : wpX_equalFrames post (f, hd, sc, fm, wh, tc, ho, me, ru, rl, fv, sv, au, ad) (nI x) (nI y) := by
  have loop : ∀ (d w : Nat), w + d = 4 → (∀ j, j < w → me (x * 4 + j) = me (y * 4 + j)) → wX_equalFrames_2 post (nI x) (nI y) f hd sc fm wh tc ho me ru rl fv sv au ad (d + 1) (nI w) := by
    intro d
    induction d with
    | zero =>
      intro w hw hj
      exact br_t (nI_le (a := 4) (by omega) (by omega)) (K1 (fun j z => hj j (by omega)))
    | succ d ih =>
      intro w hw hj
      have hk : (nI (x * 4 + w)).toNatClampNeg = x * 4 + w := nI_clamp (by omega)
      have hl : (nI (y * 4 + w)).toNatClampNeg = y * 4 + w := nI_clamp (by omega)
      unfold wX_equalFrames_2
      rw [ri_ix, ri_ix, hk, hl]
      refine br_f (nI_ge (b := 4) (by omega) (by decide)) ⟨vp_in_nI (by omega) (by decide), vp_in_nI (by omega) (by decide), br_c (fun e => nm_r (nI_1 w) (ih (w + 1) (by omega) (fun j z => ?_))) (fun _ => K0)⟩
      by_cases t : j = w
      · rw [t]; exact e
      · exact hj j (by omega)
  exact ⟨4 + 1, loop 4 0 rfl (fun j z => absurd z (Nat.not_lt_zero _))⟩
theorem wk_mg53 {F o : Nat} {c : Nat → Nat → Int32} {g : Nat → Int32} {post : SX → Prop} {J : Int32 → (Nat → Int32) → (Nat → Int32) → (Nat → Int32) → (Nat → Int32) → (Nat → Int32) → (Nat → Int32) → (Nat → Int32) → (Nat → Int32) → (Nat → Int32) → (Nat → Int32) → (Nat → Int32) → Prop} {s z : Int32}
    (h : ri_I F c g fm wh ho me ru rl fv sv au ad) (hp : p < 24) (h1 : fm p = 1) (ho' : o < F) (hx : x < F)
    (K : ∀ wh' ho' : Nat → Int32, ri_I F c g fm wh' ho' me ru rl fv sv au ad → J (nI (x + 1)) fm wh' tc ho' me ru rl fv sv au ad) : wX_merge_53 post J (nI p) (nI o) s (nI x) z f hd sc fm wh tc ho me ru rl fv sv au ad := by
  have hF := h.1.2
  have hi : vp_in (nI p) 24 := vp_in_nI hp (by decide)
  have hc : (nI p).toNatClampNeg = p := nI_clamp (by omega)
  have hix : vp_in (nI x) 16 := vp_in_nI (by omega) (by decide)
  have hcx : (nI x).toNatClampNeg = x := nI_clamp (by omega)
  have hio : vp_in (nI o) 16 := vp_in_nI (by omega) (by decide)
  have hco : (nI o).toNatClampNeg = o := nI_clamp (by omega)
  have nx : ∀ e : Int32, e = nI x + 1 → J e fm wh tc ho me ru rl fv sv au ad := nm_r (nI_1 x) (K _ _ h)
  unfold wX_merge_53
  rw [hc, hcx, hco]
  refine br_c (fun _ => ⟨hi, br_c (fun hw => ?_) (fun _ => nx)⟩) (fun _ => nx)
  refine wk_eqf (by omega) (by omega) (fun he => ?_) (br_t rfl nx)
  refine br_f (by decide) ⟨hio, hio, nm_e ⟨hix, hix, nm_e ⟨hi, nm_e (nm_r (nI_1 x) (K _ _ ?_))⟩⟩⟩
  have hg := (ri_fr1 h hp h1)
  have I2 := ri_put1 (p := p) (x := x) (ri_go1 h hp h1 hw ho') hp pk_us hx
  have q2 : upd (upd fm p 0) p 1 = fm := by
    funext q
    by_cases t : q = p
    · rw [t, pk_us]; exact h1.symm
    · rw [pk_un t, pk_un t]
  rw [q2] at I2
  refine ri_cong I2 (fun q hq v hv => ?_) (fun q hq => ?_)
  · by_cases t : q = p
    · rw [t, ri_cp_s]
      obtain ⟨_, x', hx', w', c'⟩ := hg
      have e : x' = o := by
        rw [hw] at w'
        exact (ri_nI (by omega) (by omega) w').symm
      rw [c' v hv, e]
      exact he v hv
    · rw [ri_cp_n t, ri_cp_n t]
  · by_cases t : q = p
    · rw [t, pk_us]
      exact hg.1
    · rw [pk_un t, pk_un t]
end
section
variable {hd sc : Int32} {F : Nat} {fm tc me ru rl fv sv au ad : Nat → Int32} {p : Nat}
theorem wk_mg16 {o : Nat} {c : Nat → Nat → Int32} {g : Nat → Int32} {post : SX → Prop} {s : Int32} (hp : p < 24) (h1 : fm p = 1) (ho' : o < F)
    (K : ∀ wh ho : Nat → Int32, ri_I F c g fm wh ho me ru rl fv sv au ad → post (nI F, hd, sc, fm, wh, tc, ho, me, ru, rl, fv, sv, au, ad)) :
    ∀ (d x : Nat) (wh ho : Nat → Int32), x + d = F → ri_I F c g fm wh ho me ru rl fv sv au ad → wX_merge_16 post (nI p) (nI o) s (nI F) hd sc (d + 1) (nI x) fm wh tc ho me ru rl fv sv au ad := by
  intro d
  induction d with
  | zero =>
    intro x wh ho hx h
    have hF := h.1.2
    exact br_t (nI_le (by omega) (by omega)) (K wh ho h)
  | succ d ih =>
    intro x wh ho hx h
    have hF := h.1.2
    have go : ∀ z : Int32, wX_merge_53 post (wX_merge_16 post (nI p) (nI o) s (nI F) hd sc (d + 1)) (nI p) (nI o) s (nI x) z (nI F) hd sc fm wh tc ho me ru rl fv sv au ad := fun z =>
      wk_mg53 h hp h1 ho' (by omega) (fun wh' ho'' I' => ih (x + 1) wh' ho'' (by omega) I')
    unfold wX_merge_16 wX_merge_50
    refine br_f (nI_ge (by omega) (by omega)) (br_c (fun _ => go _) (fun _ => ⟨vp_in_nI (by omega) (by decide), br_c (fun _ => go _) (fun _ => ?_)⟩))
    exact wk_hash (by omega) (fun r => go r)
theorem ev_merge {c : Nat → Nat → Int32} {g wh ho : Nat → Int32} {post : SX → Prop} (h : ri_I F c g fm wh ho me ru rl fv sv au ad) (hp : p < 24) (h1 : fm p = 1)
    (K : ∀ wh' ho' : Nat → Int32, ri_I F c g fm wh' ho' me ru rl fv sv au ad → post (nI F, hd, sc, fm, wh', tc, ho', me, ru, rl, fv, sv, au, ad)) : wpX_merge post (nI F, hd, sc, fm, wh, tc, ho, me, ru, rl, fv, sv, au, ad) (nI p) := by
  have hF := h.1.2
  have hi : vp_in (nI p) 24 := vp_in_nI hp (by decide)
  have hc : (nI p).toNatClampNeg = p := nI_clamp (by omega)
  obtain ⟨_, o, ho', hw, _⟩ := ri_fr1 h hp h1
  unfold wpX_merge
  dsimp only
  rw [hc]
  refine ⟨hi, nm_r hw (wk_hash (by omega) (fun r => ⟨F + 1, ?_⟩))⟩
  exact wk_mg16 hp h1 ho' K F 0 wh ho (Nat.zero_add F) h
end
section
variable {hd : Int32} {F : Nat} {me : Nat → Int32}
theorem wk_sc40 {c : Nat → Nat → Int32} {g : Nat → Int32} {post : SX → Prop} {sc : Int32} {fm wh tc ho ru rl fv sv au ad : Nat → Int32} {J : Int32 → Int32 → Int32 → Int32 → (Nat → Int32) → (Nat → Int32) → (Nat → Int32) → (Nat → Int32) → (Nat → Int32) → (Nat → Int32) → (Nat → Int32) → (Nat → Int32) → (Nat → Int32) → (Nat → Int32) → (Nat → Int32) → Prop} {v z : Int32} {i S : Nat}
    (h : ri_I F c g fm wh ho me ru rl fv sv au ad) (hS : S < 24)
    (K : ∀ fm' wh' tc' ho' ru' rl' fv' sv' au' ad' : Nat → Int32, ri_I F c g fm' wh' ho' me ru' rl' fv' sv' au' ad' → J (nI (i + 1)) (nI F) hd z fm' wh' tc' ho' me ru' rl' fv' sv' au' ad') :
    wX_scan_40 post J v (nI i) (nI S) z (nI F) hd sc fm wh tc ho me ru rl fv sv au ad := by
  have hi : vp_in (nI S) 24 := vp_in_nI hS (by decide)
  have hc : (nI S).toNatClampNeg = S := nI_clamp (by omega)
  unfold wX_scan_40
  rw [hc]
  refine ⟨hi, br_c (fun h1 => ?_) (fun h1 => nm_r (nI_1 i) (K _ _ _ _ _ _ _ _ _ _ h))⟩
  refine ev_merge h hS h1 (fun wh1 ho1 I1 => ⟨hi, br_c (fun t => ?_) (fun t => ⟨hi, nm_e (nm_r (nI_1 i) (K _ _ _ _ _ _ _ _ _ _ I1))⟩)⟩)
  exact ev_evict I1 hS h1 (fun fm' wh' ho' ru' rl' fv' sv' au' ad' I' _ _ => ⟨hi, nm_e (nm_r (nI_1 i) (K _ _ _ _ _ _ _ _ _ _ I'))⟩)
theorem ev_scan {c : Nat → Nat → Int32} {g fm wh tc ho ru rl fv sv au ad : Nat → Int32} {post : SX → Prop} {v : Int32} {S : Nat} (h : ri_I F c g fm wh ho me ru rl fv sv au ad) (hS : S < 24)
    (K : ∀ (S' : Nat) (fm' wh' tc' ho' ru' rl' fv' sv' au' ad' : Nat → Int32), S' < 24 → ri_I F c g fm' wh' ho' me ru' rl' fv' sv' au' ad' → post (nI F, hd, nI S', fm', wh', tc', ho', me, ru', rl', fv', sv', au', ad')) :
    wpX_scan post (nI F, hd, nI S, fm, wh, tc, ho, me, ru, rl, fv, sv, au, ad) v := by
  have loop : ∀ (d i S : Nat) (fm wh tc ho ru rl fv sv au ad : Nat → Int32), i + d = 24 → S < 24 → ri_I F c g fm wh ho me ru rl fv sv au ad → wX_scan_2 post v (d + 1) (nI i) (nI F) hd (nI S) fm wh tc ho me ru rl fv sv au ad := by
    intro d
    induction d with
    | zero =>
      intro i S fm wh tc ho ru rl fv sv au ad hi hS h
      exact br_c (fun _ => K _ _ _ _ _ _ _ _ _ _ _ hS h) (fun _ => br_t (nI_le (a := 24) (by omega) (by omega)) (K _ _ _ _ _ _ _ _ _ _ _ hS h))
    | succ d ih =>
      intro i S fm wh tc ho ru rl fv sv au ad hi hS h
      have step : wX_scan_40 post (wX_scan_2 post v (d + 1)) v (nI i) (nI S) (nI (ri_nx S)) (nI F) hd (nI S) fm wh tc ho me ru rl fv sv au ad :=
        wk_sc40 h hS (fun fm' wh' tc' ho' ru' rl' fv' sv' au' ad' I' => ih (i + 1) (ri_nx S) fm' wh' tc' ho' ru' rl' fv' sv' au' ad' (by omega) (ri_nx_lt S) I')
      refine br_c (fun _ => K _ _ _ _ _ _ _ _ _ _ _ hS h) (fun _ => br_f (nI_ge (b := 24) (by omega) (by decide)) ?_)
      rw [nI_1]
      by_cases z : S + 1 < 24
      · refine br_f (nI_ge (b := 24) z (by decide)) ?_
        rw [show ri_nx S = S + 1 from if_pos z] at step
        exact step
      · refine br_t (nI_le (a := 24) (by omega) (by omega)) ?_
        rw [show ri_nx S = 0 from if_neg z] at step
        exact step
  exact ⟨24 + 1, loop 24 0 S fm wh tc ho ru rl fv sv au ad rfl hS h⟩
end
end
section
/-! guards; the reference's walks -/
theorem ri_ix0 (x : Nat) : nI x * 4 = nI (x * 4) := by
  rw [← pk_mul]
  rfl
theorem ri_nlt0 {v : Int32} {n : Nat} (hn : n < 2 ^ 31) (h : nI n ≤ v) : ¬ v < 0 := by
  rw [Int32.le_iff_toInt_le, nI_toInt hn] at h
  rw [Int32.lt_iff_toInt_lt, show (0 : Int32).toInt = 0 from by decide]
  omega
theorem ri_nle3 {v : Int32} (h : nI 4 ≤ v) : ¬ v ≤ 3 := by
  rw [Int32.le_iff_toInt_le, nI_toInt (by decide)] at h
  rw [Int32.le_iff_toInt_le, show (3 : Int32).toInt = 3 from by decide]
  omega
def ri_bad (v : Int32) : Prop := v < 0 ∨ nI 24 ≤ v
theorem ri_pg (v : Int32) : ri_bad v ∨ ∃ p, p < 24 ∧ v = nI p := by
  rcases pk_ix v (n := 24) (by decide) with a | a | a
  · exact Or.inl (Or.inl a)
  · exact Or.inl (Or.inr a)
  · exact Or.inr a
theorem wk_bad1 {post : Int32 → Prop} {v : Int32} (h : ri_bad v) (K : post 1) : wpX_bad post v := by
  rcases h with h | h
  · exact br_t h K
  · exact br_f (ri_nlt0 (by decide) h) (br_f (Int32.not_lt.mpr h) K)
theorem wk_bad0 {post : Int32 → Prop} {p : Nat} (hp : p < 24) (K : post 0) : wpX_bad post (nI p) :=
  br_f (nI_pos (by omega)) (br_t (nI_lt (b := 24) hp (by decide)) K)
section
variable {wd re : Nat → Int32} {p a b : Nat}
theorem yk_isp0 {post : Int32 → Prop} {v : Int32} (h : ri_bad v) (K : post 0) : wpY_isPage post (wd, re) v := by
  rcases h with h | h
  · exact br_t h K
  · exact br_f (ri_nlt0 (by decide) h) (br_t h K)
theorem yk_isp1 {post : Int32 → Prop} (hp : p < 24) (K : post 1) : wpY_isPage post (wd, re) (nI p) :=
  br_f (nI_pos (by omega)) (br_f (nI_ge (b := 24) hp (by decide)) K)
theorem yk_fill {post : Int32 → SY → Prop} {v : Int32} (hp : p < 24)
    (K : ∀ wd' : Nat → Int32, (∀ q j, j < 4 → wd' (q * 4 + j) = if q = p then v else wd (q * 4 + j)) → post 0 (wd', upd re p 0)) : wpY_fill post (wd, re) (nI p) v := by
  have hi : vp_in (nI p) 24 := vp_in_nI hp (by decide)
  have hc : (nI p).toNatClampNeg = p := nI_clamp (by omega)
  have loop : ∀ (d w : Nat) (wd' : Nat → Int32), w + d = 4 → (∀ q j, j < 4 → wd' (q * 4 + j) = if q = p ∧ j < w then v else wd (q * 4 + j)) → wY_fill_12 post (nI p) v (d + 1) (nI w) wd' re := by
    intro d
    induction d with
    | zero =>
      intro w wd' hw h
      unfold wY_fill_12
      rw [hc]
      refine br_t (nI_le (a := 4) (by omega) (by omega)) ⟨hi, nm_e (K wd' (fun q j hj => ?_))⟩
      rw [h q j hj]
      by_cases t : q = p
      · rw [if_pos t, if_pos ⟨t, by omega⟩]
      · rw [if_neg t, if_neg (fun z => t z.1)]
    | succ d ih =>
      intro w wd' hw h
      have hk : (nI (p * 4 + w)).toNatClampNeg = p * 4 + w := nI_clamp (by omega)
      unfold wY_fill_12
      rw [ri_ix, hk]
      refine br_f (nI_ge (b := 4) (by omega) (by decide)) ⟨vp_in_nI (by omega) (by decide), nm_e (nm_r (nI_1 w) (ih (w + 1) _ (by omega) (fun q j hj => ?_)))⟩
      by_cases t : q = p ∧ j = w
      · rw [t.1, t.2, pk_us, if_pos ⟨rfl, by omega⟩]
      · rw [pk_un (by omega), h q j hj]
        by_cases s : q = p ∧ j < w
        · rw [if_pos s, if_pos ⟨s.1, by omega⟩]
        · rw [if_neg s, if_neg (by omega)]
  unfold wpY_fill
  dsimp only
  refine yk_isp1 hp (br_f (by decide) ⟨4 + 1, loop 4 0 wd rfl (fun q j hj => ?_)⟩)
  rw [if_neg (by omega)]
theorem yk_copy {post : Int32 → SY → Prop} (ha : a < 24) (hb : b < 24)
    (K : ∀ wd' : Nat → Int32, (∀ q j, j < 4 → wd' (q * 4 + j) = if q = b then wd (a * 4 + j) else wd (q * 4 + j)) → post 0 (wd', upd re b (vp_nar .boolean (re a)))) : wpY_copy post (wd, re) (nI a) (nI b) := by
  have hia : vp_in (nI a) 24 := vp_in_nI ha (by decide)
  have hca : (nI a).toNatClampNeg = a := nI_clamp (by omega)
  have hib : vp_in (nI b) 24 := vp_in_nI hb (by decide)
  have hcb : (nI b).toNatClampNeg = b := nI_clamp (by omega)
  have loop : ∀ (d w : Nat) (wd' : Nat → Int32), w + d = 4 → (∀ q j, j < 4 → wd' (q * 4 + j) = if q = b ∧ j < w then wd (a * 4 + j) else wd (q * 4 + j)) → wY_copy_20 post (nI a) (nI b) (d + 1) (nI w) wd' re := by
    intro d
    induction d with
    | zero =>
      intro w wd' hw h
      unfold wY_copy_20
      rw [hca, hcb]
      refine br_t (nI_le (a := 4) (by omega) (by omega)) ⟨hia, hib, nm_e (K wd' (fun q j hj => ?_))⟩
      rw [h q j hj]
      by_cases t : q = b
      · rw [if_pos t, if_pos ⟨t, by omega⟩]
      · rw [if_neg t, if_neg (fun z => t z.1)]
    | succ d ih =>
      intro w wd' hw h
      have hk : (nI (a * 4 + w)).toNatClampNeg = a * 4 + w := nI_clamp (by omega)
      have hl : (nI (b * 4 + w)).toNatClampNeg = b * 4 + w := nI_clamp (by omega)
      unfold wY_copy_20
      rw [ri_ix, ri_ix, hk, hl]
      refine br_f (nI_ge (b := 4) (by omega) (by decide)) ⟨vp_in_nI (by omega) (by decide), vp_in_nI (by omega) (by decide), nm_e (nm_r (nI_1 w) (ih (w + 1) _ (by omega) (fun q j hj => ?_)))⟩
      by_cases t : q = b ∧ j = w
      · rw [t.1, t.2, pk_us, if_pos ⟨rfl, by omega⟩, h a w (by omega), if_neg (by omega)]
      · rw [pk_un (by omega), h q j hj]
        by_cases s : q = b ∧ j < w
        · rw [if_pos s, if_pos ⟨s.1, by omega⟩]
        · rw [if_neg s, if_neg (by omega)]
  unfold wpY_copy
  dsimp only
  refine yk_isp1 ha (br_f (by decide) (yk_isp1 hb (br_f (by decide) ⟨4 + 1, loop 4 0 wd rfl (fun q j hj => ?_)⟩)))
  rw [if_neg (by omega)]
theorem yk_swap {post : Int32 → SY → Prop} (ha : a < 24) (hb : b < 24)
    (K : ∀ wd' : Nat → Int32, (∀ q j, j < 4 → wd' (q * 4 + j) = wd (ri_sw a b q * 4 + j)) → post 0 (wd', upd (upd re a (vp_nar .boolean (re b))) b (vp_nar .boolean (re a)))) : wpY_swap post (wd, re) (nI a) (nI b) := by
  have hia : vp_in (nI a) 24 := vp_in_nI ha (by decide)
  have hca : (nI a).toNatClampNeg = a := nI_clamp (by omega)
  have hib : vp_in (nI b) 24 := vp_in_nI hb (by decide)
  have hcb : (nI b).toNatClampNeg = b := nI_clamp (by omega)
  have loop : ∀ (d w : Nat) (wd' : Nat → Int32), w + d = 4 → (∀ q j, j < 4 → wd' (q * 4 + j) = if j < w then wd (ri_sw a b q * 4 + j) else wd (q * 4 + j)) → wY_swap_20 post (nI a) (nI b) (d + 1) (nI w) wd' re := by
    intro d
    induction d with
    | zero =>
      intro w wd' hw h
      unfold wY_swap_20
      rw [hca, hcb]
      refine br_t (nI_le (a := 4) (by omega) (by omega)) ⟨hia, nm_e ⟨hib, hia, nm_e ⟨hib, nm_e (K wd' (fun q j hj => ?_))⟩⟩⟩
      rw [h q j hj, if_pos (by omega)]
    | succ d ih =>
      intro w wd' hw h
      have hk : (nI (a * 4 + w)).toNatClampNeg = a * 4 + w := nI_clamp (by omega)
      have hl : (nI (b * 4 + w)).toNatClampNeg = b * 4 + w := nI_clamp (by omega)
      have va : vp_in (nI (a * 4 + w)) 96 := vp_in_nI (by omega) (by decide)
      have vb : vp_in (nI (b * 4 + w)) 96 := vp_in_nI (by omega) (by decide)
      unfold wY_swap_20
      rw [ri_ix, ri_ix, hk, hl]
      refine br_f (nI_ge (b := 4) (by omega) (by decide)) ⟨va, nm_e ⟨vb, va, nm_e ⟨vb, nm_e (nm_r (nI_1 w) (ih (w + 1) _ (by omega) (fun q j hj => ?_)))⟩⟩⟩
      by_cases t : q = b ∧ j = w
      · rw [t.1, t.2, pk_us, if_pos (by omega), h a w (by omega), if_neg (by omega), ri_sw_b]
      · rw [pk_un (by omega)]
        by_cases s : q = a ∧ j = w
        · rw [s.1, s.2, pk_us, if_pos (by omega), h b w (by omega), if_neg (by omega), ri_sw_a]
        · rw [pk_un (by omega), h q j hj]
          by_cases u : j < w
          · rw [if_pos u, if_pos (by omega)]
          · rw [if_neg u]
            by_cases z : j < w + 1
            · rw [if_pos z, ri_sw_n (by omega) (by omega)]
            · rw [if_neg z]
  unfold wpY_swap
  dsimp only
  refine yk_isp1 ha (br_f (by decide) (yk_isp1 hb (br_f (by decide) ⟨4 + 1, loop 4 0 wd rfl (fun q j hj => ?_)⟩)))
  rw [if_neg (by omega)]
theorem yk_held {post : Int32 → Prop} (hp : p < 24) (K1 : re p = 0 → post 1) (K0 : ¬ re p = 0 → post 0) : wpY_held post (wd, re) (nI p) := by
  have hi : vp_in (nI p) 24 := vp_in_nI hp (by decide)
  have hc : (nI p).toNatClampNeg = p := nI_clamp (by omega)
  unfold wpY_held
  dsimp only
  rw [hc]
  exact yk_isp1 hp (br_f (by decide) ⟨hi, br_c K1 K0⟩)
theorem yk_same {post : Int32 → Prop} (ha : a < 24) (hb : b < 24) (K1 : (∀ w, w < 4 → wd (a * 4 + w) = wd (b * 4 + w)) → post 1) (K0 : ¬ (∀ w, w < 4 → wd (a * 4 + w) = wd (b * 4 + w)) → post 0) : wpY_same post (wd, re) (nI a) (nI b) := by
  have loop : ∀ (d w : Nat), w + d = 4 → (∀ j, j < w → wd (a * 4 + j) = wd (b * 4 + j)) → wY_same_20 post (nI a) (nI b) wd re (d + 1) (nI w) := by
    intro d
    induction d with
    | zero =>
      intro w hw h
      exact br_t (nI_le (a := 4) (by omega) (by omega)) (K1 (fun j z => h j (by omega)))
    | succ d ih =>
      intro w hw h
      have hk : (nI (a * 4 + w)).toNatClampNeg = a * 4 + w := nI_clamp (by omega)
      have hl : (nI (b * 4 + w)).toNatClampNeg = b * 4 + w := nI_clamp (by omega)
      unfold wY_same_20
      rw [ri_ix, ri_ix, hk, hl]
      refine br_f (nI_ge (b := 4) (by omega) (by decide)) ⟨vp_in_nI (by omega) (by decide), vp_in_nI (by omega) (by decide), br_c (fun e => nm_r (nI_1 w) (ih (w + 1) (by omega) (fun j z => ?_))) (fun e => K0 (fun z => e (z w (by omega))))⟩
      by_cases t : j = w
      · rw [t]; exact e
      · exact h j (by omega)
  unfold wpY_same
  dsimp only
  exact yk_isp1 ha (br_f (by decide) (yk_isp1 hb (br_f (by decide) ⟨4 + 1, loop 4 0 rfl (fun j z => absurd z (Nat.not_lt_zero _))⟩)))
end
/-- a held page with a smaller number has the same words -/
def ri_rp (c : Nat → Nat → Int32) (g : Nat → Int32) (p n : Nat) : Prop := ∃ q, q < n ∧ g q = 0 ∧ ∀ w, w < 4 → c q w = c p w
theorem ri_rp_0 {c : Nat → Nat → Int32} {g : Nat → Int32} {p : Nat} : ¬ ri_rp c g p 0 := by
  rintro ⟨q, hq, _⟩
  exact absurd hq (Nat.not_lt_zero _)
theorem ri_rp_s {c : Nat → Nat → Int32} {g : Nat → Int32} {p n : Nat} (h : ¬ ri_rp c g p n) (e : ¬ (g n = 0 ∧ ∀ w, w < 4 → c n w = c p w)) : ¬ ri_rp c g p (n + 1) := by
  rintro ⟨q, hq, a, b⟩
  by_cases t : q = n
  · rw [t] at a b
    exact e ⟨a, b⟩
  · exact h ⟨q, by omega, a, b⟩
theorem yk_again {wd re : Nat → Int32} {p : Nat} {post : Int32 → Prop} (hp : p < 24) (K1 : ri_rp (fun q w => wd (q * 4 + w)) re p p → post 1) (K0 : ¬ ri_rp (fun q w => wd (q * 4 + w)) re p p → post 0) : wpY_again post (wd, re) (nI p) := by
  have loop : ∀ (d q : Nat), q + d = p → ¬ ri_rp (fun q w => wd (q * 4 + w)) re p q → wY_again_2 post (nI p) wd re (d + 1) (nI q) := by
    intro d
    induction d with
    | zero =>
      intro q hq h
      have e : q = p := by omega
      rw [e] at h
      exact br_t (nI_le (by omega) (by omega)) (K0 h)
    | succ d ih =>
      intro q hq h
      have nx : ¬ (re q = 0 ∧ ∀ w, w < 4 → wd (q * 4 + w) = wd (p * 4 + w)) → ∀ y : Int32, y = nI q + 1 → wY_again_2 post (nI p) wd re (d + 1) y := fun e => nm_r (nI_1 q) (ih (q + 1) (by omega) (ri_rp_s h e))
      refine br_f (nI_ge (by omega) (by omega)) (yk_held (by omega) (fun e => br_f (by decide) (yk_same (by omega) hp (fun k => br_f (by decide) (K1 ⟨q, by omega, e, k⟩)) (fun k => br_t rfl (nx (fun z => k z.2))))) (fun e => br_t rfl (nx (fun z => e z.1))))
  exact ⟨p + 1, loop p 0 (Nat.zero_add p) ri_rp_0⟩
end
section
/-! equalPages, repeats; contents, duplicates, plain, sum against the reference -/
section
variable {f hd sc : Int32} {fm wh tc ho me ru rl fv sv au ad : Nat → Int32} {F : Nat}
theorem wk_eqp {c : Nat → Nat → Int32} {g : Nat → Int32} {post : Int32 → Prop} {a b : Nat} (h : ri_I F c g fm wh ho me ru rl fv sv au ad) (ha : a < 24) (hb : b < 24)
    (K1 : (∀ w, w < 4 → c a w = c b w) → post 1) (K0 : ¬ (∀ w, w < 4 → c a w = c b w) → post 0) : wpX_equalPages post (f, hd, sc, fm, wh, tc, ho, me, ru, rl, fv, sv, au, ad) (nI a) (nI b) := by
  have hia : vp_in (nI a) 24 := vp_in_nI ha (by decide)
  have hca : (nI a).toNatClampNeg = a := nI_clamp (by omega)
  have hib : vp_in (nI b) 24 := vp_in_nI hb (by decide)
  have hcb : (nI b).toNatClampNeg = b := nI_clamp (by omega)
  have loop : ∀ (d w : Nat), w + d = 4 → (∀ j, j < w → c a j = c b j) → wX_equalPages_39 post (nI a) (nI b) f hd sc fm wh tc ho me ru rl fv sv au ad (d + 1) (nI w) := by
    intro d
    induction d with
    | zero =>
      intro w hw k
      exact br_t (nI_le (a := 4) (by omega) (by omega)) (K1 (fun j z => k j (by omega)))
    | succ d ih =>
      intro w hw k
      refine br_f (nI_ge (b := 4) (by omega) (by decide)) (wk_pk h ha (by omega) (wk_pk h hb (by omega) ?_))
      refine br_c (fun e => nm_r (nI_1 w) (ih (w + 1) (by omega) (fun j z => ?_))) (fun e => K0 (fun z => e (z w (by omega))))
      by_cases t : j = w
      · rw [t]; exact e
      · exact k j (by omega)
  have go : ∃ n39 : Nat, wX_equalPages_39 post (nI a) (nI b) f hd sc fm wh tc ho me ru rl fv sv au ad n39 0 := ⟨4 + 1, loop 4 0 rfl (fun j z => absurd z (Nat.not_lt_zero _))⟩
  unfold wpX_equalPages
  dsimp only
  rw [hca, hcb]
  refine ⟨hia, br_c (fun e1 => ⟨hib, br_c (fun e2 => ⟨hia, hib, br_c (fun e3 => K1 (fun w hw => ?_)) (fun _ => go)⟩) (fun _ => go)⟩) (fun _ => go)⟩
  obtain ⟨_, x, hx, wx, cx⟩ := ri_fr1 h ha e1
  obtain ⟨_, y, hy, wy, cy⟩ := ri_fr1 h hb e2
  have hF := h.1.2
  rw [wx, wy] at e3
  rw [cx w hw, cy w hw, ri_nI (by omega) (by omega) e3]
theorem wk_rep {c : Nat → Nat → Int32} {g : Nat → Int32} {post : Int32 → Prop} {p : Nat} (h : ri_I F c g fm wh ho me ru rl fv sv au ad) (hp : p < 24)
    (K1 : ri_rp c g p p → post 1) (K0 : ¬ ri_rp c g p p → post 0) : wpX_repeats post (f, hd, sc, fm, wh, tc, ho, me, ru, rl, fv, sv, au, ad) (nI p) := by
  have loop : ∀ (d q : Nat), q + d = p → ¬ ri_rp c g p q → wX_repeats_2 post (nI p) f hd sc fm wh tc ho me ru rl fv sv au ad (d + 1) (nI q) := by
    intro d
    induction d with
    | zero =>
      intro q hq k
      have e : q = p := by omega
      rw [e] at k
      exact br_t (nI_le (by omega) (by omega)) (K0 k)
    | succ d ih =>
      intro q hq k
      have hc : (nI q).toNatClampNeg = q := nI_clamp (by omega)
      have nx : ¬ (g q = 0 ∧ ∀ w, w < 4 → c q w = c p w) → ∀ y : Int32, y = nI q + 1 → wX_repeats_2 post (nI p) f hd sc fm wh tc ho me ru rl fv sv au ad (d + 1) y := fun e => nm_r (nI_1 q) (ih (q + 1) (by omega) (ri_rp_s k e))
      unfold wX_repeats_2
      rw [hc]
      refine br_f (nI_ge (by omega) (by omega)) ⟨vp_in_nI (by omega) (by decide), ?_⟩
      rcases ri_gn h (show q < 24 by omega) with ⟨e, eg, _⟩ | ⟨e, eg⟩
      · exact br_t e (nx (fun z => absurd (eg.symm.trans z.1) (by decide)))
      · exact br_f e (wk_eqp h (by omega) hp (fun y => br_f (by decide) (K1 ⟨q, by omega, eg, y⟩)) (fun y => br_t rfl (nx (fun z => y z.2))))
  exact ⟨p + 1, loop p 0 (Nat.zero_add p) ri_rp_0⟩
theorem lk_cont {wd re : Nat → Int32} (h : ri_I F (fun q w => wd (q * 4 + w)) re fm wh ho me ru rl fv sv au ad) : ∀ (d i : Nat) (n : Int32), i + d = 24 →
    ∃ r : Int32, (∀ post : Int32 → Prop, post r → wX_contents_4 post f hd sc fm wh tc ho me ru rl fv sv au ad (d + 1) n (nI i)) ∧ (∀ post : Int32 → Prop, post r → wY_contents_4 post wd re (d + 1) n (nI i)) := by
  intro d
  induction d with
  | zero =>
    intro i n hi
    have e : (24 : Int32) ≤ nI i := nI_le (a := 24) (by omega) (by omega)
    exact ⟨n, fun post k => br_t e k, fun post k => br_t e k⟩
  | succ d ih =>
    intro i n hi
    have hl : ¬ (24 : Int32) ≤ nI i := nI_ge (b := 24) (by omega) (by decide)
    have hc : (nI i).toNatClampNeg = i := nI_clamp (by omega)
    have hv : vp_in (nI i) 24 := vp_in_nI (by omega) (by decide)
    rcases ri_gn h (show i < 24 by omega) with ⟨e, eg, _⟩ | ⟨e, eg⟩
    · obtain ⟨r, a, b⟩ := ih (i + 1) n (by omega)
      refine ⟨r, fun post k => ?_, fun post k => ?_⟩
      · unfold wX_contents_4
        rw [hc]
        exact br_f hl ⟨hv, br_t e (nm_r (nI_1 i) (a post k))⟩
      · exact br_f hl (yk_held (by omega) (fun z => absurd (eg.symm.trans z) (by decide)) (fun _ => br_t rfl (nm_r (nI_1 i) (b post k))))
    · by_cases t : ri_rp (fun q w => wd (q * 4 + w)) re i i
      · obtain ⟨r, a, b⟩ := ih (i + 1) n (by omega)
        refine ⟨r, fun post k => ?_, fun post k => ?_⟩
        · unfold wX_contents_4
          rw [hc]
          exact br_f hl ⟨hv, br_f e (wk_rep h (by omega) (fun _ => br_f (by decide) (nm_r (nI_1 i) (a post k))) (fun z => absurd t z))⟩
        · exact br_f hl (yk_held (by omega) (fun _ => br_f (by decide) (yk_again (by omega) (fun _ => br_f (by decide) (nm_r (nI_1 i) (b post k))) (fun z => absurd t z))) (fun z => absurd eg z))
      · obtain ⟨r, a, b⟩ := ih (i + 1) (n + 1) (by omega)
        refine ⟨r, fun post k => ?_, fun post k => ?_⟩
        · unfold wX_contents_4
          rw [hc]
          exact br_f hl ⟨hv, br_f e (wk_rep h (by omega) (fun z => absurd z t) (fun _ => br_t rfl (nm_e (nm_r (nI_1 i) (a post k)))))⟩
        · exact br_f hl (yk_held (by omega) (fun _ => br_f (by decide) (yk_again (by omega) (fun z => absurd z t) (fun _ => br_t rfl (nm_e (nm_r (nI_1 i) (b post k)))))) (fun z => absurd eg z))
theorem lk_dup {wd re : Nat → Int32} (h : ri_I F (fun q w => wd (q * 4 + w)) re fm wh ho me ru rl fv sv au ad) : ∀ (d i : Nat) (n : Int32), i + d = 24 →
    ∃ r : Int32, (∀ post : Int32 → Prop, post r → wX_duplicates_4 post f hd sc fm wh tc ho me ru rl fv sv au ad (d + 1) n (nI i)) ∧ (∀ post : Int32 → Prop, post r → wY_duplicates_4 post wd re (d + 1) n (nI i)) := by
  intro d
  induction d with
  | zero =>
    intro i n hi
    have e : (24 : Int32) ≤ nI i := nI_le (a := 24) (by omega) (by omega)
    exact ⟨n, fun post k => br_t e k, fun post k => br_t e k⟩
  | succ d ih =>
    intro i n hi
    have hl : ¬ (24 : Int32) ≤ nI i := nI_ge (b := 24) (by omega) (by decide)
    have hc : (nI i).toNatClampNeg = i := nI_clamp (by omega)
    have hv : vp_in (nI i) 24 := vp_in_nI (by omega) (by decide)
    rcases ri_gn h (show i < 24 by omega) with ⟨e, eg, _⟩ | ⟨e, eg⟩
    · obtain ⟨r, a, b⟩ := ih (i + 1) n (by omega)
      refine ⟨r, fun post k => ?_, fun post k => ?_⟩
      · unfold wX_duplicates_4
        rw [hc]
        exact br_f hl ⟨hv, br_t e (nm_r (nI_1 i) (a post k))⟩
      · exact br_f hl (yk_held (by omega) (fun z => absurd (eg.symm.trans z) (by decide)) (fun _ => br_t rfl (nm_r (nI_1 i) (b post k))))
    · by_cases t : ri_rp (fun q w => wd (q * 4 + w)) re i i
      · obtain ⟨r, a, b⟩ := ih (i + 1) (n + 1) (by omega)
        refine ⟨r, fun post k => ?_, fun post k => ?_⟩
        · unfold wX_duplicates_4
          rw [hc]
          exact br_f hl ⟨hv, br_f e (wk_rep h (by omega) (fun _ => br_f (by decide) (nm_e (nm_r (nI_1 i) (a post k)))) (fun z => absurd t z))⟩
        · exact br_f hl (yk_held (by omega) (fun _ => br_f (by decide) (yk_again (by omega) (fun _ => br_f (by decide) (nm_e (nm_r (nI_1 i) (b post k)))) (fun z => absurd t z))) (fun z => absurd eg z))
      · obtain ⟨r, a, b⟩ := ih (i + 1) n (by omega)
        refine ⟨r, fun post k => ?_, fun post k => ?_⟩
        · unfold wX_duplicates_4
          rw [hc]
          exact br_f hl ⟨hv, br_f e (wk_rep h (by omega) (fun z => absurd z t) (fun _ => br_t rfl (nm_r (nI_1 i) (a post k))))⟩
        · exact br_f hl (yk_held (by omega) (fun _ => br_f (by decide) (yk_again (by omega) (fun z => absurd z t) (fun _ => br_t rfl (nm_r (nI_1 i) (b post k))))) (fun z => absurd eg z))
theorem yk_pl {wd re : Nat → Int32} {post : Int32 → Prop} {J : Int32 → Int32 → Prop} {n : Int32} {p : Nat} (hp : p < 24)
    (K1 : (∀ j, j < 4 → wd (p * 4 + j) = wd (p * 4)) → re p = 0 → J (n + 1) (nI (p + 1)))
    (K0 : ¬ ((∀ j, j < 4 → wd (p * 4 + j) = wd (p * 4)) ∧ re p = 0) → J n (nI (p + 1))) :
    ∀ (d w : Nat) (b : Int32), w + d = 4 → 1 ≤ w → (b = 1 ∧ ∀ j, j < w → wd (p * 4 + j) = wd (p * 4)) ∨ (b = 0 ∧ ¬ ∀ j, j < 4 → wd (p * 4 + j) = wd (p * 4)) →
      wY_plain_15 post J n (nI p) wd re (d + 1) b (nI w) := by
  intro d
  induction d with
  | zero =>
    intro w b hw h1 hb
    refine br_t (nI_le (a := 4) (by omega) (by omega)) ?_
    rcases hb with ⟨rfl, hb⟩ | ⟨rfl, hb⟩
    · refine br_f (by decide) (yk_held hp (fun e => br_f (by decide) (nm_e (nm_r (nI_1 p) (K1 (fun j z => hb j (by omega)) e)))) (fun e => br_t rfl (nm_r (nI_1 p) (K0 (fun z => e z.2)))))
    · exact br_t rfl (nm_r (nI_1 p) (K0 (fun z => hb z.1)))
  | succ d ih =>
    intro w b hw h1 hb
    have hk : (nI (p * 4 + w)).toNatClampNeg = p * 4 + w := nI_clamp (by omega)
    have hl : (nI (p * 4)).toNatClampNeg = p * 4 := nI_clamp (by omega)
    unfold wY_plain_15
    rw [ri_ix, ri_ix0, hk, hl]
    refine br_f (nI_ge (b := 4) (by omega) (by decide)) ?_
    rcases hb with ⟨rfl, hb⟩ | ⟨rfl, hb⟩
    · refine br_f (by decide) ⟨vp_in_nI (by omega) (by decide), vp_in_nI (by omega) (by decide), br_c (fun e => nm_r (nI_1 w) (ih (w + 1) 1 (by omega) (by omega) (Or.inl ⟨rfl, fun j z => ?_⟩))) (fun e => nm_r (nI_1 w) (ih (w + 1) 0 (by omega) (by omega) (Or.inr ⟨rfl, fun z => e (z w (by omega))⟩)))⟩
      by_cases t : j = w
      · rw [t]; exact e
      · exact hb j (by omega)
    · exact br_t rfl (nm_r (nI_1 w) (ih (w + 1) 0 (by omega) (by omega) (Or.inr ⟨rfl, hb⟩)))
theorem lk_plain {wd re : Nat → Int32} (h : ri_I F (fun q w => wd (q * 4 + w)) re fm wh ho me ru rl fv sv au ad) : ∀ (d i : Nat) (n : Int32), i + d = 24 →
    ∃ r : Int32, (∀ post : Int32 → Prop, post r → wX_plain_4 post f hd sc fm wh tc ho me ru rl fv sv au ad (d + 1) n (nI i)) ∧ (∀ post : Int32 → Prop, post r → wY_plain_4 post wd re (d + 1) n (nI i)) := by
  intro d
  induction d with
  | zero =>
    intro i n hi
    have e : (24 : Int32) ≤ nI i := nI_le (a := 24) (by omega) (by omega)
    exact ⟨n, fun post k => br_t e k, fun post k => br_t e k⟩
  | succ d ih =>
    intro i n hi
    have hl : ¬ (24 : Int32) ≤ nI i := nI_ge (b := 24) (by omega) (by decide)
    have hc : (nI i).toNatClampNeg = i := nI_clamp (by omega)
    have hv : vp_in (nI i) 24 := vp_in_nI (by omega) (by decide)
    have st : (1 : Int32) = 1 ∧ ∀ j, j < 1 → wd (i * 4 + j) = wd (i * 4) := ⟨rfl, fun j z => by rw [show j = 0 by omega]; rfl⟩
    rcases ri_gn h (show i < 24 by omega) with ⟨e, eg, _⟩ | ⟨e, eg⟩
    · obtain ⟨r, a, b⟩ := ih (i + 1) n (by omega)
      refine ⟨r, fun post k => ?_, fun post k => ?_⟩
      · unfold wX_plain_4
        rw [hc]
        exact br_f hl ⟨hv, br_t e (nm_r (nI_1 i) (a post k))⟩
      · exact br_f hl ⟨3 + 1, yk_pl (by omega) (fun _ z => absurd (eg.symm.trans z) (by decide)) (fun _ => b post k) 3 1 1 rfl (by decide) (Or.inl st)⟩
    · by_cases t : ∀ j, j < 4 → wd (i * 4 + j) = wd (i * 4)
      · obtain ⟨r, a, b⟩ := ih (i + 1) (n + 1) (by omega)
        refine ⟨r, fun post k => ?_, fun post k => ?_⟩
        · unfold wX_plain_4
          rw [hc]
          refine br_f hl ⟨hv, br_f e (wk_runs h (by omega) (fun m m1 m4 _ k1 _ => ?_) (fun z => absurd t z))⟩
          have m' : m = 4 := Classical.byContradiction (fun z => k1 (by omega) (t m (by omega)))
          rw [m']
          exact br_t rfl (nm_e (nm_r (nI_1 i) (a post k)))
        · exact br_f hl ⟨3 + 1, yk_pl (by omega) (fun _ _ => b post k) (fun z => absurd ⟨t, eg⟩ z) 3 1 1 rfl (by decide) (Or.inl st)⟩
      · obtain ⟨r, a, b⟩ := ih (i + 1) n (by omega)
        refine ⟨r, fun post k => ?_, fun post k => ?_⟩
        · unfold wX_plain_4
          rw [hc]
          refine br_f hl ⟨hv, br_f e (wk_runs h (by omega) (fun m m1 m4 k2 k1 _ => ?_) (fun z => br_f (by decide) (nm_r (nI_1 i) (a post k))))⟩
          have m' : m ≠ 4 := by
            intro z
            rw [z] at k2
            exact t k2
          refine br_f (fun z => m' ((nI_eq (b := 4) (by omega) (by decide)).mp z)) (nm_r (nI_1 i) (a post k))
        · exact br_f hl ⟨3 + 1, yk_pl (by omega) (fun z _ => absurd z t) (fun _ => b post k) 3 1 1 rfl (by decide) (Or.inl st)⟩
end
/-! sums -/
def ri_sum (a : Nat → Int32) : Nat → Nat → Int32 → Int32
  | 0, _, s => s
  | n + 1, i, s => ri_sum a n (i + 1) (s + a i)
theorem ri_sum_add {a : Nat → Int32} : ∀ m n i s, ri_sum a (m + n) i s = ri_sum a n (i + m) (ri_sum a m i s) := by
  intro m
  induction m with
  | zero => intro n i s; rw [Nat.zero_add]; rfl
  | succ m ih =>
    intro n i s
    rw [show m + 1 + n = (m + n) + 1 by omega]
    show ri_sum a (m + n) (i + 1) (s + a i) = ri_sum a n (i + (m + 1)) (ri_sum a m (i + 1) (s + a i))
    rw [ih, show i + 1 + m = i + (m + 1) by omega]
section
variable {f hd sc : Int32} {fm wh tc ho me ru rl fv sv au ad : Nat → Int32} {F : Nat} {wd re : Nat → Int32}
theorem wk_sum32 {post : Int32 → Prop} {J : Int32 → Int32 → Prop} {y : Int32} {p : Nat} (h : ri_I F (fun q w => wd (q * 4 + w)) re fm wh ho me ru rl fv sv au ad) (hp : p < 24) :
    ∀ (d w : Nat) (s : Int32), w + d = 4 → J (ri_sum wd d (p * 4 + w) s) (nI (p + 1)) → wX_sum_32 post J y (nI p) f hd sc fm wh tc ho me ru rl fv sv au ad (d + 1) s (nI w) := by
  intro d
  induction d with
  | zero =>
    intro w s hw K
    exact br_t (nI_le (a := 4) (by omega) (by omega)) (nm_r (nI_1 p) K)
  | succ d ih =>
    intro w s hw K
    exact br_f (nI_ge (b := 4) (by omega) (by decide)) (wk_pk h hp (by omega) (nm_e (nm_r (nI_1 w) (ih (w + 1) _ (by omega) K))))
theorem wk_sum {post : Int32 → Prop} {G : Nat} (h : ri_I F (fun q w => wd (q * 4 + w)) re fm wh ho me ru rl fv sv au ad) (hG : G ≤ 2) (K : post (ri_sum wd 32 (G * 32) 0)) : wpX_sum post (f, hd, sc, fm, wh, tc, ho, me, ru, rl, fv, sv, au, ad) (nI G) := by
  have e8 : nI G * 8 = nI (G * 8) := by rw [← pk_mul]; rfl
  have e88 : nI (G * 8) + 8 = nI (G * 8 + 8) := by rw [← nI_add]; rfl
  have loop : ∀ (d p : Nat) (s : Int32), p + d = G * 8 + 8 → post (ri_sum wd (4 * d) (p * 4) s) → wX_sum_18 post (nI G) f hd sc fm wh tc ho me ru rl fv sv au ad (d + 1) s (nI p) := by
    intro d
    induction d with
    | zero =>
      intro p s hp K
      unfold wX_sum_18
      rw [e8, e88]
      exact br_t (nI_le (by omega) (by omega)) K
    | succ d ih =>
      intro p s hp K
      rw [show 4 * (d + 1) = 4 + 4 * d by omega, ri_sum_add, show p * 4 + 4 = (p + 1) * 4 by omega] at K
      unfold wX_sum_18
      rw [e8, e88]
      exact br_f (nI_ge (by omega) (by omega)) ⟨4 + 1, wk_sum32 h (by omega) 4 0 s rfl (ih (p + 1) _ (by omega) K)⟩
  unfold wpX_sum
  dsimp only
  rw [e8]
  refine br_f (nI_pos (by omega)) (br_t (nI_le (b := 2) hG (by decide)) (nm_e ⟨8 + 1, loop 8 (G * 8) 0 rfl ?_⟩))
  rw [show G * 8 * 4 = G * 32 by omega]
  exact K
theorem yk_skip {post : Int32 → Prop} {v : Int32} : ∀ (d i m : Nat) (s : Int32), i + d + m = 96 → (∀ j, i ≤ j → j < i + d → ¬ nI (j / 32) = v) → wY_sum_4 post v wd re (m + 1) s (nI (i + d)) → wY_sum_4 post v wd re (m + d + 1) s (nI i) := by
  intro d
  induction d with
  | zero => intro i m s _ _ K; exact K
  | succ d ih =>
    intro i m s hi hj K
    have e : nI i / 32 = nI (i / 32) := pk_div (d := 32) (by omega) (by decide) (by decide)
    have n := hj i (Nat.le_refl _) (by omega)
    show wY_sum_4 post v wd re (m + d + 1 + 1) s (nI i)
    unfold wY_sum_4
    rw [e]
    refine br_f (nI_ge (b := 96) (by omega) (by decide)) ⟨by decide, br_f n (nm_r (nI_1 i) (ih (i + 1) m s (by omega) (fun j a b => hj j (by omega) (by omega)) ?_))⟩
    rw [show i + 1 + d = i + (d + 1) by omega]
    exact K
theorem yk_add {post : Int32 → Prop} {v : Int32} : ∀ (d i m : Nat) (s : Int32), i + d + m = 96 → (∀ j, i ≤ j → j < i + d → nI (j / 32) = v) → wY_sum_4 post v wd re (m + 1) (ri_sum wd d i s) (nI (i + d)) → wY_sum_4 post v wd re (m + d + 1) s (nI i) := by
  intro d
  induction d with
  | zero => intro i m s _ _ K; exact K
  | succ d ih =>
    intro i m s hi hj K
    have e : nI i / 32 = nI (i / 32) := pk_div (d := 32) (by omega) (by decide) (by decide)
    have hc : (nI i).toNatClampNeg = i := nI_clamp (by omega)
    have n := hj i (Nat.le_refl _) (by omega)
    show wY_sum_4 post v wd re (m + d + 1 + 1) s (nI i)
    unfold wY_sum_4
    rw [e, hc]
    refine br_f (nI_ge (b := 96) (by omega) (by decide)) ⟨by decide, br_t n ⟨vp_in_nI (by omega) (by decide), nm_e (nm_r (nI_1 i) (ih (i + 1) m _ (by omega) (fun j a b => hj j (by omega) (by omega)) ?_))⟩⟩
    rw [show i + 1 + d = i + (d + 1) by omega]
    exact K
theorem yk_end {post : Int32 → Prop} {v s : Int32} (K : post s) : wY_sum_4 post v wd re (0 + 1) s (nI 96) :=
  br_t (nI_le (a := 96) (Nat.le_refl _) (by decide)) K
theorem yk_sum {post : Int32 → Prop} {G : Nat} (hG : G ≤ 2) (K : post (ri_sum wd 32 (G * 32) 0)) : wpY_sum post (wd, re) (nI G) := by
  have hn : ∀ j, j < 96 → nI (j / 32) = nI G → j / 32 = G := fun j hj e => (nI_eq (by omega) (by omega)).mp e
  refine ⟨(64 - G * 32 + 32) + G * 32 + 1, yk_skip (G * 32) 0 (64 - G * 32 + 32) 0 (by omega) (fun j a b e => by
    have := hn j (by omega) e
    omega) ?_⟩
  rw [Nat.zero_add]
  refine yk_add 32 (G * 32) (64 - G * 32) 0 (by omega) (fun j a b => congrArg nI (by omega)) ?_
  have z := yk_skip (wd := wd) (re := re) (post := post) (v := nI G) (64 - G * 32) (G * 32 + 32) 0 (ri_sum wd 32 (G * 32) 0) (by omega) (fun j a b e => by
    have := hn j (by omega) e
    omega) (by
      rw [show G * 32 + 32 + (64 - G * 32) = 96 by omega]
      exact yk_end K)
  rw [Nat.zero_add] at z
  exact z
theorem yk_sum0 {post : Int32 → Prop} {v : Int32} (h : ∀ j, j < 3 → ¬ nI j = v) (K : post 0) : wpY_sum post (wd, re) v :=
  ⟨0 + 96 + 1, yk_skip 96 0 0 0 rfl (fun j a b => h (j / 32) (by omega)) (yk_end K)⟩
end
end
section
/-! the relation -/
def i_Rel (_ : Nat) (u : SX) (v : SY) : Prop := match u, v with
  | (f, hd, sc, fm, wh, tc, ho, me, ru, rl, fv, sv, au, ad), (wd, re) => ∃ F H S : Nat, f = nI F ∧ hd = nI H ∧ sc = nI S ∧ H < 24 ∧ S < 24 ∧ ri_I F (fun q w => wd (q * 4 + w)) re fm wh ho me ru rl fv sv au ad
theorem i_up {k : Nat} {u : SX} {v : SY} (h : i_Rel k u v) : i_Rel (k + 4) u v := h
theorem rl_mk {k F H S : Nat} {fm wh tc ho me ru rl fv sv au ad wd re : Nat → Int32} (hH : H < 24) (hS : S < 24) (h : ri_I F (fun q w => wd (q * 4 + w)) re fm wh ho me ru rl fv sv au ad) :
    i_Rel k (nI F, nI H, nI S, fm, wh, tc, ho, me, ru, rl, fv, sv, au, ad) (wd, re) := ⟨F, H, S, rfl, rfl, rfl, hH, hS, h⟩
theorem rl_el {k : Nat} {u : SX} {v : SY} {Q : SX → SY → Prop} (I : i_Rel k u v)
    (K : ∀ (F H S : Nat) (fm wh tc ho me ru rl fv sv au ad wd re : Nat → Int32), H < 24 → S < 24 → ri_I F (fun q w => wd (q * 4 + w)) re fm wh ho me ru rl fv sv au ad → Q (nI F, nI H, nI S, fm, wh, tc, ho, me, ru, rl, fv, sv, au, ad) (wd, re)) : Q u v := by
  obtain ⟨f, hd, sc, fm, wh, tc, ho, me, ru, rl, fv, sv, au, ad⟩ := u
  obtain ⟨wd, re⟩ := v
  obtain ⟨F, H, S, rfl, rfl, rfl, hH, hS, h⟩ := I
  exact K F H S fm wh tc ho me ru rl fv sv au ad wd re hH hS h
theorem i_vc0 (k0 : Int32) : wpX_init (fun u => wpY_init (fun v => i_Rel 1 u v) k0) k0 := by
  have loop : ∀ (F : Nat), 4 ≤ F → F ≤ 16 → ∀ (d i : Nat) (fm wh ru rl : Nat → Int32), i + d = 24 → (∀ q, q < i → fm q = 2 ∧ wh q = nI q ∧ ru q = 1 ∧ rl q = 4) →
      wX_init_117 (fun u => wpY_init (fun v => i_Rel 1 u v) k0) (nI F) 0 0 (d + 1) (nI i) fm wh (fun _ => 0) (fun _ => 0) (fun _ => 0) ru rl (fun _ => 0) (fun _ => 0) (fun _ => 0) (fun _ => 0) := by
    intro F h4 h16 d
    induction d with
    | zero =>
      intro i fm wh ru rl hi h
      have h' : ∀ q, q < 24 → fm q = 2 ∧ wh q = nI q ∧ ru q = 1 ∧ rl q = 4 := fun q hq => h q (by omega)
      refine br_t (nI_le (a := 24) (by omega) (by omega)) ?_
      show i_Rel 1 (nI F, nI 0, nI 0, fm, wh, (fun _ => 0), (fun _ => 0), (fun _ => 0), ru, rl, (fun _ => 0), (fun _ => 0), (fun _ => 0), (fun _ => 0)) ((fun _ => 0), (fun _ => 0))
      refine rl_mk (H := 0) (S := 0) (by decide) (by decide) ⟨⟨h4, h16⟩, fun q hq => ?_, ⟨fun q hq e => ?_, fun q r hq hr eq er ew => ?_, fun x hx hu => ?_⟩, ⟨fun q hq e => ?_, fun q r hq hr eq er ew => ?_, fun x hx hu => ?_⟩, fun x hx => ?_⟩
      · obtain ⟨a, b, c, d⟩ := h' q hq
        refine Or.inr (Or.inr (Or.inl ⟨a, rfl, q, hq, b, fun w hw => ?_⟩))
        by_cases z : rl q ≤ nI w
        · rw [if_pos z]
        · rw [if_neg z]
      · obtain ⟨a, b, c, d⟩ := h' q hq
        exact ⟨q, hq, b, by rw [c]; decide⟩
      · rw [(h' q hq).2.1, (h' r hr).2.1] at ew
        exact ri_nI hq hr ew
      · exact ⟨x, hx, (h' x hx).1, (h' x hx).2.1⟩
      · exact absurd ((h' q hq).1.symm.trans e) (by decide)
      · exact absurd ((h' q hq).1.symm.trans eq) (by decide)
      · exact absurd rfl hu
      · have z : ri_h fm wh x = 0 := by
          apply Nat.eq_zero_of_not_pos
          intro z
          obtain ⟨q, hq, e, _⟩ := ri_h_ex z
          exact absurd ((h' q hq).1.symm.trans e) (by decide)
        rw [z]
        rfl
    | succ d ih =>
      intro i fm wh ru rl hi h
      have hv : vp_in (nI i) 24 := vp_in_nI (by omega) (by decide)
      have hc : (nI i).toNatClampNeg = i := nI_clamp (by omega)
      unfold wX_init_117
      rw [hc]
      refine br_f (nI_ge (b := 24) (by omega) (by decide)) ⟨hv, nm_e ⟨hv, nm_e ⟨hv, nm_e ⟨hv, nm_e (nm_r (nI_1 i) (ih (i + 1) _ _ _ _ (by omega) (fun q hq => ?_)))⟩⟩⟩⟩
      by_cases t : q = i
      · rw [t]
        exact ⟨pk_us, pk_us, pk_us, pk_us⟩
      · rw [pk_un t, pk_un t, pk_un t, pk_un t]
        exact h q (by omega)
  have go : ∀ (F : Nat), 4 ≤ F → F ≤ 16 → ∃ n117 : Nat, wX_init_117 (fun u => wpY_init (fun v => i_Rel 1 u v) k0) (nI F) 0 0 n117 0 (fun _ => 0) (fun _ => 0) (fun _ => 0) (fun _ => 0) (fun _ => 0) (fun _ => 0) (fun _ => 0) (fun _ => 0) (fun _ => 0) (fun _ => 0) (fun _ => 0) :=
    fun F h4 h16 => ⟨24 + 1, loop F h4 h16 24 0 _ _ _ _ rfl (fun q hq => absurd hq (Nat.not_lt_zero _))⟩
  unfold wpX_init wX_init_101
  refine br_c (fun a => br_c (fun b => ?_) (fun _ => go 16 (by decide) (by decide))) (fun _ => br_t (by decide) (go 4 (by decide) (by decide)))
  have a' : ¬ k0 < 0 := Int32.not_lt.mpr (Int32.le_trans (by decide) a)
  obtain ⟨F, hF, rfl⟩ := nI_of a'
  have a2 : 4 ≤ F := (nI_leI (a := 4) (by decide) hF).mp a
  have b2 : F ≤ 16 := (nI_leI (b := 16) hF (by decide)).mp b
  exact go F a2 b2
end
section
/-! the calls that change something -/
theorem wk_fill16 {F x p : Nat} {hd sc v : Int32} {fm wh tc ho ru rl fv sv au ad : Nat → Int32} {post : Int32 → SX → Prop} (me0 : Nat → Int32) (hp : p < 24) (hx : x < 16) (hw : wh p = nI x)
    (K : ∀ me : Nat → Int32, (∀ j, j / 4 ≠ x → me j = me0 j) → (∀ j, j < 4 → me (x * 4 + j) = v) → post 0 (nI F, hd, sc, fm, wh, tc, ho, me, ru, rl, fv, sv, au, ad)) :
    ∀ (d w : Nat) (me : Nat → Int32), w + d = 4 → (∀ j, j / 4 ≠ x → me j = me0 j) → (∀ j, j < w → me (x * 4 + j) = v) →
      wX_fill_16 post (nI p) v (nI F) hd sc (d + 1) (nI w) fm wh tc ho me ru rl fv sv au ad := by
  have hi : vp_in (nI p) 24 := vp_in_nI hp (by decide)
  have hc : (nI p).toNatClampNeg = p := nI_clamp (by omega)
  intro d
  induction d with
  | zero =>
    intro w me hd' ha hb
    exact br_t (nI_le (a := 4) (by omega) (by omega)) (K me ha (fun j z => hb j (by omega)))
  | succ d ih =>
    intro w me hd' ha hb
    have hk : (nI (x * 4 + w)).toNatClampNeg = x * 4 + w := nI_clamp (by omega)
    unfold wX_fill_16
    rw [hc, hw, ri_ix, hk]
    refine br_f (nI_ge (b := 4) (by omega) (by decide)) ⟨hi, vp_in_nI (by omega) (by decide), nm_e (nm_r (nI_1 w) (ih (w + 1) _ (by omega) (fun j z => ?_) (fun j z => ?_)))⟩
    · rw [pk_un (by omega)]
      exact ha j z
    · by_cases t : j = w
      · rw [t]; exact pk_us
      · rw [pk_un (by omega)]
        exact hb j (by omega)
theorem i_vc_write {k : Nat} {u : SX} {v : SY} (I : i_Rel k u v) (hk : k + 4 ≤ 2049) (v1 : Int32) (v2 : Int32) (v3 : Int32) : wpX_write (fun r u' => wpY_write (fun r' v' => r' = r ∧ i_Rel (k + 4) u' v') v v1 v2 v3) u v1 v2 v3 := by
  refine rl_el (Q := fun u v => wpX_write (fun r u' => wpY_write (fun r' v' => r' = r ∧ i_Rel (k + 4) u' v') v v1 v2 v3) u v1 v2 v3) I ?_
  intro F H S fm wh tc ho me ru rl fv sv au ad wd re hH hS h
  have h0 : ∀ k', i_Rel k' (nI F, nI H, nI S, fm, wh, tc, ho, me, ru, rl, fv, sv, au, ad) (wd, re) := fun k' => rl_mk hH hS h
  unfold wpX_write wpY_write
  dsimp only
  rcases ri_pg v1 with b | ⟨p, hp, rfl⟩
  · exact wk_bad1 b (br_f (by decide) (yk_isp0 b (br_t rfl ⟨rfl, h0 _⟩)))
  · refine wk_bad0 hp (br_t rfl ?_)
    rcases pk_ix v2 (n := 4) (by decide) with b | b | ⟨w, hw, rfl⟩
    · exact br_t b (yk_isp1 hp (br_f (by decide) (br_t b ⟨rfl, h0 _⟩)))
    · have n0 := ri_nlt0 (by decide) b
      exact br_f n0 (br_f (Int32.not_lt.mpr b) (yk_isp1 hp (br_f (by decide) (br_f n0 (br_f (ri_nle3 b) ⟨rfl, h0 _⟩)))))
    · refine br_f (nI_pos (by omega)) (br_t (nI_lt (b := 4) hw (by decide)) (ev_own h hp hH ?_))
      intro x H' fm' wh' tc' ho' me' ru' rl' fv' sv' au' ad' hH' hx f1 w1 o1 I'
      have hF := h.1.2
      have hi : vp_in (nI p) 24 := vp_in_nI hp (by decide)
      have hc : (nI p).toNatClampNeg = p := nI_clamp (by omega)
      have hj : vp_in (nI (x * 4 + w)) 64 := vp_in_nI (by omega) (by decide)
      have hl : (nI (x * 4 + w)).toNatClampNeg = x * 4 + w := nI_clamp (by omega)
      have hj' : vp_in (nI (p * 4 + w)) 96 := vp_in_nI (by omega) (by decide)
      have hl' : (nI (p * 4 + w)).toNatClampNeg = p * 4 + w := nI_clamp (by omega)
      dsimp only
      rw [hc, w1, ri_ix]
      refine ⟨hi, nm_e ?_⟩
      rw [hl]
      refine ⟨hj, nm_e ⟨hj, nm_e (yk_isp1 hp (br_f (by decide) (br_f (nI_pos (by omega)) (br_t (nI_le (b := 3) (by omega) (by decide)) ?_))))⟩⟩
      rw [ri_ix, hl']
      refine ⟨hj', nm_e ⟨hj', nm_e ⟨hi, nm_e ⟨?_, rl_mk hH' hS (ri_cong (ri_mem1 (me' := upd me' (x * 4 + w) v3) I' hp f1 w1 hx o1 (fun j z => pk_un (by omega))) (fun q hq j hj2 => ?_) (fun q hq => rfl))⟩⟩⟩⟩
      · obtain ⟨_, x', hx', w', c'⟩ := ri_fr1 I' hp f1
        have e : x' = x := by
          rw [w1] at w'
          exact (ri_nI (by omega) (by omega) w').symm
        rw [← e]
        exact c' w hw
      · show upd wd (p * 4 + w) v3 (q * 4 + j) = _
        by_cases t : q = p
        · rw [t, ri_cp_s]
          by_cases s : j = w
          · rw [s, pk_us, pk_us]
          · rw [pk_un (by omega), pk_un (by omega)]
            obtain ⟨_, x', hx', w', c'⟩ := ri_fr1 I' hp f1
            have e : x' = x := by
              rw [w1] at w'
              exact (ri_nI (by omega) (by omega) w').symm
            rw [← e]
            exact c' j hj2
        · rw [ri_cp_n t, pk_un (by omega)]
theorem i_vc_fill {k : Nat} {u : SX} {v : SY} (I : i_Rel k u v) (hk : k + 4 ≤ 2049) (v1 : Int32) (v2 : Int32) : wpX_fill (fun r u' => wpY_fill (fun r' v' => r' = r ∧ i_Rel (k + 4) u' v') v v1 v2) u v1 v2 := by
  refine rl_el (Q := fun u v => wpX_fill (fun r u' => wpY_fill (fun r' v' => r' = r ∧ i_Rel (k + 4) u' v') v v1 v2) u v1 v2) I ?_
  intro F H S fm wh tc ho me ru rl fv sv au ad wd re hH hS h
  have h0 : ∀ k', i_Rel k' (nI F, nI H, nI S, fm, wh, tc, ho, me, ru, rl, fv, sv, au, ad) (wd, re) := fun k' => rl_mk hH hS h
  unfold wpX_fill
  dsimp only
  rcases ri_pg v1 with b | ⟨p, hp, rfl⟩
  · refine wk_bad1 b (br_f (by decide) ?_)
    unfold wpY_fill
    exact yk_isp0 b (br_t rfl ⟨rfl, h0 _⟩)
  · refine wk_bad0 hp (br_t rfl (ev_own h hp hH ?_))
    intro x H' fm' wh' tc' ho' me' ru' rl' fv' sv' au' ad' hH' hx f1 w1 o1 I'
    have hF := h.1.2
    refine ⟨4 + 1, wk_fill16 me' hp (by omega) w1 (fun me2 ha hb => ?_) 4 0 me' rfl (fun _ _ => rfl) (fun j z => absurd z (Nat.not_lt_zero _))⟩
    refine yk_fill hp (fun wd' hwd => ⟨rfl, rl_mk hH' hS (ri_cong (ri_mem1 I' hp f1 w1 hx o1 ha) (fun q hq j hj => ?_) (fun q hq => rfl))⟩)
    rw [hwd q j hj]
    by_cases t : q = p
    · rw [if_pos t, t, ri_cp_s]
      exact (hb j hj).symm
    · rw [if_neg t, ri_cp_n t]
theorem ri_nb {x : Int32} (h : x = 0 ∨ x = 1) : vp_nar .boolean x = x := by
  rcases h with h | h
  · rw [h]; rfl
  · rw [h]; rfl
theorem ri_g01 {F : Nat} {c : Nat → Nat → Int32} {g fm wh ho me ru rl fv sv au ad : Nat → Int32} {p : Nat} (h : ri_I F c g fm wh ho me ru rl fv sv au ad) (hp : p < 24) : g p = 0 ∨ g p = 1 := by
  rcases ri_gn h hp with ⟨_, e, _⟩ | ⟨_, e⟩
  · exact Or.inr e
  · exact Or.inl e
theorem i_vc_copy {k : Nat} {u : SX} {v : SY} (I : i_Rel k u v) (hk : k + 4 ≤ 2049) (v1 : Int32) (v2 : Int32) : wpX_copy (fun r u' => wpY_copy (fun r' v' => r' = r ∧ i_Rel (k + 4) u' v') v v1 v2) u v1 v2 := by
  refine rl_el (Q := fun u v => wpX_copy (fun r u' => wpY_copy (fun r' v' => r' = r ∧ i_Rel (k + 4) u' v') v v1 v2) u v1 v2) I ?_
  intro F H S fm wh tc ho me ru rl fv sv au ad wd re hH hS h
  have h0 : ∀ k', i_Rel k' (nI F, nI H, nI S, fm, wh, tc, ho, me, ru, rl, fv, sv, au, ad) (wd, re) := fun k' => rl_mk hH hS h
  unfold wpX_copy
  dsimp only
  rcases ri_pg v1 with b | ⟨a, ha, rfl⟩
  · refine wk_bad1 b (br_f (by decide) ?_)
    unfold wpY_copy
    exact yk_isp0 b (br_t rfl ⟨rfl, h0 _⟩)
  · refine wk_bad0 ha (br_t rfl ?_)
    rcases ri_pg v2 with b | ⟨b, hb, rfl⟩
    · refine wk_bad1 b (br_f (by decide) ?_)
      unfold wpY_copy
      exact yk_isp1 ha (br_f (by decide) (yk_isp0 b (br_t rfl ⟨rfl, h0 _⟩)))
    · have hia : vp_in (nI a) 24 := vp_in_nI ha (by decide)
      have hca : (nI a).toNatClampNeg = a := nI_clamp (by omega)
      have hib : vp_in (nI b) 24 := vp_in_nI hb (by decide)
      have hcb : (nI b).toNatClampNeg = b := nI_clamp (by omega)
      have hnb : vp_nar .boolean (re a) = re a := ri_nb (ri_g01 h ha)
      refine wk_bad0 hb (br_t rfl (pk_eq a b (fun e => ?_) (fun ne => ?_)))
      · refine yk_copy ha hb (fun wd' hwd => ⟨rfl, rl_mk hH hS (ri_cong h (fun q hq j hj => ?_) (fun q hq => ?_))⟩)
        · rw [hwd q j hj, e]
          by_cases t : q = b
          · rw [if_pos t, t]
          · rw [if_neg t]
        · rw [hnb, e]
          by_cases t : q = b
          · rw [t, pk_us]
          · rw [pk_un t]
      · rw [hca, hcb]
        refine ⟨hia, br_c (fun e0 => ?_) (fun e0 => ?_)⟩
        · rcases ri_gn h ha with ⟨_, eg, ec⟩ | ⟨z, _⟩
          · refine ev_go h hb (fun ho' ru' au' I' _ => ?_)
            refine yk_copy ha hb (fun wd' hwd => ⟨rfl, rl_mk hH hS (ri_cong I' (fun q hq j hj => ?_) (fun q hq => ?_))⟩)
            · rw [hwd q j hj]
              by_cases t : q = b
              · rw [if_pos t, t, ri_cp_s]
                exact ec j hj
              · rw [if_neg t, ri_cp_n t]
            · rw [hnb, eg]
          · exact absurd e0 z
        · have eg : re a = 0 := by
            rcases ri_gn h ha with ⟨z, _, _⟩ | ⟨_, z⟩
            · exact absurd z e0
            · exact z
          refine ev_bring h ha hb hH (fun H1 fm1 wh1 tc1 ho1 me1 ru1 rl1 fv1 sv1 au1 ad1 hH1 f1 I1 => ?_)
          obtain ⟨g1, x, hx, w1, c1⟩ := ri_fr1 I1 ha f1
          have hF := h.1.2
          have hix : vp_in (nI x) 16 := vp_in_nI (by omega) (by decide)
          have hcx : (nI x).toNatClampNeg = x := nI_clamp (by omega)
          refine ev_go I1 hb (fun ho2 ru2 au2 I2 _ => ?_)
          have I3 := ri_put1 (p := b) (x := x) I2 hb pk_us hx
          have wa : upd wh1 b (nI x) a = nI x := by rw [pk_un ne, w1]
          dsimp only
          rw [w1]
          refine ⟨hib, nm_e ⟨hia, hib, nm_e ⟨hia, ?_⟩⟩⟩
          rw [wa, hcx]
          refine ⟨hix, hix, nm_e ⟨hib, nm_e ?_⟩⟩
          refine yk_copy ha hb (fun wd' hwd => ⟨rfl, rl_mk hH1 hS (ri_cong I3 (fun q hq j hj => ?_) (fun q hq => ?_))⟩)
          · rw [hwd q j hj]
            by_cases t : q = b
            · rw [if_pos t, t, ri_cp_s]
              exact c1 j hj
            · rw [if_neg t, ri_cp_n t, ri_cp_n t]
          · rw [hnb, eg]
            by_cases t : q = b
            · rw [t, pk_us, pk_us]
            · rw [pk_un t, pk_un t, pk_un t]
              by_cases s : q = a
              · rw [s, pk_us, eg]
              · rw [pk_un s]
theorem i_vc_swap {k : Nat} {u : SX} {v : SY} (I : i_Rel k u v) (hk : k + 4 ≤ 2049) (v1 : Int32) (v2 : Int32) : wpX_swap (fun r u' => wpY_swap (fun r' v' => r' = r ∧ i_Rel (k + 4) u' v') v v1 v2) u v1 v2 := by
  refine rl_el (Q := fun u v => wpX_swap (fun r u' => wpY_swap (fun r' v' => r' = r ∧ i_Rel (k + 4) u' v') v v1 v2) u v1 v2) I ?_
  intro F H S fm wh tc ho me ru rl fv sv au ad wd re hH hS h
  have h0 : ∀ k', i_Rel k' (nI F, nI H, nI S, fm, wh, tc, ho, me, ru, rl, fv, sv, au, ad) (wd, re) := fun k' => rl_mk hH hS h
  unfold wpX_swap
  dsimp only
  rcases ri_pg v1 with b | ⟨a, ha, rfl⟩
  · refine wk_bad1 b (br_f (by decide) ?_)
    unfold wpY_swap
    exact yk_isp0 b (br_t rfl ⟨rfl, h0 _⟩)
  · refine wk_bad0 ha (br_t rfl ?_)
    rcases ri_pg v2 with b | ⟨b, hb, rfl⟩
    · refine wk_bad1 b (br_f (by decide) ?_)
      unfold wpY_swap
      exact yk_isp1 ha (br_f (by decide) (yk_isp0 b (br_t rfl ⟨rfl, h0 _⟩)))
    · have hia : vp_in (nI a) 24 := vp_in_nI ha (by decide)
      have hca : (nI a).toNatClampNeg = a := nI_clamp (by omega)
      have hib : vp_in (nI b) 24 := vp_in_nI hb (by decide)
      have hcb : (nI b).toNatClampNeg = b := nI_clamp (by omega)
      have hna : vp_nar .boolean (re a) = re a := ri_nb (ri_g01 h ha)
      have hnb : vp_nar .boolean (re b) = re b := ri_nb (ri_g01 h hb)
      have sw : ∀ (m : Nat → Int32) (q : Nat), upd (upd m a (m b)) b (m a) q = m (ri_sw a b q) := by
        intro m q
        by_cases t : q = b
        · rw [t, pk_us, ri_sw_b]
        · rw [pk_un t]
          by_cases s : q = a
          · rw [s, pk_us, ri_sw_a]
          · rw [pk_un s, ri_sw_n s t]
      refine wk_bad0 hb (br_t rfl ?_)
      rw [hca, hcb]
      refine ⟨hia, nm_e ⟨hia, nm_e ⟨hib, hia, nm_e ⟨hib, hia, nm_e ⟨hib, nm_e ⟨hib, nm_e ?_⟩⟩⟩⟩⟩⟩
      refine yk_swap ha hb (fun wd' hwd => ⟨rfl, rl_mk hH hS (ri_swap h ha hb (sw fm) (sw wh) (fun q hq => ?_) (fun q hq j hj => hwd q j hj))⟩)
      rw [hna, hnb]
      exact sw re q
theorem i_vc_release {k : Nat} {u : SX} {v : SY} (I : i_Rel k u v) (hk : k + 4 ≤ 2049) (v1 : Int32) : wpX_release (fun r u' => wpY_release (fun r' v' => r' = r ∧ i_Rel (k + 4) u' v') v v1) u v1 := by
  refine rl_el (Q := fun u v => wpX_release (fun r u' => wpY_release (fun r' v' => r' = r ∧ i_Rel (k + 4) u' v') v v1) u v1) I ?_
  intro F H S fm wh tc ho me ru rl fv sv au ad wd re hH hS h
  have h0 : ∀ k', i_Rel k' (nI F, nI H, nI S, fm, wh, tc, ho, me, ru, rl, fv, sv, au, ad) (wd, re) := fun k' => rl_mk hH hS h
  unfold wpX_release wpY_release
  dsimp only
  rcases ri_pg v1 with b | ⟨p, hp, rfl⟩
  · exact wk_bad1 b (br_f (by decide) (yk_isp0 b (br_t rfl ⟨rfl, h0 _⟩)))
  · have hi : vp_in (nI p) 24 := vp_in_nI hp (by decide)
    have hc : (nI p).toNatClampNeg = p := nI_clamp (by omega)
    rw [hc]
    refine wk_bad0 hp (br_t rfl ⟨hi, ?_⟩)
    rcases ri_gn h hp with ⟨e, eg, _⟩ | ⟨e, eg⟩
    · exact br_t e (yk_isp1 hp (br_f (by decide) ⟨hi, br_f (by rw [eg]; decide) ⟨rfl, h0 _⟩⟩))
    · refine br_f e (ev_go h hp (fun ho' ru' au' I' _ => ?_))
      refine yk_isp1 hp (br_f (by decide) ⟨hi, br_t eg (yk_fill hp (fun wd' hwd => ?_))⟩)
      dsimp only
      refine ⟨hi, nm_e ⟨rfl, rl_mk hH hS (ri_cong I' (fun q hq j hj => ?_) (fun q hq => ?_))⟩⟩
      · rw [hwd q j hj]
        by_cases t : q = p
        · rw [if_pos t, t, ri_cp_s]
        · rw [if_neg t, ri_cp_n t]
      · by_cases t : q = p
        · rw [t, pk_us, pk_us, ri_b1]
        · rw [pk_un t, pk_un t, pk_un t]
theorem i_vc_scan {k : Nat} {u : SX} {v : SY} (I : i_Rel k u v) (hk : k + 4 ≤ 2049) (v1 : Int32) : wpX_scan (fun u' => wpY_scan (fun v' => i_Rel (k + 4) u' v') v v1) u v1 := by
  refine rl_el (Q := fun u v => wpX_scan (fun u' => wpY_scan (fun v' => i_Rel (k + 4) u' v') v v1) u v1) I ?_
  intro F H S fm wh tc ho me ru rl fv sv au ad wd re hH hS h
  refine ev_scan h hS (fun S' fm' wh' tc' ho' ru' rl' fv' sv' au' ad' hS' I' => ?_)
  show i_Rel (k + 4) (nI F, nI H, nI S', fm', wh', tc', ho', me, ru', rl', fv', sv', au', ad') (wd, re)
  exact rl_mk hH hS' I'
theorem yk_read {wd re : Nat → Int32} {post : Int32 → Prop} {p w : Nat} (hp : p < 24) (hw : w < 4) (K : post (wd (p * 4 + w))) : wpY_read post (wd, re) (nI p) (nI w) := by
  have hl' : (nI (p * 4 + w)).toNatClampNeg = p * 4 + w := nI_clamp (by omega)
  unfold wpY_read
  dsimp only
  rw [ri_ix, hl']
  exact yk_isp1 hp (br_f (by decide) (br_f (nI_pos (by omega)) (br_t (nI_le (b := 3) (by omega) (by decide)) ⟨vp_in_nI (by omega) (by decide), K⟩)))
theorem i_vc_read {k : Nat} {u : SX} {v : SY} (I : i_Rel k u v) (hk : k + 4 ≤ 2049) (v1 : Int32) (v2 : Int32) : wpX_read (fun r u' => wpY_read (fun r' => r' = r ∧ i_Rel (k + 4) u' v) v v1 v2) u v1 v2 := by
  refine rl_el (Q := fun u v => wpX_read (fun r u' => wpY_read (fun r' => r' = r ∧ i_Rel (k + 4) u' v) v v1 v2) u v1 v2) I ?_
  intro F H S fm wh tc ho me ru rl fv sv au ad wd re hH hS h
  have h0 : ∀ k', i_Rel k' (nI F, nI H, nI S, fm, wh, tc, ho, me, ru, rl, fv, sv, au, ad) (wd, re) := fun k' => rl_mk hH hS h
  unfold wpX_read
  dsimp only
  rcases ri_pg v1 with b | ⟨p, hp, rfl⟩
  · refine wk_bad1 b (br_f (by decide) ?_)
    unfold wpY_read
    exact yk_isp0 b (br_t rfl ⟨rfl, h0 _⟩)
  · refine wk_bad0 hp (br_t rfl ?_)
    rcases pk_ix v2 (n := 4) (by decide) with b | b | ⟨w, hw, rfl⟩
    · refine br_t b ?_
      unfold wpY_read
      exact yk_isp1 hp (br_f (by decide) (br_t b ⟨rfl, h0 _⟩))
    · have n0 := ri_nlt0 (by decide) b
      refine br_f n0 (br_f (Int32.not_lt.mpr b) ?_)
      unfold wpY_read
      exact yk_isp1 hp (br_f (by decide) (br_f n0 (br_f (ri_nle3 b) ⟨rfl, h0 _⟩)))
    · have hF := h.1.2
      have hi : vp_in (nI p) 24 := vp_in_nI hp (by decide)
      have hc : (nI p).toNatClampNeg = p := nI_clamp (by omega)
      rw [hc]
      refine br_f (nI_pos (by omega)) (br_t (nI_lt (b := 4) hw (by decide)) ⟨hi, ?_⟩)
      rcases ri_gn h hp with ⟨e, eg, ec⟩ | ⟨e, eg⟩
      · exact br_t e (yk_read hp hw ⟨ec w hw, h0 _⟩)
      · refine br_f e (ev_bring h hp hp hH (fun H1 fm1 wh1 tc1 ho1 me1 ru1 rl1 fv1 sv1 au1 ad1 hH1 f1 I1 => ?_))
        dsimp only
        obtain ⟨g1, x, hx, w1, c1⟩ := ri_fr1 I1 hp f1
        have hj : vp_in (nI (x * 4 + w)) 64 := vp_in_nI (by omega) (by decide)
        have hl : (nI (x * 4 + w)).toNatClampNeg = x * 4 + w := nI_clamp (by omega)
        rw [w1, ri_ix, hl]
        refine ⟨hi, hj, yk_read hp hw ⟨c1 w hw, rl_mk hH1 hS (ri_cong I1 (fun _ _ _ _ => rfl) (fun q hq => ?_))⟩⟩
        by_cases t : q = p
        · rw [t, pk_us, eg]
        · rw [pk_un t]
end
section
/-! the questions -/
theorem i_vc_held {k : Nat} {u : SX} {v : SY} (I : i_Rel k u v) (hk : k + 4 ≤ 2049) (v1 : Int32) : wpX_held (fun r => wpY_held (fun r' => r' = r ∧ i_Rel (k + 4) u v) v v1) u v1 := by
  refine rl_el (Q := fun u v => wpX_held (fun r => wpY_held (fun r' => r' = r ∧ i_Rel (k + 4) u v) v v1) u v1) I ?_
  intro F H S fm wh tc ho me ru rl fv sv au ad wd re hH hS h
  have h0 : ∀ k', i_Rel k' (nI F, nI H, nI S, fm, wh, tc, ho, me, ru, rl, fv, sv, au, ad) (wd, re) := fun k' => rl_mk hH hS h
  rcases ri_pg v1 with b | ⟨p, hp, rfl⟩
  · unfold wpX_held wpY_held
    dsimp only
    exact wk_bad1 b (br_f (by decide) (yk_isp0 b (br_t rfl ⟨rfl, h0 _⟩)))
  · have hi : vp_in (nI p) 24 := vp_in_nI hp (by decide)
    have hc : (nI p).toNatClampNeg = p := nI_clamp (by omega)
    unfold wpX_held
    dsimp only
    rw [hc]
    refine wk_bad0 hp (br_t rfl ⟨hi, ?_⟩)
    rcases ri_gn h hp with ⟨e, eg, _⟩ | ⟨e, eg⟩
    · exact br_t e (yk_held hp (fun z => absurd (eg.symm.trans z) (by decide)) (fun _ => ⟨rfl, h0 _⟩))
    · exact br_f e (yk_held hp (fun _ => ⟨rfl, h0 _⟩) (fun z => absurd eg z))
theorem i_vc_same {k : Nat} {u : SX} {v : SY} (I : i_Rel k u v) (hk : k + 4 ≤ 2049) (v1 : Int32) (v2 : Int32) : wpX_same (fun r => wpY_same (fun r' => r' = r ∧ i_Rel (k + 4) u v) v v1 v2) u v1 v2 := by
  refine rl_el (Q := fun u v => wpX_same (fun r => wpY_same (fun r' => r' = r ∧ i_Rel (k + 4) u v) v v1 v2) u v1 v2) I ?_
  intro F H S fm wh tc ho me ru rl fv sv au ad wd re hH hS h
  have h0 : ∀ k', i_Rel k' (nI F, nI H, nI S, fm, wh, tc, ho, me, ru, rl, fv, sv, au, ad) (wd, re) := fun k' => rl_mk hH hS h
  unfold wpX_same
  dsimp only
  rcases ri_pg v1 with b | ⟨a, ha, rfl⟩
  · refine wk_bad1 b (br_f (by decide) ?_)
    unfold wpY_same
    exact yk_isp0 b (br_t rfl ⟨rfl, h0 _⟩)
  · refine wk_bad0 ha (br_t rfl ?_)
    rcases ri_pg v2 with b | ⟨b, hb, rfl⟩
    · refine wk_bad1 b (br_f (by decide) ?_)
      unfold wpY_same
      exact yk_isp1 ha (br_f (by decide) (yk_isp0 b (br_t rfl ⟨rfl, h0 _⟩)))
    · refine wk_bad0 hb (br_t rfl (wk_eqp h ha hb (fun e => ⟨rfl, ?_⟩) (fun e => ⟨rfl, ?_⟩)))
      · exact yk_same ha hb (fun _ => ⟨rfl, h0 _⟩) (fun z => absurd e z)
      · exact yk_same ha hb (fun z => absurd z e) (fun _ => ⟨rfl, h0 _⟩)
theorem i_vc_contents {k : Nat} {u : SX} {v : SY} (I : i_Rel k u v) (hk : k + 4 ≤ 2049) : wpX_contents (fun r => wpY_contents (fun r' => r' = r ∧ i_Rel (k + 4) u v) v) u := by
  refine rl_el (Q := fun u v => wpX_contents (fun r => wpY_contents (fun r' => r' = r ∧ i_Rel (k + 4) u v) v) u) I ?_
  intro F H S fm wh tc ho me ru rl fv sv au ad wd re hH hS h
  obtain ⟨r, a, b⟩ := lk_cont (f := nI F) (hd := nI H) (sc := nI S) (tc := tc) h 24 0 0 rfl
  exact ⟨24 + 1, a _ ⟨24 + 1, b _ ⟨rfl, rl_mk hH hS h⟩⟩⟩
theorem i_vc_duplicates {k : Nat} {u : SX} {v : SY} (I : i_Rel k u v) (hk : k + 4 ≤ 2049) : wpX_duplicates (fun r => wpY_duplicates (fun r' => r' = r ∧ i_Rel (k + 4) u v) v) u := by
  refine rl_el (Q := fun u v => wpX_duplicates (fun r => wpY_duplicates (fun r' => r' = r ∧ i_Rel (k + 4) u v) v) u) I ?_
  intro F H S fm wh tc ho me ru rl fv sv au ad wd re hH hS h
  obtain ⟨r, a, b⟩ := lk_dup (f := nI F) (hd := nI H) (sc := nI S) (tc := tc) h 24 0 0 rfl
  exact ⟨24 + 1, a _ ⟨24 + 1, b _ ⟨rfl, rl_mk hH hS h⟩⟩⟩
theorem i_vc_sum {k : Nat} {u : SX} {v : SY} (I : i_Rel k u v) (hk : k + 4 ≤ 2049) (v1 : Int32) : wpX_sum (fun r => wpY_sum (fun r' => r' = r ∧ i_Rel (k + 4) u v) v v1) u v1 := by
  refine rl_el (Q := fun u v => wpX_sum (fun r => wpY_sum (fun r' => r' = r ∧ i_Rel (k + 4) u v) v v1) u v1) I ?_
  intro F H S fm wh tc ho me ru rl fv sv au ad wd re hH hS h
  have h0 : ∀ k', i_Rel k' (nI F, nI H, nI S, fm, wh, tc, ho, me, ru, rl, fv, sv, au, ad) (wd, re) := fun k' => rl_mk hH hS h
  rcases pk_ix v1 (n := 3) (by decide) with b | b | ⟨G, hG, rfl⟩
  · refine br_t b (yk_sum0 (fun j hj e => ?_) ⟨rfl, h0 _⟩)
    rw [← e] at b
    exact nI_pos (by omega) b
  · have n2 : ¬ v1 ≤ 2 := by
      rw [Int32.le_iff_toInt_le, nI_toInt (by decide)] at b
      rw [Int32.le_iff_toInt_le, show (2 : Int32).toInt = 2 from by decide]
      omega
    refine br_f (ri_nlt0 (by decide) b) (br_f n2 (yk_sum0 (fun j hj e => ?_) ⟨rfl, h0 _⟩))
    rw [← e] at b
    exact nI_ge (b := 3) hj (by decide) b
  · exact wk_sum h (by omega) (yk_sum (by omega) ⟨rfl, h0 _⟩)
theorem i_vc_plain {k : Nat} {u : SX} {v : SY} (I : i_Rel k u v) (hk : k + 4 ≤ 2049) : wpX_plain (fun r => wpY_plain (fun r' => r' = r ∧ i_Rel (k + 4) u v) v) u := by
  refine rl_el (Q := fun u v => wpX_plain (fun r => wpY_plain (fun r' => r' = r ∧ i_Rel (k + 4) u v) v) u) I ?_
  intro F H S fm wh tc ho me ru rl fv sv au ad wd re hH hS h
  obtain ⟨r, a, b⟩ := lk_plain (f := nI F) (hd := nI H) (sc := nI S) (tc := tc) h 24 0 0 rfl
  exact ⟨24 + 1, a _ ⟨24 + 1, b _ ⟨rfl, rl_mk hH hS h⟩⟩⟩
end
