section
/-! the versions: n of them; p: from which one, k: the kind of edit, x, z: columns, c: how many columns -/
def tw_T (n : Nat) (p k x z c : Nat → Nat) : Prop :=
  1 ≤ n ∧ n ≤ 8 ∧ c 0 = 2 ∧ ∀ e, 0 < e → e < n → p e < e ∧ k e ≤ 5 ∧ 1 ≤ c e ∧ c e ≤ 5 ∧ (k e = 0 → c e = c (p e) + 1) ∧ (k e = 1 → c e + 1 = c (p e) ∧ x e < c (p e)) ∧ (2 ≤ k e → c e = c (p e) ∧ x e < c (p e)) ∧ (4 ≤ k e → z e < c (p e)) ∧ (k e = 5 → x e ≠ z e)
theorem tw_T_p {n : Nat} {p k x z c : Nat → Nat} (h : tw_T n p k x z c) {e : Nat} (h0 : 0 < e) (he : e < n) : p e < e := (h.2.2.2 e h0 he).1
theorem tw_T_c {n : Nat} {p k x z c : Nat → Nat} (h : tw_T n p k x z c) {e : Nat} (he : e < n) : 1 ≤ c e ∧ c e ≤ 5 := by
  rcases Nat.eq_zero_or_pos e with z0 | z0
  · rw [z0, h.2.2.1]; omega
  · have := h.2.2.2 e z0 he
    exact ⟨this.2.2.1, this.2.2.2.1⟩
/-- with fuel: v is e or comes from it -/
def tw_bf (p : Nat → Nat) : Nat → Nat → Nat → Prop
  | 0, v, e => v = e
  | f + 1, v, e => (v ≤ e ∧ v = e) ∨ (e < v ∧ tw_bf p f (p v) e)
/-- v is e or comes from it -/
def tw_B (p : Nat → Nat) (v e : Nat) : Prop := tw_bf p v v e
theorem tw_bf_irr {n : Nat} {p : Nat → Nat} (hp : ∀ e, 0 < e → e < n → p e < e) (e : Nat) : ∀ f v f', v < n → v ≤ f → v ≤ f' → tw_bf p f v e → tw_bf p f' v e := by
  intro f
  induction f with
  | zero =>
    intro v f' hv h h' hb
    have hv0 : v = 0 := by omega
    subst hv0
    cases f' with
    | zero => exact hb
    | succ f' => exact Or.inl ⟨Nat.zero_le _, hb⟩
  | succ f ih =>
    intro v f' hv h h' hb
    cases f' with
    | zero =>
      have hv0 : v = 0 := by omega
      rcases hb with hb | hb
      · exact hb.2
      · exact absurd hb.1 (by omega)
    | succ f' =>
      rcases hb with hb | hb
      · exact Or.inl hb
      · have := hp v (by omega) hv
        exact Or.inr ⟨hb.1, ih (p v) f' (by omega) (by omega) (by omega) hb.2⟩
theorem tw_B_self (p : Nat → Nat) (e : Nat) : tw_B p e e := by
  unfold tw_B
  cases e with
  | zero => rfl
  | succ e => exact Or.inl ⟨Nat.le_refl _, rfl⟩
theorem tw_B_le {p : Nat → Nat} {v e : Nat} (h : tw_B p v e) : e ≤ v := by
  unfold tw_B at h
  cases v with
  | zero =>
    have h' : 0 = e := h
    omega
  | succ v =>
    rcases h with h | h
    · omega
    · omega
theorem tw_B_step {n : Nat} {p : Nat → Nat} (hp : ∀ e, 0 < e → e < n → p e < e) {v e : Nat} (hv : v < n) (h : e < v) : tw_B p v e ↔ tw_B p (p v) e := by
  unfold tw_B
  have h1 := hp v (by omega) hv
  cases v with
  | zero => omega
  | succ v =>
    constructor
    · intro hb
      rcases hb with hb | hb
      · omega
      · exact tw_bf_irr hp e v (p (v + 1)) (p (v + 1)) (by omega) (by omega) (Nat.le_refl _) hb.2
    · intro hb
      exact Or.inr ⟨h, tw_bf_irr hp e (p (v + 1)) (p (v + 1)) v (by omega) (Nat.le_refl _) (by omega) hb⟩
/-- off the edge itself the ends of an edge agree -/
theorem tw_B_par {n : Nat} {p : Nat → Nat} (hp : ∀ e, 0 < e → e < n → p e < e) {v e : Nat} (h0 : 0 < v) (hv : v < n) (h : e ≠ v) : tw_B p v e ↔ tw_B p (p v) e := by
  rcases Nat.lt_or_ge e v with g | g
  · exact tw_B_step hp hv g
  · have h1 := hp v h0 hv
    constructor
    · intro hb; have := tw_B_le hb; omega
    · intro hb; have := tw_B_le hb; omega
theorem tw_B_not {n : Nat} {p : Nat → Nat} (hp : ∀ e, 0 < e → e < n → p e < e) {v : Nat} (h0 : 0 < v) (hv : v < n) : ¬ tw_B p (p v) v := by
  intro hb
  have h1 := hp v h0 hv
  have := tw_B_le hb
  omega
theorem tw_B_zero {n : Nat} {p : Nat → Nat} (hp : ∀ e, 0 < e → e < n → p e < e) : ∀ v, v < n → tw_B p v 0 := by
  intro v
  induction v using Nat.strongRecOn with
  | ind v ih =>
    intro hv
    rcases Nat.eq_zero_or_pos v with z0 | z0
    · rw [z0]; exact tw_B_self p 0
    · have h1 := hp v z0 hv
      exact (tw_B_step hp hv z0).mpr (ih (p v) h1 (by omega))
/-- the j-th version on the way up -/
def tw_it (p : Nat → Nat) (g : Nat) : Nat → Nat
  | 0 => g
  | j + 1 => p (tw_it p g j)
theorem tw_it_s (p : Nat → Nat) (g j : Nat) : tw_it p (p g) j = tw_it p g (j + 1) := by
  induction j with
  | zero => rfl
  | succ j ih => show p (tw_it p (p g) j) = p (tw_it p g (j + 1)); rw [ih]
theorem tw_way {n : Nat} {p : Nat → Nat} (hp : ∀ e, 0 < e → e < n → p e < e) {w : Nat} : ∀ g, g < n → tw_B p g w → ∃ d, tw_it p g d = w ∧ d + w ≤ g ∧ ∀ j, j < d → w < tw_it p g j ∧ tw_it p g j < n ∧ tw_B p g (tw_it p g j) := by
  intro g
  induction g using Nat.strongRecOn with
  | ind g ih =>
    intro hg hb
    have hle := tw_B_le hb
    rcases Nat.lt_or_ge w g with h | h
    · have h1 := hp g (by omega) hg
      obtain ⟨d, d1, d2, d3⟩ := ih (p g) h1 (by omega) ((tw_B_step hp hg h).mp hb)
      refine ⟨d + 1, by rw [← tw_it_s]; exact d1, by omega, fun j hj => ?_⟩
      cases j with
      | zero => exact ⟨h, hg, tw_B_self p g⟩
      | succ j =>
        have := d3 j (by omega)
        rw [tw_it_s] at this
        refine ⟨this.1, this.2.1, ?_⟩
        have hle2 := tw_B_le this.2.2
        exact (tw_B_step hp hg (by omega)).mpr this.2.2
    · have : g = w := by omega
      exact ⟨0, this, by omega, fun j hj => absurd hj (by omega)⟩
/-- one edit: vp the row at the version before it, ve at the version behind it, f the value that is free or dropped -/
def tw_E (k x z : Nat) (y : Int32) (cp ce : Nat) (vp : Nat → Int32) (f : Int32) (ve : Nat → Int32) : Prop :=
  (k = 0 → (∀ j, j < cp → ve j = vp j) ∧ ve cp = f) ∧
  (k = 1 → (∀ j, j < x → ve j = vp j) ∧ (∀ j, x ≤ j → j < ce → ve j = vp (j + 1)) ∧ vp x = f) ∧
  (k = 2 → (∀ j, j < cp → j ≠ x → ve j = vp j) ∧ ve x = vp x + y) ∧
  (k = 3 → ∀ j, j < cp → ve j = vp j) ∧
  (k = 4 → (∀ j, j < cp → j ≠ x → j ≠ z → ve j = vp j) ∧ ve x = vp z ∧ ve z = vp x) ∧
  (k = 5 → (∀ j, j < cp → j ≠ x → ve j = vp j) ∧ ve x = vp x + vp z)
/-- a row as all versions see it: V its values, F the free ones -/
def tw_F (n : Nat) (p k x z c : Nat → Nat) (y : Nat → Int32) (V : Nat → Nat → Int32) (F : Nat → Int32) : Prop :=
  ∀ e, 0 < e → e < n → tw_E (k e) (x e) (z e) (y e) (c (p e)) (c e) (V (p e)) (F e) (V e)
/-- the edit's value is free as seen from w -/
def tw_fr (p k : Nat → Nat) (e w : Nat) : Prop := (k e = 0 ∧ ¬ tw_B p w e) ∨ (k e = 1 ∧ tw_B p w e)
/-- the edit lies between w and g -/
def tw_cr (p : Nat → Nat) (w g e : Nat) : Prop := ¬ (tw_B p w e ↔ tw_B p g e)
/-- the row is shown at v -/
def tw_Sh (n : Nat) (p k x : Nat → Nat) (y : Nat → Int32) (V : Nat → Nat → Int32) (v : Nat) : Prop :=
  ∀ e, 0 < e → e < n → tw_B p v e → k e = 3 → y e ≤ V e (x e)
theorem tw_Sh_0 {n : Nat} {p k x : Nat → Nat} {y : Nat → Int32} {V : Nat → Nat → Int32} : tw_Sh n p k x y V 0 := by
  intro e h0 he hb
  have := tw_B_le hb
  omega
theorem tw_Sh_up {n : Nat} {p k x : Nat → Nat} {y : Nat → Int32} {V : Nat → Nat → Int32} {v : Nat} (hp : ∀ e, 0 < e → e < n → p e < e) (h0 : 0 < v) (hv : v < n) : tw_Sh n p k x y V v ↔ ((k v = 3 → y v ≤ V v (x v)) ∧ tw_Sh n p k x y V (p v)) := by
  constructor
  · intro h
    refine ⟨fun hk => h v h0 hv (tw_B_self p v) hk, fun e e0 he hb hk => ?_⟩
    have h1 := hp v h0 hv
    have h2 := tw_B_le hb
    exact h e e0 he ((tw_B_step hp hv (by omega)).mpr hb) hk
  · intro h e e0 he hb hk
    rcases Nat.decEq e v with g | g
    · exact h.2 e e0 he ((tw_B_par hp h0 hv g).mp hb) hk
    · rw [g] at hk ⊢
      exact h.1 hk
noncomputable def tw_b (q : Prop) : Int32 := @ite _ q (Classical.propDecidable q) 1 0
theorem tw_b_t {q : Prop} (h : q) : tw_b q = 1 := if_pos h
theorem tw_b_f {q : Prop} (h : ¬ q) : tw_b q = 0 := if_neg h
theorem tw_b_iff {q q' : Prop} (h : q ↔ q') : tw_b q = tw_b q' := by rw [propext h]
/-! where values are picked up and laid down: m the mode, r the row -/
def tw_pk (m r : Nat) (a9 a12 : Nat → Int32) (e : Nat) : Int32 := if m = 1 then a12 e else a9 (8 * r + e)
def tw_L (m r : Nat) (F : Nat → Int32) (S : Nat → Prop) (a9 a12 b9 b12 : Nat → Int32) : Prop :=
  (m = 0 → b9 = a9 ∧ ∀ i, (S i → b12 i = F i) ∧ (¬ S i → b12 i = a12 i)) ∧
  (m ≠ 0 → b12 = a12 ∧ ∀ q i, i < 8 → ((q = r ∧ S i) → b9 (8 * q + i) = F i) ∧ (¬ (q = r ∧ S i) → b9 (8 * q + i) = a9 (8 * q + i)))
theorem tw_L_nil {m r : Nat} {F : Nat → Int32} {S : Nat → Prop} {a9 a12 : Nat → Int32} (h : ∀ i, ¬ S i) : tw_L m r F S a9 a12 a9 a12 :=
  ⟨fun _ => ⟨rfl, fun i => ⟨fun s => absurd s (h i), fun _ => rfl⟩⟩, fun _ => ⟨rfl, fun q i _ => ⟨fun s => absurd s.2 (h i), fun _ => rfl⟩⟩⟩
theorem tw_L_1 {r e : Nat} {F : Nat → Int32} {S : Nat → Prop} {a9 a12 : Nat → Int32} (h : ∀ i, S i ↔ i = e) : tw_L 0 r F S a9 a12 a9 (upd a12 e (F e)) := by
  refine ⟨fun _ => ⟨rfl, fun i => ⟨fun s => ?_, fun s => ?_⟩⟩, fun z => absurd rfl z⟩
  · rw [(h i).mp s, pk_us]
  · exact pk_un (fun g => s ((h i).mpr g))
theorem tw_L_2 {m r e : Nat} {F : Nat → Int32} {S : Nat → Prop} {a9 a12 : Nat → Int32} (hm : m ≠ 0) (he : e < 8) (h : ∀ i, S i ↔ i = e) : tw_L m r F S a9 a12 (upd a9 (8 * r + e) (F e)) a12 := by
  refine ⟨fun z => absurd z hm, fun _ => ⟨rfl, fun q i hi => ⟨fun s => ?_, fun s => ?_⟩⟩⟩
  · rw [s.1, (h i).mp s.2, pk_us]
  · refine pk_un (fun g => s ⟨by omega, (h i).mpr (by omega)⟩)
theorem tw_L_comp {m r : Nat} {F : Nat → Int32} {S1 S2 S : Nat → Prop} {a9 a12 b9 b12 c9 c12 : Nat → Int32} (h1 : tw_L m r F S1 a9 a12 b9 b12) (h2 : tw_L m r F S2 b9 b12 c9 c12) (h : ∀ i, S i ↔ S1 i ∨ S2 i) : tw_L m r F S a9 a12 c9 c12 := by
  refine ⟨fun z => ?_, fun z => ?_⟩
  · obtain ⟨e1, f1⟩ := h1.1 z
    obtain ⟨e2, f2⟩ := h2.1 z
    refine ⟨e2.trans e1, fun i => ⟨fun s => ?_, fun s => ?_⟩⟩
    · rcases Classical.em (S2 i) with g | g
      · exact (f2 i).1 g
      · rw [(f2 i).2 g]
        rcases (h i).mp s with g' | g'
        · exact (f1 i).1 g'
        · exact absurd g' g
    · rw [(f2 i).2 (fun g => s ((h i).mpr (Or.inr g))), (f1 i).2 (fun g => s ((h i).mpr (Or.inl g)))]
  · obtain ⟨e1, f1⟩ := h1.2 z
    obtain ⟨e2, f2⟩ := h2.2 z
    refine ⟨e2.trans e1, fun q i hi => ⟨fun s => ?_, fun s => ?_⟩⟩
    · rcases Classical.em (S2 i) with g | g
      · exact (f2 q i hi).1 ⟨s.1, g⟩
      · rw [(f2 q i hi).2 (fun t => g t.2)]
        rcases (h i).mp s.2 with g' | g'
        · exact (f1 q i hi).1 ⟨s.1, g'⟩
        · exact absurd g' g
    · rw [(f2 q i hi).2 (fun g => s ⟨g.1, (h i).mpr (Or.inr g.2)⟩), (f1 q i hi).2 (fun g => s ⟨g.1, (h i).mpr (Or.inl g.2)⟩)]
theorem tw_L_pk {m r e : Nat} {F : Nat → Int32} {S : Nat → Prop} {a9 a12 b9 b12 : Nat → Int32} (h : tw_L m r F S a9 a12 b9 b12) (he : e < 8) (hp : tw_pk m r a9 a12 e = F e) : tw_pk m r b9 b12 e = F e := by
  unfold tw_pk at hp ⊢
  by_cases z : m = 0
  · obtain ⟨e1, _⟩ := h.1 z
    rw [if_neg (by omega)] at hp ⊢
    rw [e1]; exact hp
  · obtain ⟨e1, f1⟩ := h.2 z
    by_cases z1 : m = 1
    · rw [if_pos z1] at hp ⊢
      rw [e1]; exact hp
    · rw [if_neg z1] at hp ⊢
      rcases Classical.em (S e) with g | g
      · exact (f1 r e he).1 ⟨rfl, g⟩
      · rw [(f1 r e he).2 (fun t => g t.2)]; exact hp
end
section
theorem tw_E_dn {k x z cp ce : Nat} {y : Int32} (hk : k ≤ 5) (vp : Nat → Int32) (f0 : Int32) : ∃ ve f, tw_E k x z y cp ce vp f ve ∧ (k = 0 → f = f0) := by
  have hc : k = 0 ∨ k = 1 ∨ k = 2 ∨ k = 3 ∨ k = 4 ∨ k = 5 := by omega
  rcases hc with g | g | g | g | g | g
  · refine ⟨upd vp cp f0, f0, ⟨fun _ => ⟨fun j hj => pk_un (by omega), pk_us⟩, fun h => absurd h (by omega), fun h => absurd h (by omega), fun h => absurd h (by omega), fun h => absurd h (by omega), fun h => absurd h (by omega)⟩, fun _ => rfl⟩
  · refine ⟨fun j => if j < x then vp j else vp (j + 1), vp x, ⟨fun h => absurd h (by omega), fun _ => ⟨fun j hj => if_pos hj, fun j hj _ => if_neg (by omega), rfl⟩, fun h => absurd h (by omega), fun h => absurd h (by omega), fun h => absurd h (by omega), fun h => absurd h (by omega)⟩, fun h => absurd h (by omega)⟩
  · refine ⟨upd vp x (vp x + y), f0, ⟨fun h => absurd h (by omega), fun h => absurd h (by omega), fun _ => ⟨fun j _ hj => pk_un hj, pk_us⟩, fun h => absurd h (by omega), fun h => absurd h (by omega), fun h => absurd h (by omega)⟩, fun h => absurd h (by omega)⟩
  · refine ⟨vp, f0, ⟨fun h => absurd h (by omega), fun h => absurd h (by omega), fun h => absurd h (by omega), fun _ j _ => rfl, fun h => absurd h (by omega), fun h => absurd h (by omega)⟩, fun h => absurd h (by omega)⟩
  · refine ⟨upd (upd vp x (vp z)) z (vp x), f0, ⟨fun h => absurd h (by omega), fun h => absurd h (by omega), fun h => absurd h (by omega), fun h => absurd h (by omega), fun _ => ⟨fun j _ hx hz => by rw [pk_un hz, pk_un hx], ?_, pk_us⟩, fun h => absurd h (by omega)⟩, fun h => absurd h (by omega)⟩
    by_cases e : x = z
    · rw [e, pk_us]
    · rw [pk_un e, pk_us]
  · refine ⟨upd vp x (vp x + vp z), f0, ⟨fun h => absurd h (by omega), fun h => absurd h (by omega), fun h => absurd h (by omega), fun h => absurd h (by omega), fun h => absurd h (by omega), fun _ => ⟨fun j _ hj => pk_un hj, pk_us⟩⟩, fun h => absurd h (by omega)⟩
theorem tw_E_up {k x z cp ce : Nat} {y : Int32} (hk : k ≤ 5) (hxz : k = 5 → x ≠ z) (ve : Nat → Int32) (f0 : Int32) : ∃ vp f, tw_E k x z y cp ce vp f ve ∧ (k = 1 → f = f0) := by
  have hc : k = 0 ∨ k = 1 ∨ k = 2 ∨ k = 3 ∨ k = 4 ∨ k = 5 := by omega
  rcases hc with g | g | g | g | g | g
  · refine ⟨ve, ve cp, ⟨fun _ => ⟨fun j _ => rfl, rfl⟩, fun h => absurd h (by omega), fun h => absurd h (by omega), fun h => absurd h (by omega), fun h => absurd h (by omega), fun h => absurd h (by omega)⟩, fun h => absurd h (by omega)⟩
  · refine ⟨fun j => if j < x then ve j else if j = x then f0 else ve (j - 1), f0, ⟨fun h => absurd h (by omega), fun _ => ⟨fun j hj => (if_pos hj).symm, fun j hj _ => ?_, ?_⟩, fun h => absurd h (by omega), fun h => absurd h (by omega), fun h => absurd h (by omega), fun h => absurd h (by omega)⟩, fun _ => rfl⟩
    · show ve j = if j + 1 < x then ve (j + 1) else if j + 1 = x then f0 else ve (j + 1 - 1)
      rw [if_neg (by omega), if_neg (by omega)]
      rfl
    · show (if x < x then ve x else if x = x then f0 else ve (x - 1)) = f0
      rw [if_neg (by omega), if_pos rfl]
  · refine ⟨upd ve x (ve x - y), f0, ⟨fun h => absurd h (by omega), fun h => absurd h (by omega), fun _ => ⟨fun j _ hj => (pk_un hj).symm, ?_⟩, fun h => absurd h (by omega), fun h => absurd h (by omega), fun h => absurd h (by omega)⟩, fun h => absurd h (by omega)⟩
    rw [pk_us, Int32.sub_add_cancel]
  · refine ⟨ve, f0, ⟨fun h => absurd h (by omega), fun h => absurd h (by omega), fun h => absurd h (by omega), fun _ j _ => rfl, fun h => absurd h (by omega), fun h => absurd h (by omega)⟩, fun h => absurd h (by omega)⟩
  · refine ⟨upd (upd ve x (ve z)) z (ve x), f0, ⟨fun h => absurd h (by omega), fun h => absurd h (by omega), fun h => absurd h (by omega), fun h => absurd h (by omega), fun _ => ⟨fun j _ hx hz => by rw [pk_un hz, pk_un hx], pk_us.symm, ?_⟩, fun h => absurd h (by omega)⟩, fun h => absurd h (by omega)⟩
    by_cases e : x = z
    · rw [e, pk_us]
    · rw [pk_un e, pk_us]
  · refine ⟨upd ve x (ve x - ve z), f0, ⟨fun h => absurd h (by omega), fun h => absurd h (by omega), fun h => absurd h (by omega), fun h => absurd h (by omega), fun h => absurd h (by omega), fun _ => ⟨fun j _ hj => (pk_un hj).symm, ?_⟩⟩, fun h => absurd h (by omega)⟩
    rw [pk_us, pk_un (fun e => hxz g e.symm), Int32.sub_add_cancel]
section
variable {n : Nat} {p k x z c : Nat → Nat} {y f : Nat → Int32}
theorem tw_ext (hT : tw_T n p k x z c) {w m m' : Nat} (hw : w < m) (hm : m ≤ m') : m' ≤ n → ∀ (V : Nat → Nat → Int32) (F : Nat → Int32), (∀ e, 0 < e → e < m → tw_E (k e) (x e) (z e) (y e) (c (p e)) (c e) (V (p e)) (F e) (V e)) → (∀ e, 0 < e → e < m → tw_fr p k e w → F e = f e) →
    ∃ (V' : Nat → Nat → Int32) (F' : Nat → Int32), (∀ e, 0 < e → e < m' → tw_E (k e) (x e) (z e) (y e) (c (p e)) (c e) (V' (p e)) (F' e) (V' e)) ∧ (∀ e, 0 < e → e < m' → tw_fr p k e w → F' e = f e) ∧ (∀ e, e < m → V' e = V e) := by
  induction hm with
  | refl => intro _ V F h1 h2; exact ⟨V, F, h1, h2, fun e _ => rfl⟩
  | @step q hq ih =>
    intro hn V F h1 h2
    have hq' : m ≤ q := hq
    obtain ⟨V', F', i1, i2, i3⟩ := ih (by omega) V F h1 h2
    have t := hT.2.2.2 q (by omega) (by omega)
    obtain ⟨ve, fe, hE, hf⟩ := tw_E_dn (x := x q) (z := z q) (cp := c (p q)) (ce := c q) (y := y q) t.2.1 (V' (p q)) (f q)
    refine ⟨fun j => if j = q then ve else V' j, fun j => if j = q then fe else F' j, fun e e0 he => ?_, fun e e0 he hfr => ?_, fun e he => ?_⟩
    · have tp := (hT.2.2.2 e e0 (by omega)).1
      dsimp only
      by_cases g : e = q
      · rw [if_neg (by omega), if_pos g, if_pos g, g]
        exact hE
      · rw [if_neg (by omega), if_neg g, if_neg g]
        exact i1 e e0 (by omega)
    · dsimp only
      by_cases g : e = q
      · rw [if_pos g, g]
        rw [g] at hfr
        rcases hfr with hfr | hfr
        · exact hf hfr.1
        · have := tw_B_le hfr.2
          omega
      · rw [if_neg g]
        exact i2 e e0 (by omega) hfr
    · dsimp only
      rw [if_neg (by omega)]
      exact i3 e he
theorem tw_fam0 (hT : tw_T n p k x z c) : ∀ v, v < n → ∀ d : Nat → Int32, ∃ (V : Nat → Nat → Int32) (F : Nat → Int32), (∀ e, 0 < e → e < v + 1 → tw_E (k e) (x e) (z e) (y e) (c (p e)) (c e) (V (p e)) (F e) (V e)) ∧ (∀ e, 0 < e → e < v + 1 → tw_fr p k e v → F e = f e) ∧ V v = d := by
  intro v
  induction v using Nat.strongRecOn with
  | ind v ih =>
    intro hv d
    rcases Nat.eq_zero_or_pos v with z0 | z0
    · exact ⟨fun _ => d, f, fun e h0 h1 => absurd h1 (by omega), fun e h0 h1 => absurd h1 (by omega), rfl⟩
    · have t := hT.2.2.2 v z0 hv
      obtain ⟨vp, fe, hE, hf⟩ := tw_E_up (x := x v) (z := z v) (cp := c (p v)) (ce := c v) (y := y v) t.2.1 t.2.2.2.2.2.2.2.2 d (f v)
      obtain ⟨V0, F0, i1, i2, i3⟩ := ih (p v) t.1 (by omega) vp
      obtain ⟨V1, F1, j1, j2, j3⟩ := tw_ext (y := y) (f := f) hT (w := p v) (m := p v + 1) (m' := v) (by omega) t.1 (by omega) V0 F0 i1 i2
      have hq : V1 (p v) = vp := by rw [j3 (p v) (by omega), i3]
      have hp : ∀ e, 0 < e → e < n → p e < e := fun e e0 he => tw_T_p hT e0 he
      refine ⟨fun j => if j = v then d else V1 j, fun j => if j = v then fe else F1 j, fun e e0 he => ?_, fun e e0 he hfr => ?_, if_pos rfl⟩
      · have tp := (hT.2.2.2 e e0 (by omega)).1
        dsimp only
        by_cases g : e = v
        · rw [if_neg (by omega), if_pos g, if_pos g, g, hq]
          exact hE
        · rw [if_neg (by omega), if_neg g, if_neg g]
          exact j1 e e0 (by omega)
      · dsimp only
        by_cases g : e = v
        · rw [if_pos g, g]
          rw [g] at hfr
          rcases hfr with hfr | hfr
          · exact absurd (tw_B_self p v) hfr.2
          · exact hf hfr.1
        · rw [if_neg g]
          refine j2 e e0 (by omega) ?_
          have s := tw_B_step hp hv (show e < v by omega)
          rcases hfr with hfr | hfr
          · exact Or.inl ⟨hfr.1, fun b => hfr.2 (s.mpr b)⟩
          · exact Or.inr ⟨hfr.1, s.mp hfr.2⟩
/-- a row at one version and what is free there make the row everywhere -/
theorem tw_fam (hT : tw_T n p k x z c) (y f : Nat → Int32) {v : Nat} (hv : v < n) (d : Nat → Int32) : ∃ (V : Nat → Nat → Int32) (F : Nat → Int32), tw_F n p k x z c y V F ∧ (∀ e, 0 < e → e < n → tw_fr p k e v → F e = f e) ∧ V v = d := by
  obtain ⟨V0, F0, i1, i2, i3⟩ := tw_fam0 (y := y) (f := f) hT v hv d
  obtain ⟨V1, F1, j1, j2, j3⟩ := tw_ext (y := y) (f := f) hT (w := v) (m := v + 1) (m' := n) (by omega) hv (Nat.le_refl n) V0 F0 i1 i2
  exact ⟨V1, F1, j1, j2, by rw [j3 v (by omega), i3]⟩
end
end
section
theorem tw_ix8 (r e : Nat) : (8 : Int32) * nI r + nI e = nI (8 * r + e) := by
  rw [show (8 : Int32) = nI 8 from rfl, pk_mul, nI_add]
theorem tw_ix5 (r e : Nat) : (5 : Int32) * nI r + nI e = nI (5 * r + e) := by
  rw [show (5 : Int32) = nI 5 from rfl, pk_mul, nI_add]
theorem tw_sub1 {i : Nat} (h : 0 < i) : nI i - 1 = nI (i - 1) := by
  have e : i = (i - 1) + 1 := by omega
  rw [e, nI_pred]
  rfl
theorem tw_by : ∀ t, t < 128 → (nI t).toInt8.toInt32 = nI t := by decide +kernel
theorem tw_nar {t : Nat} (h : t < 128) : vp_nar .byte (nI t) = nI t := by rw [vp_nar_byte, tw_by t h]
/-- the arrays of the versions hold the picture -/
def tw_M (n : Nat) (p k x z c : Nat → Nat) (a1 a2 a3 a4 a6 : Nat → Int32) : Prop :=
  ∀ e, e < n → a1 e = nI (p e) ∧ a2 e = nI (k e) ∧ a3 e = nI (x e) ∧ a4 e = nI (z e) ∧ a6 e = nI (c e)
theorem tw_L_S {m r : Nat} {F : Nat → Int32} {S S' : Nat → Prop} {a9 a12 b9 b12 : Nat → Int32} (h : tw_L m r F S a9 a12 b9 b12) (hs : ∀ i, S' i ↔ S i) : tw_L m r F S' a9 a12 b9 b12 := by
  have e : S' = S := funext (fun i => propext (hs i))
  rw [e]
  exact h
section
variable {vc hm rc wd : Int32} {a1 a2 a3 a4 a5 a6 a7 a8 a9 a10 a11 a12 a13 a14 : Nat → Int32} {n : Nat} {p k x z c : Nat → Nat} {V : Nat → Nat → Int32} {F : Nat → Int32}
theorem tw_comes {post : Int32 → Prop} (hn : n ≤ 8) (hp : ∀ e, 0 < e → e < n → p e < e) (h1 : ∀ e, e < n → a1 e = nI (p e)) {v e : Nat} (hv : v < n) (he : e < n) (H1 : tw_B p v e → post 1) (H0 : ¬ tw_B p v e → post 0) : wpX_comesFrom post (vc, hm, rc, wd, a1, a2, a3, a4, a5, a6, a7, a8, a9, a10, a11, a12, a13, a14) (nI v) (nI e) := by
  have main : ∀ fu v, v < n → v < fu → (tw_B p v e → post 1) → (¬ tw_B p v e → post 0) → wX_comesFrom_2 post (nI e) vc hm rc wd a1 a2 a3 a4 a5 a6 a7 a8 a9 a10 a11 a12 a13 a14 fu (nI v) := by
    intro fu
    induction fu with
    | zero => intro v _ h; exact absurd h (by omega)
    | succ fu ih =>
      intro v hv hf H1 H0
      refine pk_le v e (fun hle => ?_) (fun hlt => ?_)
      · refine pk_eq v e (fun g => ?_) (fun g => ?_)
        · rw [g] at H1; exact H1 (tw_B_self p e)
        · exact H0 (fun hb => g (Nat.le_antisymm hle (tw_B_le hb)))
      · have h3 := hp v (by omega) hv
        refine ⟨pk_in v 8 (by omega), nm_r (e' := nI (p v)) (by rw [nI_clamp (by omega)]; exact h1 v hv) ?_⟩
        exact ih (p v) (by omega) (by omega) (fun hb => H1 ((tw_B_step hp hv hlt).mpr hb)) (fun hb => H0 (fun g => hb ((tw_B_step hp hv hlt).mp g)))
  exact ⟨v + 1, main (v + 1) v hv (by omega) H1 H0⟩
theorem tw_lay {post : St1 → Prop} {m r e : Nat} {val : Int32} (hm3 : m < 3) (hr : r < 12) (he : e < 8) (hv : val = F e) (H : ∀ (b9 b12 : Nat → Int32), tw_L m r F (fun i => i = e) a9 a12 b9 b12 → post (vc, hm, rc, wd, a1, a2, a3, a4, a5, a6, a7, a8, b9, a10, a11, b12, a13, a14)) : wpX_lay post (vc, hm, rc, wd, a1, a2, a3, a4, a5, a6, a7, a8, a9, a10, a11, a12, a13, a14) (nI r) (nI e) (nI m) val := by
  refine pk_eq m 0 (fun g => ⟨pk_in e 8 he, nm_r (e' := upd a12 e (F e)) ?_ ?_⟩) (fun g => ⟨pk_in (8 * r + e) 96 (by omega) (tw_ix8 r e), nm_r (e' := upd a9 (8 * r + e) (F e)) ?_ ?_⟩)
  · rw [nI_clamp (by omega), hv]
  · refine H a9 (upd a12 e (F e)) ?_
    rw [g]
    exact tw_L_1 (fun i => Iff.rfl)
  · rw [tw_ix8, nI_clamp (by omega), hv]
  · exact H (upd a9 (8 * r + e) (F e)) a12 (tw_L_2 g he (fun i => Iff.rfl))
theorem tw_pick {post : Int32 → Prop} {m r e : Nat} (hm3 : m < 3) (hr : r < 12) (he : e < 8) (H : post (tw_pk m r a9 a12 e)) : wpX_pick post (vc, hm, rc, wd, a1, a2, a3, a4, a5, a6, a7, a8, a9, a10, a11, a12, a13, a14) (nI r) (nI e) (nI m) := by
  unfold tw_pk at H
  refine pk_eq m 1 (fun g => ⟨pk_in e 8 he, ?_⟩) (fun g => ⟨pk_in (8 * r + e) 96 (by omega) (tw_ix8 r e), ?_⟩)
  · rw [if_pos g] at H
    rw [nI_clamp (by omega)]
    exact H
  · rw [if_neg g] at H
    rw [tw_ix8, nI_clamp (by omega)]
    exact H
theorem tw_exch {post : St1 → Prop} {i j : Nat} (hi : i < 5) (hj : j < 5) (H : post (vc, hm, rc, wd, a1, a2, a3, a4, a5, a6, a7, a8, a9, a10, upd (upd a11 i (a11 j)) j (a11 i), a12, a13, a14)) : wpX_exchangeColumns post (vc, hm, rc, wd, a1, a2, a3, a4, a5, a6, a7, a8, a9, a10, a11, a12, a13, a14) (nI i) (nI j) := by
  refine And.intro (pk_in i 5 hi) (nm_r (e' := a11 i) (by rw [nI_clamp (by omega)]) ⟨pk_in j 5 hj, pk_in i 5 hi, nm_r (e' := upd a11 i (a11 j)) (by rw [nI_clamp (by omega), nI_clamp (by omega)]) ⟨pk_in j 5 hj, nm_r (e' := upd (upd a11 i (a11 j)) j (a11 i)) (by rw [nI_clamp (by omega)]) H⟩⟩)
theorem tw_climb62 {post : St1 → Prop} {m r e xx w : Nat} {A : Nat → Int32} (hm3 : m < 3) (hr : r < 12) (he : e < 8) (hw : w ≤ 4) (H : ∀ (b11 : Nat → Int32), (∀ j, j < xx → b11 j = A j) → b11 xx = tw_pk m r a9 a12 e → (∀ j, xx < j → j ≤ w → b11 j = A (j - 1)) → post (vc, hm, rc, nI (w + 1), a1, a2, a3, a4, a5, a6, a7, a8, a9, a10, b11, a12, a13, a14)) :
    ∀ (fu i : Nat) (a11 : Nat → Int32), xx ≤ i → i ≤ w → i - xx < fu → (∀ j, j ≤ i → a11 j = A j) → (∀ j, i < j → j ≤ w → a11 j = A (j - 1)) → wX_climb_62 post (nI r) (nI e) (nI m) (nI xx) vc hm rc (nI w) fu (nI i) a1 a2 a3 a4 a5 a6 a7 a8 a9 a10 a11 a12 a13 a14 := by
  intro fu
  induction fu with
  | zero => intro i a11 _ _ h; exact absurd h (by omega)
  | succ fu ih =>
    intro i a11 h1 h2 h3 h4 h5
    refine pk_le i xx (fun hle => ?_) (fun hlt => ?_)
    · refine tw_pick hm3 hr he (And.intro (pk_in xx 5 (by omega)) (nm_r (e' := upd a11 xx (tw_pk m r a9 a12 e)) (by rw [nI_clamp (by omega)]) (nm_r (nI_1 w) (H _ (fun j hj => ?_) pk_us (fun j hj hj' => ?_)))))
      · rw [pk_un (by omega)]; exact h4 j (by omega)
      · rw [pk_un (by omega)]; exact h5 j (by omega) hj'
    · refine ⟨pk_in (i - 1) 5 (by omega) (tw_sub1 (by omega)), pk_in i 5 (by omega), nm_r (e' := upd a11 i (a11 (i - 1))) (by rw [tw_sub1 (by omega), nI_clamp (by omega), nI_clamp (by omega)]) (nm_r (e' := nI (i - 1)) (sb_m1 (by omega)) (ih (i - 1) _ (by omega) (by omega) (by omega) (fun j hj => ?_) (fun j hj hj' => ?_)))⟩
      · rw [pk_un (by omega)]; exact h4 j (by omega)
      · by_cases g : j = i
        · rw [g, pk_us]; exact h4 (i - 1) (by omega)
        · rw [pk_un g]; exact h5 j (by omega) hj'
theorem tw_desc84 {post : St1 → Prop} {xx w : Nat} {A : Nat → Int32} (hw : w ≤ 4) (H : ∀ (b11 : Nat → Int32), (∀ j, j < xx → b11 j = A j) → (∀ j, xx ≤ j → j < w → b11 j = A (j + 1)) → post (vc, hm, rc, nI w, a1, a2, a3, a4, a5, a6, a7, a8, a9, a10, b11, a12, a13, a14)) :
    ∀ (fu i : Nat) (a11 : Nat → Int32), xx ≤ i → i ≤ w → w - i < fu → (∀ j, j < xx → a11 j = A j) → (∀ j, xx ≤ j → j < i → a11 j = A (j + 1)) → (∀ j, i ≤ j → a11 j = A j) → wX_descend_84 post vc hm rc (nI w) fu (nI i) a1 a2 a3 a4 a5 a6 a7 a8 a9 a10 a11 a12 a13 a14 := by
  intro fu
  induction fu with
  | zero => intro i a11 _ _ h; exact absurd h (by omega)
  | succ fu ih =>
    intro i a11 h1 h2 h3 h4 h5 h6
    refine pk_le w i (fun hle => ?_) (fun hlt => ?_)
    · exact H a11 h4 (fun j hj hj' => h5 j hj (by omega))
    · refine ⟨pk_in (i + 1) 5 (by omega) (nI_1 i), pk_in i 5 (by omega), nm_r (e' := upd a11 i (a11 (i + 1))) (by rw [nI_1, nI_clamp (by omega), nI_clamp (by omega)]) (nm_r (e' := nI (i + 1)) (nI_1 i) (ih (i + 1) _ (by omega) (by omega) (by omega) (fun j hj => ?_) (fun j hj hj' => ?_) (fun j hj => ?_)))⟩
      · rw [pk_un (by omega)]; exact h4 j hj
      · by_cases g : j = i
        · rw [g, pk_us]; exact h6 (i + 1) (by omega)
        · rw [pk_un g]; exact h5 j hj (by omega)
      · rw [pk_un (by omega)]; exact h6 j (by omega)
theorem tw_climb {post : St1 → Prop} {m r e : Nat} (hT : tw_T n p k x z c) (hM : tw_M n p k x z c a1 a2 a3 a4 a6) (hm3 : m < 3) (hr : r < 12) (h0 : 0 < e) (he : e < n)
    (hE : tw_E (k e) (x e) (z e) (a5 e) (c (p e)) (c e) (V (p e)) (F e) (V e)) (hV : ∀ j, j < c e → a11 j = V e j) (hP : k e = 1 → tw_pk m r a9 a12 e = F e)
    (H : ∀ (b9 b11 b12 : Nat → Int32), (∀ j, j < c (p e) → b11 j = V (p e) j) → tw_L m r F (fun i => i = e ∧ k e = 0) a9 a12 b9 b12 → post (vc, hm, rc, nI (c (p e)), a1, a2, a3, a4, a5, a6, a7, a8, b9, a10, b11, b12, a13, a14)) :
    wpX_climb post (vc, hm, rc, nI (c e), a1, a2, a3, a4, a5, a6, a7, a8, a9, a10, a11, a12, a13, a14) (nI r) (nI e) (nI m) := by
  have hp1 := tw_T_p hT h0 he
  have hcp := tw_T_c hT (show p e < n by omega)
  have hce := tw_T_c hT he
  obtain ⟨hn1, hn8, hc0, hTe⟩ := hT
  obtain ⟨t1, t2, t3, t4, t5, t6, t7, t8, t9⟩ := hTe e h0 he
  obtain ⟨m1, m2, m3, m4, m6⟩ := hM e he
  obtain ⟨E0, E1, E2, E3, E4, E5⟩ := hE
  refine And.intro (pk_in e 8 (by omega)) (nm_r (e' := nI (k e)) (by rw [nI_clamp (by omega)]; exact m2) ⟨pk_in e 8 (by omega), nm_r (e' := nI (x e)) (by rw [nI_clamp (by omega)]; exact m3) ?_⟩)
  refine pk_eq (k e) 0 (fun g => ?_) (fun g0 => pk_eq (k e) 1 (fun g => ?_) (fun g1 => pk_eq (k e) 2 (fun g => ?_) (fun g2 => pk_eq (k e) 4 (fun g => ?_) (fun g4 => pk_eq (k e) 5 (fun g => ?_) (fun g5 => ?_)))))
  · refine nm_r (e' := nI (c (p e))) (by rw [t5 g]; exact nI_pred _) ⟨pk_in (c (p e)) 5 (by omega), ?_⟩
    refine tw_lay (F := F) hm3 hr (by omega) ?_ (fun b9 b12 hL => ?_)
    · rw [nI_clamp (by omega), hV _ (by omega)]; exact (E0 g).2
    · exact H b9 a11 b12 (fun j hj => by rw [hV j (by omega)]; exact (E0 g).1 j hj) (tw_L_S hL (fun i => ⟨fun s => s.1, fun s => ⟨s, g⟩⟩))
  · refine ⟨c e + 1, ?_⟩
    have tc := t6 g
    refine tw_climb62 (A := a11) hm3 hr (by omega) (by omega) (fun b11 q1 q2 q3 => ?_) (c e + 1) (c e) a11 (by omega) (Nat.le_refl _) (by omega) (fun j _ => rfl) (fun j hj hj' => absurd hj (by omega))
    rw [tc.1]
    refine H a9 b11 a12 (fun j hj => ?_) (tw_L_nil (fun i s => absurd s.2 (by omega)))
    obtain ⟨f1, f2, f3⟩ := E1 g
    rcases Nat.lt_trichotomy j (x e) with q | q | q
    · rw [q1 j q, hV j (by omega)]; exact f1 j q
    · rw [q, q2, hP g]; exact f3.symm
    · rw [q3 j q (by omega), hV (j - 1) (by omega), f2 (j - 1) (by omega) (by omega), show j - 1 + 1 = j by omega]
  · have tc := t7 (by omega)
    rw [← tc.1] at H
    refine ⟨pk_in (x e) 5 (by omega), pk_in e 8 (by omega), pk_in (x e) 5 (by omega), nm_r (e' := upd a11 (x e) (a11 (x e) - a5 e)) (by rw [nI_clamp (by omega), nI_clamp (by omega)]) (H a9 _ a12 (fun j hj => ?_) (tw_L_nil (fun i s => absurd s.2 g0)))⟩
    obtain ⟨f1, f2⟩ := E2 g
    by_cases q : j = x e
    · rw [q, pk_us, hV _ (by omega), f2, Int32.add_sub_cancel]
    · rw [pk_un q, hV j hj]; exact f1 j (by omega) q
  · have tc := t7 (by omega)
    have tz := t8 (by omega)
    rw [← tc.1] at H
    refine ⟨pk_in e 8 (by omega), ?_⟩
    rw [nI_clamp (show e < 2 ^ 31 by omega), m4]
    refine tw_exch (by omega) (by omega) (H a9 _ a12 (fun j hj => ?_) (tw_L_nil (fun i s => absurd s.2 g0)))
    obtain ⟨f1, f2, f3⟩ := E4 g
    by_cases q : j = z e
    · rw [q, pk_us, hV _ (by omega), f2]
    · rw [pk_un q]
      by_cases q' : j = x e
      · rw [q', pk_us, hV _ (by omega), f3]
      · rw [pk_un q', hV j hj]; exact f1 j (by omega) q' q
  · have tc := t7 (by omega)
    have tz := t8 (by omega)
    have txz := t9 g
    rw [← tc.1] at H
    refine ⟨pk_in (x e) 5 (by omega), pk_in e 8 (by omega), ?_⟩
    rw [nI_clamp (show e < 2 ^ 31 by omega), m4]
    refine ⟨pk_in (z e) 5 (by omega), pk_in (x e) 5 (by omega), nm_r (e' := upd a11 (x e) (a11 (x e) - a11 (z e))) (by rw [nI_clamp (by omega), nI_clamp (by omega)]) (H a9 _ a12 (fun j hj => ?_) (tw_L_nil (fun i s => absurd s.2 g0)))⟩
    obtain ⟨f1, f2⟩ := E5 g
    by_cases q : j = x e
    · rw [q, pk_us, hV _ (by omega), hV _ (by omega), f2, f1 (z e) tz (fun h => txz h.symm), Int32.add_sub_cancel]
    · rw [pk_un q, hV j hj]; exact f1 j (by omega) q
  · have tc := t7 (by omega)
    rw [← tc.1] at H
    exact H a9 a11 a12 (fun j hj => by rw [hV j hj]; exact E3 (by omega) j (by omega)) (tw_L_nil (fun i s => absurd s.2 g0))
theorem tw_descend {post : St1 → Prop} {m r e : Nat} (hT : tw_T n p k x z c) (hM : tw_M n p k x z c a1 a2 a3 a4 a6) (hm3 : m < 3) (hr : r < 12) (h0 : 0 < e) (he : e < n)
    (hE : tw_E (k e) (x e) (z e) (a5 e) (c (p e)) (c e) (V (p e)) (F e) (V e)) (hV : ∀ j, j < c (p e) → a11 j = V (p e) j) (hP : k e = 0 → tw_pk m r a9 a12 e = F e)
    (H : ∀ (b9 b11 b12 : Nat → Int32), (∀ j, j < c e → b11 j = V e j) → tw_L m r F (fun i => i = e ∧ k e = 1) a9 a12 b9 b12 → post (vc, hm, rc, nI (c e), a1, a2, a3, a4, a5, a6, a7, a8, b9, a10, b11, b12, a13, a14)) :
    wpX_descend post (vc, hm, rc, nI (c (p e)), a1, a2, a3, a4, a5, a6, a7, a8, a9, a10, a11, a12, a13, a14) (nI r) (nI e) (nI m) := by
  have hp1 := tw_T_p hT h0 he
  have hcp := tw_T_c hT (show p e < n by omega)
  have hce := tw_T_c hT he
  obtain ⟨hn1, hn8, hc0, hTe⟩ := hT
  obtain ⟨t1, t2, t3, t4, t5, t6, t7, t8, t9⟩ := hTe e h0 he
  obtain ⟨m1, m2, m3, m4, m6⟩ := hM e he
  obtain ⟨E0, E1, E2, E3, E4, E5⟩ := hE
  refine And.intro (pk_in e 8 (by omega)) (nm_r (e' := nI (k e)) (by rw [nI_clamp (by omega)]; exact m2) ⟨pk_in e 8 (by omega), nm_r (e' := nI (x e)) (by rw [nI_clamp (by omega)]; exact m3) ?_⟩)
  refine pk_eq (k e) 0 (fun g => ?_) (fun g0 => pk_eq (k e) 1 (fun g => ?_) (fun g1 => pk_eq (k e) 2 (fun g => ?_) (fun g2 => pk_eq (k e) 4 (fun g => ?_) (fun g4 => pk_eq (k e) 5 (fun g => ?_) (fun g5 => ?_)))))
  · have tc := t5 g
    rw [tc] at H
    refine tw_pick hm3 hr (by omega) (And.intro (pk_in (c (p e)) 5 (by omega)) (nm_r (e' := upd a11 (c (p e)) (F e)) (by rw [nI_clamp (by omega), hP g]) (nm_r (e' := nI (c (p e) + 1)) (nI_1 _) (H a9 _ a12 (fun j hj => ?_) (tw_L_nil (fun i s => absurd s.2 (by omega)))))))
    obtain ⟨f1, f2⟩ := E0 g
    by_cases q : j = c (p e)
    · rw [q, pk_us]; exact f2.symm
    · rw [pk_un q, hV j (by omega)]; exact (f1 j (by omega)).symm
  · have tc := t6 g
    obtain ⟨f1, f2, f3⟩ := E1 g
    refine ⟨pk_in (x e) 5 (by omega), ?_⟩
    refine tw_lay (F := F) hm3 hr (by omega) ?_ (fun b9 b12 hL => ?_)
    · rw [nI_clamp (by omega), hV _ (by omega)]; exact f3
    · refine nm_r (e' := nI (c e)) (by rw [← tc.1]; exact nI_pred _) ⟨c e + 1, ?_⟩
      refine tw_desc84 (A := a11) (by omega) (fun b11 q1 q2 => ?_) (c e + 1) (x e) a11 (Nat.le_refl _) (by omega) (by omega) (fun j _ => rfl) (fun j hj hj' => absurd hj (by omega)) (fun j _ => rfl)
      refine H b9 b11 b12 (fun j hj => ?_) (tw_L_S hL (fun i => ⟨fun s => s.1, fun s => ⟨s, g⟩⟩))
      rcases Nat.lt_or_ge j (x e) with q | q
      · rw [q1 j q, hV j (by omega)]; exact (f1 j q).symm
      · rw [q2 j q hj, hV (j + 1) (by omega)]; exact (f2 j q hj).symm
  · have tc := t7 (by omega)
    rw [tc.1] at H
    refine ⟨pk_in (x e) 5 (by omega), pk_in e 8 (by omega), pk_in (x e) 5 (by omega), nm_r (e' := upd a11 (x e) (a11 (x e) + a5 e)) (by rw [nI_clamp (by omega), nI_clamp (by omega)]) (H a9 _ a12 (fun j hj => ?_) (tw_L_nil (fun i s => absurd s.2 g1)))⟩
    obtain ⟨f1, f2⟩ := E2 g
    by_cases q : j = x e
    · rw [q, pk_us, hV _ (by omega), f2]
    · rw [pk_un q, hV j hj]; exact (f1 j (by omega) q).symm
  · have tc := t7 (by omega)
    have tz := t8 (by omega)
    rw [tc.1] at H
    refine ⟨pk_in e 8 (by omega), ?_⟩
    rw [nI_clamp (show e < 2 ^ 31 by omega), m4]
    refine tw_exch (by omega) (by omega) (H a9 _ a12 (fun j hj => ?_) (tw_L_nil (fun i s => absurd s.2 g1)))
    obtain ⟨f1, f2, f3⟩ := E4 g
    by_cases q : j = z e
    · rw [q, pk_us, hV _ (by omega), f3]
    · rw [pk_un q]
      by_cases q' : j = x e
      · rw [q', pk_us, hV _ (by omega), f2]
      · rw [pk_un q', hV j hj]; exact (f1 j (by omega) q' q).symm
  · have tc := t7 (by omega)
    have tz := t8 (by omega)
    rw [tc.1] at H
    refine ⟨pk_in (x e) 5 (by omega), pk_in e 8 (by omega), ?_⟩
    rw [nI_clamp (show e < 2 ^ 31 by omega), m4]
    refine ⟨pk_in (z e) 5 (by omega), pk_in (x e) 5 (by omega), nm_r (e' := upd a11 (x e) (a11 (x e) + a11 (z e))) (by rw [nI_clamp (by omega), nI_clamp (by omega)]) (H a9 _ a12 (fun j hj => ?_) (tw_L_nil (fun i s => absurd s.2 g1)))⟩
    obtain ⟨f1, f2⟩ := E5 g
    by_cases q : j = x e
    · rw [q, pk_us, hV _ (by omega), hV _ (by omega), f2]
    · rw [pk_un q, hV j hj]; exact (f1 j (by omega) q).symm
  · have tc := t7 (by omega)
    rw [tc.1] at H
    exact H a9 a11 a12 (fun j hj => by rw [hV j hj]; exact (E3 (by omega) j hj).symm) (tw_L_nil (fun i s => absurd s.2 g1))
end
end
section
theorem tw_m1 (x : Int32) : x + (-1) = x - 1 := by rw [Int32.sub_eq_add_neg]
/-- what is laid down on a way from w to g -/
def tw_W (n : Nat) (p k : Nat → Nat) (w g : Nat) (e : Nat) : Prop := 0 < e ∧ e < n ∧ tw_cr p w g e ∧ tw_fr p k e g
theorem tw_cr_self (p : Nat → Nat) (w e : Nat) : ¬ tw_cr p w w e := fun h => h Iff.rfl
section
variable {vc hm rc wd : Int32} {a1 a2 a3 a4 a5 a6 a7 a8 a9 a10 a11 a12 a13 a14 : Nat → Int32} {n : Nat} {p k x z c : Nat → Nat} {V : Nat → Nat → Int32} {F : Nat → Int32}
/-- a step over the edit e, up or down: u and u' its two ends -/
theorem tw_W_step {g e u u' : Nat} (h0 : 0 < e) (he : e < n) (hB : ∀ i, i ≠ e → (tw_B p u i ↔ tw_B p u' i)) (hu : tw_B p u' e ↔ tw_B p g e) (hc : tw_cr p u g e) (i : Nat) :
    tw_W n p k u g i ↔ (i = e ∧ tw_fr p k e g) ∨ tw_W n p k u' g i := by
  constructor
  · intro h
    by_cases q : i = e
    · exact Or.inl ⟨q, by have := h.2.2.2; rw [q] at this; exact this⟩
    · refine Or.inr ⟨h.1, h.2.1, fun s => h.2.2.1 ⟨fun t => s.mp ((hB i q).mp t), fun t => (hB i q).mpr (s.mpr t)⟩, h.2.2.2⟩
  · intro h
    rcases h with h | h
    · rw [h.1]; exact ⟨h0, he, hc, h.2⟩
    · by_cases q : i = e
      · exact absurd (show tw_B p u' i ↔ tw_B p g i by rw [q]; exact hu) h.2.2.1
      · refine ⟨h.1, h.2.1, fun s => h.2.2.1 ⟨fun t => s.mp ((hB i q).mpr t), fun t => (hB i q).mp (s.mpr t)⟩, h.2.2.2⟩
theorem tw_pk_step {g e u u' : Nat} {m r : Nat} {b9 b12 : Nat → Int32} {S : Nat → Prop} (hn : n ≤ 8) (hB : ∀ i, i ≠ e → (tw_B p u i ↔ tw_B p u' i)) (hu : tw_B p u' e ↔ tw_B p g e)
    (hP : ∀ i, 0 < i → i < n → tw_cr p u g i → tw_fr p k i u → tw_pk m r a9 a12 i = F i) (hL : tw_L m r F S a9 a12 b9 b12) :
    ∀ i, 0 < i → i < n → tw_cr p u' g i → tw_fr p k i u' → tw_pk m r b9 b12 i = F i := by
  intro i i0 hi hc hf
  by_cases q : i = e
  · exact absurd (show tw_B p u' i ↔ tw_B p g i by rw [q]; exact hu) hc
  · refine tw_L_pk hL (by omega) (hP i i0 hi (fun s => hc ⟨fun t => s.mp ((hB i q).mpr t), fun t => (hB i q).mp (s.mpr t)⟩) ?_)
    rcases hf with hf | hf
    · exact Or.inl ⟨hf.1, fun t => hf.2 ((hB i q).mp t)⟩
    · exact Or.inr ⟨hf.1, (hB i q).mpr hf.2⟩
theorem tw_carry78 {post : St1 → Prop} {m r g : Nat} (hT : tw_T n p k x z c) (hM : tw_M n p k x z c a1 a2 a3 a4 a6) (hF : tw_F n p k x z c a5 V F) (hm3 : m < 3) (hr : r < 12) (hg : g < n) :
    ∀ i, i ≤ 8 → (∀ j, j < i → 0 < tw_it p g j ∧ tw_it p g j < n ∧ tw_B p g (tw_it p g j)) → (∀ j, j < i → a13 j = nI (tw_it p g j)) →
    ∀ (a9 a11 a12 : Nat → Int32), (∀ j, j < c (tw_it p g i) → a11 j = V (tw_it p g i) j) → (∀ e, 0 < e → e < n → tw_cr p (tw_it p g i) g e → tw_fr p k e (tw_it p g i) → tw_pk m r a9 a12 e = F e) →
    (∀ (b9 b11 b12 : Nat → Int32), (∀ j, j < c g → b11 j = V g j) → tw_L m r F (tw_W n p k (tw_it p g i) g) a9 a12 b9 b12 → post (vc, hm, rc, nI (c g), a1, a2, a3, a4, a5, a6, a7, a8, b9, a10, b11, b12, a13, a14)) →
    ∀ fu, i < fu → wX_carry_78 post (nI r) (nI m) fu (nI i - 1) vc hm rc (nI (c (tw_it p g i))) a1 a2 a3 a4 a5 a6 a7 a8 a9 a10 a11 a12 a13 a14 := by
  intro i
  induction i with
  | zero =>
    intro _ _ _ a9 a11 a12 hV hP H fu hfu
    cases fu with
    | zero => exact absurd hfu (by omega)
    | succ fu => exact br_t (show (nI 0 - 1 : Int32) < 0 by decide) (H a9 a11 a12 hV (tw_L_nil (fun e s => tw_cr_self p g e s.2.2.1)))
  | succ i ih =>
    intro hi8 hj ha a9 a11 a12 hV hP H fu hfu
    cases fu with
    | zero => exact absurd hfu (by omega)
    | succ fu =>
      have hp : ∀ e, 0 < e → e < n → p e < e := fun e e0 he => tw_T_p hT e0 he
      obtain ⟨h0, he, hb⟩ := hj i (by omega)
      have hnb := tw_B_not hp h0 he
      have hc : tw_cr p (p (tw_it p g i)) g (tw_it p g i) := fun s => hnb (s.mpr hb)
      have hB : ∀ q, q ≠ tw_it p g i → (tw_B p (p (tw_it p g i)) q ↔ tw_B p (tw_it p g i) q) := fun q hq => (tw_B_par hp h0 he hq).symm
      have hu : tw_B p (tw_it p g i) (tw_it p g i) ↔ tw_B p g (tw_it p g i) := ⟨fun _ => hb, fun _ => tw_B_self p _⟩
      rw [nI_pred]
      refine pk_lt i 0 (fun h => absurd h (by omega)) (fun _ => ⟨pk_in i 8 (by omega), ?_⟩)
      rw [nI_clamp (show i < 2 ^ 31 by omega), ha i (by omega)]
      refine tw_descend (V := V) (F := F) hT hM hm3 hr h0 he (hF _ h0 he) hV (fun hk => hP _ h0 he hc (Or.inl ⟨hk, hnb⟩)) (fun b9 b11 b12 hb11 hL => ?_)
      refine nm_r (e' := nI i - 1) (tw_m1 _) (ih (by omega) (fun j hj' => hj j (by omega)) (fun j hj' => ha j (by omega)) b9 b11 b12 hb11 (tw_pk_step hT.2.1 hB hu hP hL) (fun c9 c11 c12 hc11 hL2 => ?_) fu (by omega))
      refine H c9 c11 c12 hc11 (tw_L_comp hL hL2 (fun q => ?_))
      refine (tw_W_step (k := k) h0 he hB hu hc q).trans ?_
      constructor
      · intro s
        rcases s with s | s
        · refine Or.inl ⟨s.1, ?_⟩
          rcases s.2 with t | t
          · exact absurd hb t.2
          · exact t.1
        · exact Or.inr s
      · intro s
        rcases s with s | s
        · exact Or.inl ⟨s.1, Or.inr ⟨s.2, hb⟩⟩
        · exact Or.inr s
theorem tw_carry40 {post : St1 → Prop} {m r g w d : Nat} (hn : n ≤ 8) (h1 : ∀ e, e < n → a1 e = nI (p e)) (hg : g < n) (hw : w < n) (hd : tw_it p g d = w) (hdg : d + w ≤ g) (hj : ∀ j, j < d → w < tw_it p g j ∧ tw_it p g j < n)
    (H : ∀ (a13 : Nat → Int32), (∀ j, j < d → a13 j = nI (tw_it p g j)) → ∃ fu, wX_carry_78 post (nI r) (nI m) fu (nI d - 1) vc hm rc wd a1 a2 a3 a4 a5 a6 a7 a8 a9 a10 a11 a12 a13 a14) :
    ∀ (fu i : Nat) (a13 : Nat → Int32), i ≤ d → d - i < fu → (∀ j, j < i → a13 j = nI (tw_it p g j)) → wX_carry_40 post (nI r) (nI m) (nI w) vc hm rc wd fu (nI i) (nI (tw_it p g i)) a1 a2 a3 a4 a5 a6 a7 a8 a9 a10 a11 a12 a13 a14 := by
  intro fu
  induction fu with
  | zero => intro i a13 _ h; exact absurd h (by omega)
  | succ fu ih =>
    intro i a13 hi hf ha
    have hin : tw_it p g i < n := by
      rcases Nat.lt_or_ge i d with q | q
      · exact (hj i q).2
      · have : i = d := by omega
        rw [this, hd]; exact hw
    refine pk_eq (tw_it p g i) w (fun h => ?_) (fun h => ?_)
    · have e : i = d := by
        rcases Nat.lt_or_ge i d with q | q
        · have := (hj i q).1; omega
        · omega
      subst e
      exact nm_r rfl (H a13 ha)
    · have hid : i < d := by
        rcases Nat.lt_or_ge i d with q | q
        · exact q
        · have : i = d := by omega
          rw [this] at h; exact absurd hd h
      refine ⟨pk_in i 8 (by omega), nm_r (e' := upd a13 i (nI (tw_it p g i))) (by rw [nI_clamp (by omega), tw_by _ (by omega)]) (nm_r (e' := nI (i + 1)) (nI_1 i) ⟨pk_in (tw_it p g i) 8 (by omega), nm_r (e' := nI (tw_it p g (i + 1))) (by rw [nI_clamp (by omega)]; exact h1 _ hin) (ih (i + 1) _ (by omega) (by omega) (fun j hj' => ?_))⟩)⟩
      by_cases q : j = i
      · rw [q, pk_us]
      · rw [pk_un q]; exact ha j (by omega)
theorem tw_carry3 {post : St1 → Prop} {m r g : Nat} (hT : tw_T n p k x z c) (hM : tw_M n p k x z c a1 a2 a3 a4 a6) (hF : tw_F n p k x z c a5 V F) (hm3 : m < 3) (hr : r < 12) (hg : g < n) :
    ∀ fu w, w < n → w < fu → ∀ (a9 a11 a12 : Nat → Int32), (∀ j, j < c w → a11 j = V w j) → (∀ e, 0 < e → e < n → tw_cr p w g e → tw_fr p k e w → tw_pk m r a9 a12 e = F e) →
    (∀ (b9 b11 b12 b13 : Nat → Int32), (∀ j, j < c g → b11 j = V g j) → tw_L m r F (tw_W n p k w g) a9 a12 b9 b12 → post (vc, hm, rc, nI (c g), a1, a2, a3, a4, a5, a6, a7, a8, b9, a10, b11, b12, b13, a14)) →
    wX_carry_3 post (nI r) (nI g) (nI m) fu (nI w) vc hm rc (nI (c w)) a1 a2 a3 a4 a5 a6 a7 a8 a9 a10 a11 a12 a13 a14 := by
  have hp : ∀ e, 0 < e → e < n → p e < e := fun e e0 he => tw_T_p hT e0 he
  have hn8 : n ≤ 8 := hT.2.1
  intro fu
  induction fu with
  | zero => intro w _ h; exact absurd h (by omega)
  | succ fu ih =>
    intro w hw hf a9 a11 a12 hV hP H
    refine tw_comes (p := p) hn8 hp (fun e he => (hM e he).1) hg hw (fun hb => br_f (by decide) ?_) (fun hb => br_t rfl ?_)
    · obtain ⟨d, d1, d2, d3⟩ := tw_way hp g hg hb
      refine ⟨d + 1, tw_carry40 (p := p) (d := d) hn8 (fun e he => (hM e he).1) hg hw d1 d2 (fun j hj => ⟨(d3 j hj).1, (d3 j hj).2.1⟩) (fun b13 h13 => ⟨d + 1, ?_⟩) (d + 1) 0 a13 (by omega) (by omega) (fun j hj => absurd hj (by omega))⟩
      subst d1
      exact tw_carry78 (V := V) (F := F) hT hM hF hm3 hr hg d (by omega) (fun j hj => ⟨by have := (d3 j hj).1; omega, (d3 j hj).2⟩) h13 a9 a11 a12 hV hP (fun b9 b11 b12 q1 q2 => H b9 b11 b12 b13 q1 q2) (d + 1) (by omega)
    · have h0 : 0 < w := by
        rcases Nat.eq_zero_or_pos w with q | q
        · rw [q] at hb; exact absurd (tw_B_zero hp g hg) hb
        · exact q
      have hpw := hp w h0 hw
      have hs := tw_B_self p w
      have hc : tw_cr p w g w := fun s => hb (s.mp hs)
      have hB : ∀ q, q ≠ w → (tw_B p w q ↔ tw_B p (p w) q) := fun q hq => tw_B_par hp h0 hw hq
      have hu : tw_B p (p w) w ↔ tw_B p g w := ⟨fun t => absurd t (tw_B_not hp h0 hw), fun t => absurd t hb⟩
      refine tw_climb (V := V) (F := F) hT hM hm3 hr h0 hw (hF w h0 hw) hV (fun hk => hP w h0 hw hc (Or.inr ⟨hk, hs⟩)) (fun b9 b11 b12 hb11 hL => ?_)
      refine ⟨pk_in w 8 (by omega), nm_r (e' := nI (p w)) (by rw [nI_clamp (by omega)]; exact (hM w hw).1) (ih (p w) (by omega) (by omega) b9 b11 b12 hb11 (tw_pk_step hn8 hB hu hP hL) (fun c9 c11 c12 c13 hc11 hL2 => ?_))⟩
      refine H c9 c11 c12 c13 hc11 (tw_L_comp hL hL2 (fun q => ?_))
      refine (tw_W_step (k := k) h0 hw hB hu hc q).trans ?_
      constructor
      · intro s
        rcases s with s | s
        · refine Or.inl ⟨s.1, ?_⟩
          rcases s.2 with t | t
          · exact t.1
          · exact absurd t.2 hb
        · exact Or.inr s
      · intro s
        rcases s with s | s
        · exact Or.inl ⟨s.1, Or.inl ⟨s.2, hb⟩⟩
        · exact Or.inr s
/-- a row on its way from s to g -/
theorem tw_carry {post : St1 → Prop} {m r s g : Nat} (hT : tw_T n p k x z c) (hM : tw_M n p k x z c a1 a2 a3 a4 a6) (hF : tw_F n p k x z c a5 V F) (hm3 : m < 3) (hr : r < 12) (hs : s < n) (hg : g < n)
    (hV : ∀ j, j < c s → a11 j = V s j) (hP : ∀ e, 0 < e → e < n → tw_cr p s g e → tw_fr p k e s → tw_pk m r a9 a12 e = F e)
    (H : ∀ (b9 b11 b12 b13 : Nat → Int32), (∀ j, j < c g → b11 j = V g j) → tw_L m r F (tw_W n p k s g) a9 a12 b9 b12 → post (vc, hm, rc, nI (c g), a1, a2, a3, a4, a5, a6, a7, a8, b9, a10, b11, b12, b13, a14)) :
    wpX_carry post (vc, hm, rc, nI (c s), a1, a2, a3, a4, a5, a6, a7, a8, a9, a10, a11, a12, a13, a14) (nI r) (nI s) (nI g) (nI m) :=
  ⟨s + 1, tw_carry3 hT hM hF hm3 hr hg (s + 1) s hs (by omega) a9 a11 a12 hV hP H⟩
end
end
section
abbrev tw_J6 : Type := Int32 → Int32 → Int32 → Int32 → Int32 → Int32 → (Nat → Int32) → (Nat → Int32) → (Nat → Int32) → (Nat → Int32) → (Nat → Int32) → (Nat → Int32) → (Nat → Int32) → (Nat → Int32) → (Nat → Int32) → (Nat → Int32) → (Nat → Int32) → (Nat → Int32) → (Nat → Int32) → (Nat → Int32) → Prop
theorem tw_fill {f s : Nat → Int32} {i : Nat} {x : Int32} (h : ∀ j, j < i → s j = f j) (hx : x = f i) : ∀ j, j < i + 1 → upd s i x j = f j := by
  intro j hj
  by_cases e : j = i
  · rw [e, pk_us, hx]
  · rw [pk_un e]; exact h j (by omega)
theorem tw_nb (q : Prop) : narrow .boolean (.int (tw_b q)) = .int (tw_b q) := by
  rcases Classical.em q with h | h
  · rw [tw_b_t h]; rfl
  · rw [tw_b_f h]; rfl
section
variable {vc hm rc wd : Int32} {a1 a2 a3 a4 a5 a6 a7 a8 a9 a10 a11 a12 a13 a14 : Nat → Int32} {n : Nat} {p k x z c : Nat → Nat} {V : Nat → Nat → Int32} {F : Nat → Int32}
theorem tw_load {post : St1 → Prop} {r h : Nat} (hr : r < 12) (hh : h < 8) (h6 : a6 h = nI (c h)) (H : ∀ (b11 : Nat → Int32), (∀ j, j < 5 → b11 j = a8 (5 * r + j)) → post (vc, nI h, rc, nI (c h), a1, a2, a3, a4, a5, a6, a7, a8, a9, a10, b11, a12, a13, a14)) : wpX_load post (vc, nI h, rc, wd, a1, a2, a3, a4, a5, a6, a7, a8, a9, a10, a11, a12, a13, a14) (nI r) :=
  And.intro (pk_in h 8 hh) (nm_r (e' := nI (c h)) (by rw [nI_clamp (by omega)]; exact h6)
    (pk_loop (fun fu i s => wX_load_15 post (nI r) vc (nI h) rc (nI (c h)) fu (nI i) a1 a2 a3 a4 a5 a6 a7 a8 a9 a10 s a12 a13 a14) (fun i s => ∀ j, j < i → s j = a8 (5 * r + j)) 5 0 a11 (by omega) (fun j hj => absurd hj (by omega))
      (fun fu s g => pk_le 5 5 (fun _ => H s g) (fun z => absurd z (by omega)))
      (fun fu i s hi g hw => pk_le 5 i (fun z => absurd z (by omega)) (fun _ => ⟨pk_in (5 * r + i) 60 (by omega) (tw_ix5 r i), pk_in i 5 hi, nm_r (e' := upd s i (a8 (5 * r + i))) (by rw [tw_ix5, nI_clamp (by omega), nI_clamp (by omega)]) (nm_r (nI_1 i) (hw _ (tw_fill (f := fun j => a8 (5 * r + j)) g rfl)))⟩))))
theorem tw_store {post : St1 → Prop} {r : Nat} (hr : r < 12) (H : ∀ (b8 : Nat → Int32), (∀ j, j < 5 → b8 (5 * r + j) = a11 j) → (∀ q j, j < 5 → q ≠ r → b8 (5 * q + j) = a8 (5 * q + j)) → post (vc, hm, rc, wd, a1, a2, a3, a4, a5, a6, a7, b8, a9, a10, a11, a12, a13, a14)) : wpX_store post (vc, hm, rc, wd, a1, a2, a3, a4, a5, a6, a7, a8, a9, a10, a11, a12, a13, a14) (nI r) :=
  pk_loop (fun fu i s => wX_store_2 post (nI r) vc hm rc wd fu (nI i) a1 a2 a3 a4 a5 a6 a7 s a9 a10 a11 a12 a13 a14) (fun i s => (∀ j, j < i → s (5 * r + j) = a11 j) ∧ (∀ q j, j < 5 → q ≠ r → s (5 * q + j) = a8 (5 * q + j))) 5 0 a8 (by omega) ⟨fun j hj => absurd hj (by omega), fun _ _ _ _ => rfl⟩
      (fun fu s g => pk_le 5 5 (fun _ => H s g.1 g.2) (fun z => absurd z (by omega)))
      (fun fu i s hi g hw => pk_le 5 i (fun z => absurd z (by omega)) (fun _ => ⟨pk_in i 5 hi, pk_in (5 * r + i) 60 (by omega) (tw_ix5 r i), nm_r (e' := upd s (5 * r + i) (a11 i)) (by rw [tw_ix5, nI_clamp (by omega), nI_clamp (by omega)]) (nm_r (nI_1 i) (hw _ ⟨fun j hj => by
        by_cases e : j = i
        · rw [e, pk_us]
        · rw [pk_un (by omega)]; exact g.1 j (by omega), fun q j hj hq => by
        rw [pk_un (by omega)]; exact g.2 q j hj hq⟩))⟩))
theorem tw_plain {post : St1 → Prop} {e : Nat} (hT : tw_T n p k x z c) (h0 : 0 < e) (he : e < n) (hk : 2 ≤ k e)
    (hE : tw_E (k e) (x e) (z e) (a5 e) (c (p e)) (c e) (V (p e)) (F e) (V e)) (hV : ∀ j, j < c e → a14 j = V e j)
    (H : ∀ (b14 : Nat → Int32), (∀ j, j < c (p e) → b14 j = V (p e) j) → post (vc, hm, rc, wd, a1, a2, a3, a4, a5, a6, a7, a8, a9, a10, a11, a12, a13, b14)) : wpX_climbPlain post (vc, hm, rc, wd, a1, a2, a3, a4, a5, a6, a7, a8, a9, a10, a11, a12, a13, a14) (nI e) (nI (k e)) (nI (x e)) (nI (z e)) := by
  have hce := tw_T_c hT he
  obtain ⟨hn1, hn8, hc0, hTe⟩ := hT
  obtain ⟨t1, t2, t3, t4, t5, t6, t7, t8, t9⟩ := hTe e h0 he
  obtain ⟨E0, E1, E2, E3, E4, E5⟩ := hE
  have tc := t7 hk
  rw [← tc.1] at H
  refine pk_eq (k e) 2 (fun g => ?_) (fun g2 => pk_eq (k e) 5 (fun g => ?_) (fun g5 => pk_eq (k e) 4 (fun g => ?_) (fun g4 => ?_)))
  · refine ⟨pk_in (x e) 5 (by omega), pk_in e 8 (by omega), pk_in (x e) 5 (by omega), nm_r (e' := upd a14 (x e) (a14 (x e) - a5 e)) (by rw [nI_clamp (by omega), nI_clamp (by omega)]) (H _ (fun j hj => ?_))⟩
    obtain ⟨f1, f2⟩ := E2 g
    by_cases q : j = x e
    · rw [q, pk_us, hV _ (by omega), f2, Int32.add_sub_cancel]
    · rw [pk_un q, hV j hj]; exact f1 j (by omega) q
  · have tz := t8 (by omega)
    have txz := t9 g
    refine ⟨pk_in (x e) 5 (by omega), pk_in (z e) 5 (by omega), pk_in (x e) 5 (by omega), nm_r (e' := upd a14 (x e) (a14 (x e) - a14 (z e))) (by rw [nI_clamp (by omega), nI_clamp (by omega)]) (H _ (fun j hj => ?_))⟩
    obtain ⟨f1, f2⟩ := E5 g
    by_cases q : j = x e
    · rw [q, pk_us, hV _ (by omega), hV _ (by omega), f2, f1 (z e) tz (fun h => txz h.symm), Int32.add_sub_cancel]
    · rw [pk_un q, hV j hj]; exact f1 j (by omega) q
  · have tz := t8 (by omega)
    refine ⟨pk_in (x e) 5 (by omega), nm_r (e' := a14 (x e)) (by rw [nI_clamp (by omega)]) ⟨pk_in (z e) 5 (by omega), pk_in (x e) 5 (by omega), nm_r (e' := upd a14 (x e) (a14 (z e))) (by rw [nI_clamp (by omega), nI_clamp (by omega)]) ⟨pk_in (z e) 5 (by omega), nm_r (e' := upd (upd a14 (x e) (a14 (z e))) (z e) (a14 (x e))) (by rw [nI_clamp (by omega)]) (H _ (fun j hj => ?_))⟩⟩⟩
    obtain ⟨f1, f2, f3⟩ := E4 g
    by_cases q : j = z e
    · rw [q, pk_us, hV _ (by omega), f2]
    · rw [pk_un q]
      by_cases q' : j = x e
      · rw [q', pk_us, hV _ (by omega), f3]
      · rw [pk_un q', hV j hj]; exact f1 j (by omega) q' q
  · exact H a14 (fun j hj => by rw [hV j hj]; exact E3 (by omega) j (by omega))
theorem tw_shown173 {post : Int32 → St1 → Prop} {J : tw_J6} {r w e xx : Nat} {z0 : Int32} (hx : xx < 5) (he : e < 8) (h1 : a1 e = nI (p e)) (H : J (nI (w + 1)) (nI (p e)) vc hm rc wd a1 a2 a3 a4 a5 a6 a7 a8 a9 a10 a11 a12 a13 (upd a14 xx z0)) :
    wX_isShownAt_173 post J (nI r) (nI w) (nI e) z0 (nI xx) vc hm rc wd a1 a2 a3 a4 a5 a6 a7 a8 a9 a10 a11 a12 a13 a14 :=
  And.intro (pk_in xx 5 hx) (nm_r (e' := upd a14 xx z0) (by rw [nI_clamp (by omega)]) (nm_r (nI_1 w) ⟨pk_in e 8 he, nm_r (e' := nI (p e)) (by rw [nI_clamp (by omega)]; exact h1) H⟩))
theorem tw_shown103 {post : Int32 → St1 → Prop} {J : tw_J6} {r e h xx w : Nat} {A : Nat → Int32} (hn : n ≤ 8) (hp : ∀ e, 0 < e → e < n → p e < e) (h1 : ∀ e, e < n → a1 e = nI (p e)) (hr : r < 12) (he : e < n) (hh : h < n) (hw : w ≤ 4)
    (hD1 : tw_B p h e → a9 (8 * r + e) = F e) (hD2 : ¬ tw_B p h e → a12 e = F e)
    (H : ∀ (b14 : Nat → Int32), (∀ j, j < xx → b14 j = A j) → b14 xx = F e → (∀ j, xx < j → j ≤ w → b14 j = A (j - 1)) → J (nI (w + 1)) (nI (p e)) vc (nI h) rc wd a1 a2 a3 a4 a5 a6 a7 a8 a9 a10 a11 a12 a13 b14) :
    ∀ (fu i : Nat) (a14 : Nat → Int32), xx ≤ i → i ≤ w → i - xx < fu → (∀ j, j ≤ i → a14 j = A j) → (∀ j, i < j → j ≤ w → a14 j = A (j - 1)) → wX_isShownAt_103 post J (nI r) (nI w) (nI e) (nI xx) vc (nI h) rc wd fu (nI i) a1 a2 a3 a4 a5 a6 a7 a8 a9 a10 a11 a12 a13 a14 := by
  intro fu
  induction fu with
  | zero => intro i a14 _ _ g; exact absurd g (by omega)
  | succ fu ih =>
    intro i a14 h1' h2 h3 h4 h5
    have HH : J (nI (w + 1)) (nI (p e)) vc (nI h) rc wd a1 a2 a3 a4 a5 a6 a7 a8 a9 a10 a11 a12 a13 (upd a14 xx (F e)) ∨ xx < i := by
      rcases Nat.lt_or_ge xx i with q | q
      · exact Or.inr q
      · refine Or.inl (H _ (fun j hj => ?_) pk_us (fun j hj hj' => ?_))
        · rw [pk_un (by omega)]; exact h4 j (by omega)
        · rw [pk_un (by omega)]; exact h5 j (by omega) hj'
    refine pk_le i xx (fun hle => ?_) (fun hlt => ?_)
    · have HJ : J (nI (w + 1)) (nI (p e)) vc (nI h) rc wd a1 a2 a3 a4 a5 a6 a7 a8 a9 a10 a11 a12 a13 (upd a14 xx (F e)) := by
        rcases HH with q | q
        · exact q
        · omega
      refine tw_comes (p := p) hn hp h1 hh he (fun hb => br_f (by decide) ⟨pk_in (8 * r + e) 96 (by omega) (tw_ix8 r e), ?_⟩) (fun hb => br_t rfl ⟨pk_in e 8 (by omega), ?_⟩)
      · rw [tw_ix8, nI_clamp (by omega), hD1 hb]
        exact tw_shown173 (by omega) (by omega) (h1 e he) HJ
      · rw [nI_clamp (by omega), hD2 hb]
        exact tw_shown173 (by omega) (by omega) (h1 e he) HJ
    · refine ⟨pk_in (i - 1) 5 (by omega) (tw_sub1 (by omega)), pk_in i 5 (by omega), nm_r (e' := upd a14 i (a14 (i - 1))) (by rw [tw_sub1 (by omega), nI_clamp (by omega), nI_clamp (by omega)]) (nm_r (e' := nI (i - 1)) (sb_m1 (by omega)) (ih (i - 1) _ (by omega) (by omega) (by omega) (fun j hj => ?_) (fun j hj hj' => ?_)))⟩
      · rw [pk_un (by omega)]; exact h4 j (by omega)
      · by_cases g : j = i
        · rw [g, pk_us]; exact h4 (i - 1) (by omega)
        · rw [pk_un g]; exact h5 j (by omega) hj'
theorem tw_shown83 {post : Int32 → St1 → Prop} {J : tw_J6} {r e h : Nat} (hT : tw_T n p k x z c) (hM : tw_M n p k x z c a1 a2 a3 a4 a6) (hr : r < 12) (h0 : 0 < e) (he : e < n) (hh : h < n)
    (hE : tw_E (k e) (x e) (z e) (a5 e) (c (p e)) (c e) (V (p e)) (F e) (V e)) (hV : ∀ j, j < c e → a14 j = V e j)
    (hD : k e = 1 → (tw_B p h e → a9 (8 * r + e) = F e) ∧ (¬ tw_B p h e → a12 e = F e))
    (H : ∀ (b14 : Nat → Int32), (∀ j, j < c (p e) → b14 j = V (p e) j) → J (nI (c (p e))) (nI (p e)) vc (nI h) rc wd a1 a2 a3 a4 a5 a6 a7 a8 a9 a10 a11 a12 a13 b14) :
    wX_isShownAt_83 post J (nI r) (nI (c e)) (nI e) (nI (x e)) (nI (k e)) vc (nI h) rc wd a1 a2 a3 a4 a5 a6 a7 a8 a9 a10 a11 a12 a13 a14 := by
  have hp : ∀ e, 0 < e → e < n → p e < e := fun e e0 he => tw_T_p hT e0 he
  have hcp := tw_T_c hT (show p e < n by have := hp e h0 he; omega)
  have hce := tw_T_c hT he
  have hn8 : n ≤ 8 := hT.2.1
  obtain ⟨t1, t2, t3, t4, t5, t6, t7, t8, t9⟩ := hT.2.2.2 e h0 he
  refine pk_eq (k e) 0 (fun g => ?_) (fun g0 => pk_eq (k e) 1 (fun g => ?_) (fun g1 => ⟨pk_in e 8 (by omega), ?_⟩))
  · have tc := t5 g
    refine nm_r (e' := nI (c (p e))) (by rw [tc]; exact pk_m1 _) ⟨pk_in e 8 (by omega), nm_r (e' := nI (p e)) (by rw [nI_clamp (by omega)]; exact (hM e he).1) (H a14 (fun j hj => ?_))⟩
    rw [hV j (by omega)]; exact (hE.1 g).1 j hj
  · have tc := t6 g
    have hd := hD g
    obtain ⟨f1, f2, f3⟩ := hE.2.1 g
    refine ⟨c e + 1, tw_shown103 (p := p) (F := F) (A := a14) hn8 hp (fun e he => (hM e he).1) hr he hh (by omega) hd.1 hd.2 (fun b14 q1 q2 q3 => ?_) (c e + 1) (c e) a14 (by omega) (Nat.le_refl _) (by omega) (fun j _ => rfl) (fun j hj hj' => absurd hj (by omega))⟩
    rw [tc.1]
    refine H b14 (fun j hj => ?_)
    rcases Nat.lt_trichotomy j (x e) with q | q | q
    · rw [q1 j q, hV j (by omega)]; exact f1 j q
    · rw [q, q2]; exact f3.symm
    · rw [q3 j q (by omega), hV (j - 1) (by omega), f2 (j - 1) (by omega) (by omega), show j - 1 + 1 = j by omega]
  · rw [nI_clamp (show e < 2 ^ 31 by omega), (hM e he).2.2.2.1]
    refine tw_plain (V := V) (F := F) hT h0 he (by omega) hE hV (fun b14 hb => ⟨pk_in e 8 (by omega), nm_r (e' := nI (p e)) (hM e he).1 ?_⟩)
    have tc := t7 (by omega)
    rw [tc.1]
    exact H b14 hb
theorem tw_shown35 {post : Int32 → St1 → Prop} {r h : Nat} (hT : tw_T n p k x z c) (hM : tw_M n p k x z c a1 a2 a3 a4 a6) (hF : tw_F n p k x z c a5 V F) (hr : r < 12) (hh : h < n) :
    ∀ (fu w : Nat) (a14 : Nat → Int32), w < n → w < fu → (∀ j, j < c w → a14 j = V w j) → (∀ e, 0 < e → e < n → k e = 1 → tw_B p w e → (tw_B p h e → a9 (8 * r + e) = F e) ∧ (¬ tw_B p h e → a12 e = F e)) →
    (∀ (b14 : Nat → Int32), post (tw_b (tw_Sh n p k x a5 V w)) (vc, nI h, rc, wd, a1, a2, a3, a4, a5, a6, a7, a8, a9, a10, a11, a12, a13, b14)) → wX_isShownAt_35 post (nI r) fu (nI (c w)) (nI w) vc (nI h) rc wd a1 a2 a3 a4 a5 a6 a7 a8 a9 a10 a11 a12 a13 a14 := by
  have hp : ∀ e, 0 < e → e < n → p e < e := fun e e0 he => tw_T_p hT e0 he
  have hn8 : n ≤ 8 := hT.2.1
  intro fu
  induction fu with
  | zero => intro w a14 _ g; exact absurd g (by omega)
  | succ fu ih =>
    intro w a14 hw hf hV hD H
    refine pk_le w 0 (fun hle => ?_) (fun h0 => ?_)
    · have e : w = 0 := by omega
      rw [e, tw_b_t tw_Sh_0] at H
      exact H a14
    · have hpw := hp w h0 hw
      have hcw := tw_T_c hT hw
      have hS := tw_Sh_up (k := k) (x := x) (y := a5) (V := V) hp h0 hw
      obtain ⟨m1, m2, m3, m4, m6⟩ := hM w hw
      have next : (tw_Sh n p k x a5 V w ↔ tw_Sh n p k x a5 V (p w)) → wX_isShownAt_83 post (wX_isShownAt_35 post (nI r) fu) (nI r) (nI (c w)) (nI w) (nI (x w)) (nI (k w)) vc (nI h) rc wd a1 a2 a3 a4 a5 a6 a7 a8 a9 a10 a11 a12 a13 a14 := by
        intro hs
        rw [tw_b_iff hs] at H
        refine tw_shown83 (V := V) (F := F) hT hM hr h0 hw hh (hF w h0 hw) hV (fun hk => hD w h0 hw hk (tw_B_self p w)) (fun b14 hb => ih (p w) b14 (by omega) (by omega) hb (fun e e0 he hk hb' => hD e e0 he hk ?_) H)
        have := tw_B_le hb'
        exact (tw_B_step hp hw (by omega)).mpr hb'
      refine ⟨pk_in w 8 (by omega), nm_r (e' := nI (x w)) (by rw [nI_clamp (by omega)]; exact m3) ⟨pk_in w 8 (by omega), nm_r (e' := nI (k w)) (by rw [nI_clamp (by omega)]; exact m2) ?_⟩⟩
      refine pk_eq (k w) 3 (fun g => ?_) (fun g => next ⟨fun s => (hS.mp s).2, fun s => hS.mpr ⟨fun t => absurd t g, s⟩⟩) (hx := rfl) (hy := rfl) (ha := by have := (hT.2.2.2 w h0 hw).2.1; omega)
      have tx := ((hT.2.2.2 w h0 hw).2.2.2.2.2.2.1 (by omega))
      refine ⟨pk_in (x w) 5 (by omega), pk_in w 8 (by omega), ?_⟩
      rw [nI_clamp (show w < 2 ^ 31 by omega), nI_clamp (show x w < 2 ^ 31 by omega), hV (x w) (by omega)]
      refine br_c (fun q => next ⟨fun s => (hS.mp s).2, fun s => hS.mpr ⟨fun _ => q, s⟩⟩) (fun q => ?_)
      rw [tw_b_f (fun s => q ((hS.mp s).1 g))] at H
      exact H a14
theorem tw_isShown {post : Int32 → St1 → Prop} {r h v : Nat} (hT : tw_T n p k x z c) (hM : tw_M n p k x z c a1 a2 a3 a4 a6) (hF : tw_F n p k x z c a5 V F) (hr : r < 12) (hh : h < n) (hv : v < n)
    (hV : ∀ j, j < c v → a11 j = V v j) (hD : ∀ e, 0 < e → e < n → k e = 1 → tw_B p v e → (tw_B p h e → a9 (8 * r + e) = F e) ∧ (¬ tw_B p h e → a12 e = F e))
    (H : ∀ (b14 : Nat → Int32), post (tw_b (tw_Sh n p k x a5 V v)) (vc, nI h, rc, wd, a1, a2, a3, a4, a5, a6, a7, a8, a9, a10, a11, a12, a13, b14)) : wpX_isShownAt post (vc, nI h, rc, wd, a1, a2, a3, a4, a5, a6, a7, a8, a9, a10, a11, a12, a13, a14) (nI r) (nI v) := by
  have hn8 : n ≤ 8 := hT.2.1
  have hcv := tw_T_c hT hv
  exact pk_loop (fun fu i s => wX_isShownAt_2 post (nI r) (nI v) vc (nI h) rc wd fu (nI i) a1 a2 a3 a4 a5 a6 a7 a8 a9 a10 a11 a12 a13 s) (fun i s => ∀ j, j < i → s j = a11 j) 5 0 a14 (by omega) (fun j hj => absurd hj (by omega))
    (fun fu s g => pk_le 5 5 (fun _ => ⟨pk_in v 8 (by omega), nm_r (e' := nI (c v)) (by rw [nI_clamp (by omega)]; exact (hM v hv).2.2.2.2) ⟨v + 1, tw_shown35 (V := V) (F := F) hT hM hF hr hh (v + 1) v s hv (by omega) (fun j hj => by rw [g j (by omega)]; exact hV j hj) hD H⟩⟩) (fun z => absurd z (by omega)))
    (fun fu i s hi g hw => pk_le 5 i (fun z => absurd z (by omega)) (fun _ => ⟨pk_in i 5 hi, pk_in i 5 hi, nm_r (e' := upd s i (a11 i)) (by rw [nI_clamp (by omega)]) (nm_r (nI_1 i) (hw _ (tw_fill g rfl)))⟩))
theorem tw_look {post : Int32 → St1 → Prop} {r h v : Nat} (hT : tw_T n p k x z c) (hM : tw_M n p k x z c a1 a2 a3 a4 a6) (hF : tw_F n p k x z c a5 V F) (hr : r < 12) (hh : h < n) (hv : v < n)
    (h8 : ∀ j, j < c h → a8 (5 * r + j) = V h j) (h9 : ∀ e, 0 < e → e < n → tw_fr p k e h → a9 (8 * r + e) = F e)
    (H : ∀ (b11 b12 b13 b14 : Nat → Int32), (∀ j, j < c v → b11 j = V v j) → (∀ e, tw_W n p k h v e → b12 e = F e) → post (tw_b (tw_Sh n p k x a5 V v)) (vc, nI h, rc, nI (c v), a1, a2, a3, a4, a5, a6, a7, a8, a9, a10, b11, b12, b13, b14)) :
    wpX_look post (vc, nI h, rc, wd, a1, a2, a3, a4, a5, a6, a7, a8, a9, a10, a11, a12, a13, a14) (nI r) (nI v) := by
  have hn8 : n ≤ 8 := hT.2.1
  have hch := tw_T_c hT hh
  unfold wpX_look
  refine tw_load (wd := wd) (c := c) hr (by omega) (hM h hh).2.2.2.2 (fun b11 hb => ?_)
  refine tw_carry (m := 0) (V := V) (F := F) hT hM hF (by omega) hr hh hv (fun j hj => by rw [hb j (by omega)]; exact h8 j hj) (fun e e0 he hc hf => h9 e e0 he hf) (fun c9 c11 c12 c13 q1 q2 => ?_)
  obtain ⟨e9, q12⟩ := q2.1 rfl
  subst e9
  refine tw_isShown (V := V) (F := F) hT hM hF hr hh hv q1 (fun e e0 he hk hb => ⟨fun t => h9 e e0 he (Or.inr ⟨hk, t⟩), fun t => (q12 e).1 ⟨e0, he, fun s => t (s.mpr hb), Or.inr ⟨hk, hb⟩⟩⟩) (fun b14 => ⟨tw_nb _, H c11 c12 c13 b14 q1 (fun e he => (q12 e).1 he)⟩)
end
end
section
/-- where a key stands: f places from i on -/
def tw_fi (a7 : Nat → Int32) (key : Int32) : Nat → Nat → Option Nat
  | 0, _ => none
  | f + 1, i => if a7 i = key then some i else tw_fi a7 key f (i + 1)
theorem tw_fi_s {a7 : Nat → Int32} {key : Int32} {R i : Nat} (h : i < R) : tw_fi a7 key (R - i) i = if a7 i = key then some i else tw_fi a7 key (R - (i + 1)) (i + 1) := by
  rw [show R - i = (R - (i + 1)) + 1 by omega]
  rfl
theorem tw_fi_some {a7 : Nat → Int32} {key : Int32} {r : Nat} : ∀ f i, tw_fi a7 key f i = some r → i ≤ r ∧ r < i + f ∧ a7 r = key := by
  intro f
  induction f with
  | zero => intro i h; exact absurd h (by intro q; cases q)
  | succ f ih =>
    intro i h
    by_cases g : a7 i = key
    · have h' : some i = some r := by rw [← h]; exact (if_pos g).symm
      have e : i = r := Option.some.inj h'
      rw [← e]; exact ⟨by omega, by omega, g⟩
    · have h' : tw_fi a7 key f (i + 1) = some r := by rw [← h]; exact (if_neg g).symm
      have := ih (i + 1) h'
      exact ⟨by omega, by omega, this.2.2⟩
theorem tw_fi_none {a7 : Nat → Int32} {key : Int32} : ∀ f i, tw_fi a7 key f i = none → ∀ j, i ≤ j → j < i + f → a7 j ≠ key := by
  intro f
  induction f with
  | zero => intro i h j h1 h2; omega
  | succ f ih =>
    intro i h j h1 h2
    by_cases g : a7 i = key
    · have h' : some i = none := by rw [← h]; exact (if_pos g).symm
      cases h'
    · have h' : tw_fi a7 key f (i + 1) = none := by rw [← h]; exact (if_neg g).symm
      by_cases e : j = i
      · rw [e]; exact g
      · exact ih (i + 1) h' j (by omega) (by omega)
theorem tw_fi_only {a7 : Nat → Int32} {key : Int32} {r : Nat} (hk : a7 r = key) : ∀ f i, i ≤ r → r < i + f → (∀ j, i ≤ j → j < i + f → j ≠ r → a7 j ≠ key) → tw_fi a7 key f i = some r := by
  intro f
  induction f with
  | zero => intro i h1 h2; omega
  | succ f ih =>
    intro i h1 h2 h3
    by_cases e : i = r
    · show (if a7 i = key then some i else tw_fi a7 key f (i + 1)) = some r
      rw [e, if_pos hk]
    · show (if a7 i = key then some i else tw_fi a7 key f (i + 1)) = some r
      rw [if_neg (h3 i (by omega) (by omega) e)]
      exact ih (i + 1) (by omega) (by omega) (fun j q1 q2 q3 => h3 j (by omega) (by omega) q3)
noncomputable def tw_cn (q : Nat → Prop) : Nat → Nat
  | 0 => 0
  | i + 1 => tw_cn q i + @ite _ (q i) (Classical.propDecidable _) 1 0
theorem tw_cn_t {q : Nat → Prop} {i : Nat} (h : q i) : tw_cn q (i + 1) = tw_cn q i + 1 := by
  show tw_cn q i + @ite _ (q i) (Classical.propDecidable _) 1 0 = _
  rw [if_pos h]
theorem tw_cn_f {q : Nat → Prop} {i : Nat} (h : ¬ q i) : tw_cn q (i + 1) = tw_cn q i := by
  show tw_cn q i + @ite _ (q i) (Classical.propDecidable _) 1 0 = _
  rw [if_neg h]
  rfl
theorem tw_cn_le (q : Nat → Prop) (i : Nat) : tw_cn q i ≤ i := by
  induction i with
  | zero => exact Nat.le_refl _
  | succ i ih =>
    rcases Classical.em (q i) with h | h
    · rw [tw_cn_t h]; omega
    · rw [tw_cn_f h]; omega
noncomputable def tw_sm (q : Nat → Prop) (f : Nat → Int32) : Nat → Int32
  | 0 => 0
  | i + 1 => @ite _ (q i) (Classical.propDecidable _) (tw_sm q f i + f i) (tw_sm q f i)
theorem tw_sm_t {q : Nat → Prop} {f : Nat → Int32} {i : Nat} (h : q i) : tw_sm q f (i + 1) = tw_sm q f i + f i := if_pos h
theorem tw_sm_f {q : Nat → Prop} {f : Nat → Int32} {i : Nat} (h : ¬ q i) : tw_sm q f (i + 1) = tw_sm q f i := if_neg h
noncomputable def tw_ky (q : Nat → Prop) (a7 : Nat → Int32) : Nat → Nat → Int32 → Int32
  | 0, _, _ => -5
  | f + 1, i, left => @ite _ (q i) (Classical.propDecidable _) (if left = 0 then a7 i else tw_ky q a7 f (i + 1) (left + (-1))) (tw_ky q a7 f (i + 1) left)
theorem tw_ky_t {q : Nat → Prop} {a7 : Nat → Int32} {R i : Nat} {left : Int32} (hi : i < R) (h : q i) : tw_ky q a7 (R - i) i left = if left = 0 then a7 i else tw_ky q a7 (R - (i + 1)) (i + 1) (left + (-1)) := by
  rw [show R - i = (R - (i + 1)) + 1 by omega]
  exact if_pos h
theorem tw_ky_f {q : Nat → Prop} {a7 : Nat → Int32} {R i : Nat} {left : Int32} (hi : i < R) (h : ¬ q i) : tw_ky q a7 (R - i) i left = tw_ky q a7 (R - (i + 1)) (i + 1) left := by
  rw [show R - i = (R - (i + 1)) + 1 by omega]
  exact if_neg h
noncomputable def tw_vo (q : Prop) (x : Int32) : Int32 := @ite _ q (Classical.propDecidable q) x 0
theorem tw_vo_t {q : Prop} {x : Int32} (h : q) : tw_vo q x = x := if_pos h
theorem tw_vo_f {q : Prop} {x : Int32} (h : ¬ q) : tw_vo q x = 0 := if_neg h
/-! what the answers are: c the columns, sh what is shown, vv the values, a7 the keys, R the rows -/
noncomputable def tw_vl (c : Nat → Nat) (sh : Nat → Nat → Prop) (vv : Nat → Nat → Nat → Int32) (a7 : Nat → Int32) (R v : Nat) (key : Int32) (j : Nat) : Int32 :=
  if j < c v then (match tw_fi a7 key R 0 with | none => 0 | some r => tw_vo (sh r v) (vv r v j)) else 0
noncomputable def tw_sn (sh : Nat → Nat → Prop) (a7 : Nat → Int32) (R v : Nat) (key : Int32) : Int32 :=
  match tw_fi a7 key R 0 with | none => 0 | some r => tw_b (sh r v)
noncomputable def tw_su (c : Nat → Nat) (sh : Nat → Nat → Prop) (vv : Nat → Nat → Nat → Int32) (R v j : Nat) : Int32 :=
  if j < c v then tw_sm (fun r => sh r v) (fun r => vv r v j) R else 0
theorem tw_vl_s {c : Nat → Nat} {sh : Nat → Nat → Prop} {vv : Nat → Nat → Nat → Int32} {a7 : Nat → Int32} {R v r j : Nat} {key : Int32} (hj : j < c v) (h : tw_fi a7 key R 0 = some r) : tw_vl c sh vv a7 R v key j = tw_vo (sh r v) (vv r v j) := by
  unfold tw_vl
  rw [if_pos hj, h]
theorem tw_vl_n {c : Nat → Nat} {sh : Nat → Nat → Prop} {vv : Nat → Nat → Nat → Int32} {a7 : Nat → Int32} {R v j : Nat} {key : Int32} (h : tw_fi a7 key R 0 = none) : tw_vl c sh vv a7 R v key j = 0 := by
  unfold tw_vl
  rw [h]
  by_cases hj : j < c v
  · rw [if_pos hj]
  · rw [if_neg hj]
theorem tw_vl_c {c : Nat → Nat} {sh : Nat → Nat → Prop} {vv : Nat → Nat → Nat → Int32} {a7 : Nat → Int32} {R v j : Nat} {key : Int32} (h : c v ≤ j) : tw_vl c sh vv a7 R v key j = 0 := by
  unfold tw_vl
  rw [if_neg (by omega)]
theorem tw_sn_s {sh : Nat → Nat → Prop} {a7 : Nat → Int32} {R v r : Nat} {key : Int32} (h : tw_fi a7 key R 0 = some r) : tw_sn sh a7 R v key = tw_b (sh r v) := by
  unfold tw_sn
  rw [h]
theorem tw_sn_n {sh : Nat → Nat → Prop} {a7 : Nat → Int32} {R v : Nat} {key : Int32} (h : tw_fi a7 key R 0 = none) : tw_sn sh a7 R v key = 0 := by
  unfold tw_sn
  rw [h]
/-- a loop over an accumulator: m steps from i on -/
def tw_fo (f : Nat → Int32 → Int32) : Nat → Nat → Int32 → Int32
  | 0, _, h => h
  | m + 1, i, h => tw_fo f m (i + 1) (f i h)
theorem tw_fo_s {f : Nat → Int32 → Int32} {e i : Nat} {h : Int32} (hi : i < e) : tw_fo f (e - i) i h = tw_fo f (e - (i + 1)) (i + 1) (f i h) := by
  rw [show e - i = (e - (i + 1)) + 1 by omega]
  rfl
theorem tw_fo_e {f : Nat → Int32 → Int32} {e i : Nat} {h : Int32} (hi : e ≤ i) : tw_fo f (e - i) i h = h := by
  rw [show e - i = 0 by omega]
  rfl
section
variable {vc hm rc wd : Int32} {a1 a2 a3 a4 a5 a6 a7 a8 a9 a10 a11 a12 a13 a14 : Nat → Int32} {n R : Nat} {c : Nat → Nat} {sh : Nat → Nat → Prop} {vv : Nat → Nat → Nat → Int32}
theorem tw_find {post : Int32 → Prop} {key : Int32} (hR : R ≤ 12) (H0 : tw_fi a7 key R 0 = none → post (-1)) (H1 : ∀ r, r < R → tw_fi a7 key R 0 = some r → post (nI r)) : wpX_find post (vc, hm, nI R, wd, a1, a2, a3, a4, a5, a6, a7, a8, a9, a10, a11, a12, a13, a14) key := by
  have main : ∀ fu i, i ≤ R → R - i < fu → (tw_fi a7 key (R - i) i = none → post (-1)) → (∀ r, r < R → tw_fi a7 key (R - i) i = some r → post (nI r)) → wX_find_2 post key vc hm (nI R) wd a1 a2 a3 a4 a5 a6 a7 a8 a9 a10 a11 a12 a13 a14 fu (nI i) := by
    intro fu
    induction fu with
    | zero => intro i _ h; exact absurd h (by omega)
    | succ fu ih =>
      intro i hi hf H0 H1
      refine pk_le R i (fun hle => H0 (by rw [show R - i = 0 by omega]; rfl)) (fun hlt => ⟨pk_in i 12 (by omega), ?_⟩)
      rw [tw_fi_s hlt] at H0 H1
      rw [nI_clamp (by omega)]
      refine br_c (fun g => H1 i hlt (if_pos g)) (fun g => nm_r (nI_1 i) (ih (i + 1) (by omega) (by omega) (fun q => H0 (by rw [if_neg g]; exact q)) (fun r hr q => H1 r hr (by rw [if_neg g]; exact q))))
  exact ⟨R + 1, main (R + 1) 0 (by omega) (by omega) H0 H1⟩
theorem tw_isV {post : Int32 → Prop} {v : Nat} (hv : v < n) (hn : n ≤ 8) (H : post 1) : wpX_isVersion post (nI n, hm, rc, wd, a1, a2, a3, a4, a5, a6, a7, a8, a9, a10, a11, a12, a13, a14) (nI v) :=
  pk_lt v 0 (fun h => absurd h (by omega)) (fun _ => pk_le n v (fun h => absurd h (by omega)) (fun _ => H))
theorem tw_isC {post : Int32 → Prop} {v j : Nat} (hv : v < 8) (hj : j < 2 ^ 31) (h6 : a6 v = nI (c v)) (hc : c v ≤ 5) (H1 : j < c v → post 1) (H0 : c v ≤ j → post 0) : wpX_isColumn post (vc, hm, rc, wd, a1, a2, a3, a4, a5, a6, a7, a8, a9, a10, a11, a12, a13, a14) (nI v) (nI j) := by
  refine pk_lt j 0 (fun h => absurd h (by omega)) (fun _ => ⟨pk_in v 8 hv, ?_⟩)
  rw [nI_clamp (by omega), h6]
  exact pk_le (c v) j H0 H1
theorem tw_columns {post : Int32 → Prop} {v : Nat} (hv : v < n) (hn : n ≤ 8) (h6 : a6 v = nI (c v)) (H : post (nI (c v))) : wpX_columns post (nI n, hm, rc, wd, a1, a2, a3, a4, a5, a6, a7, a8, a9, a10, a11, a12, a13, a14) (nI v) := by
  unfold wpX_columns
  refine tw_isV hv hn (br_f (by decide) ⟨pk_in v 8 (by omega), ?_⟩)
  rw [nI_clamp (by omega), h6]
  exact H
/-- every look answers by the picture and keeps all but the row that is on its way -/
def tw_LK (n R : Nat) (c : Nat → Nat) (sh : Nat → Nat → Prop) (vv : Nat → Nat → Nat → Int32) (hm : Int32) (a1 a2 a3 a4 a5 a6 a7 a8 a9 a10 : Nat → Int32) : Prop :=
  ∀ r v, r < R → v < n → ∀ (post : Int32 → St1 → Prop) (wd : Int32) (a11 a12 a13 a14 : Nat → Int32),
    (∀ (wd : Int32) (a11 a12 a13 a14 : Nat → Int32), (∀ j, j < c v → a11 j = vv r v j) → post (tw_b (sh r v)) (nI n, hm, nI R, wd, a1, a2, a3, a4, a5, a6, a7, a8, a9, a10, a11, a12, a13, a14)) → wpX_look post (nI n, hm, nI R, wd, a1, a2, a3, a4, a5, a6, a7, a8, a9, a10, a11, a12, a13, a14) (nI r) (nI v)
theorem tw_count {post : Int32 → St1 → Prop} {v : Nat} (hK : tw_LK n R c sh vv hm a1 a2 a3 a4 a5 a6 a7 a8 a9 a10) (hn : n ≤ 8) (hR : R ≤ 12) (hv : v < n)
    (H : ∀ (wd : Int32) (a11 a12 a13 a14 : Nat → Int32), post (nI (tw_cn (fun r => sh r v) R)) (nI n, hm, nI R, wd, a1, a2, a3, a4, a5, a6, a7, a8, a9, a10, a11, a12, a13, a14)) : wpX_count post (nI n, hm, nI R, wd, a1, a2, a3, a4, a5, a6, a7, a8, a9, a10, a11, a12, a13, a14) (nI v) := by
  have main : ∀ (fu i : Nat) (wd : Int32) (a11 a12 a13 a14 : Nat → Int32), i ≤ R → R - i < fu → wX_count_14 post (nI v) fu (nI (tw_cn (fun r => sh r v) i)) (nI i) (nI n) hm (nI R) wd a1 a2 a3 a4 a5 a6 a7 a8 a9 a10 a11 a12 a13 a14 := by
    intro fu
    induction fu with
    | zero => intro i _ _ _ _ _ _ h; exact absurd h (by omega)
    | succ fu ih =>
      intro i wd a11 a12 a13 a14 hi hf
      refine pk_le R i (fun hle => ?_) (fun hlt => ?_)
      · have e : i = R := by omega
        rw [e]
        exact H wd a11 a12 a13 a14
      · refine hK i v hlt hv _ wd a11 a12 a13 a14 (fun wd a11 a12 a13 a14 _ => ?_)
        rcases Classical.em (sh i v) with g | g
        · rw [tw_b_t g]
          exact br_f (by decide) (nm_r (e' := nI (tw_cn (fun r => sh r v) (i + 1))) (by rw [tw_cn_t (q := fun r => sh r v) g, nI_1]) (nm_r (nI_1 i) (ih (i + 1) _ _ _ _ _ (by omega) (by omega))))
        · rw [tw_b_f g]
          have := ih (i + 1) wd a11 a12 a13 a14 (by omega) (by omega)
          rw [tw_cn_f (q := fun r => sh r v) g] at this
          exact br_t rfl (nm_r (nI_1 i) this)
  unfold wpX_count
  exact tw_isV hv hn (br_f (by decide) ⟨R + 1, main (R + 1) 0 _ _ _ _ _ (by omega) (by omega)⟩)
theorem tw_sum {post : Int32 → St1 → Prop} {v j : Nat} (hK : tw_LK n R c sh vv hm a1 a2 a3 a4 a5 a6 a7 a8 a9 a10) (hn : n ≤ 8) (hR : R ≤ 12) (hv : v < n) (hj : j < 5) (h6 : a6 v = nI (c v)) (hc : c v ≤ 5)
    (H : ∀ (wd : Int32) (a11 a12 a13 a14 : Nat → Int32), post (tw_su c sh vv R v j) (nI n, hm, nI R, wd, a1, a2, a3, a4, a5, a6, a7, a8, a9, a10, a11, a12, a13, a14)) : wpX_sum post (nI n, hm, nI R, wd, a1, a2, a3, a4, a5, a6, a7, a8, a9, a10, a11, a12, a13, a14) (nI v) (nI j) := by
  unfold wpX_sum
  refine tw_isV hv hn (br_f (by decide) (tw_isC (c := c) (by omega) (by omega) h6 hc (fun hjc => br_f (by decide) ?_) (fun hjc => br_t rfl ?_)))
  · have main : ∀ (fu i : Nat) (wd : Int32) (a11 a12 a13 a14 : Nat → Int32), i ≤ R → R - i < fu → wX_sum_24 post (nI v) (nI j) fu (tw_sm (fun r => sh r v) (fun r => vv r v j) i) (nI i) (nI n) hm (nI R) wd a1 a2 a3 a4 a5 a6 a7 a8 a9 a10 a11 a12 a13 a14 := by
      intro fu
      induction fu with
      | zero => intro i _ _ _ _ _ _ h; exact absurd h (by omega)
      | succ fu ih =>
        intro i wd a11 a12 a13 a14 hi hf
        refine pk_le R i (fun hle => ?_) (fun hlt => ?_)
        · have e : i = R := by omega
          rw [e]
          have := H wd a11 a12 a13 a14
          unfold tw_su at this
          rw [if_pos hjc] at this
          exact this
        · refine hK i v hlt hv _ wd a11 a12 a13 a14 (fun wd a11 a12 a13 a14 hb => ?_)
          rcases Classical.em (sh i v) with g | g
          · rw [tw_b_t g]
            exact br_f (by decide) ⟨pk_in j 5 hj, nm_r (e' := tw_sm (fun r => sh r v) (fun r => vv r v j) (i + 1)) (by rw [tw_sm_t (q := fun r => sh r v) g, nI_clamp (by omega), hb j hjc]) (nm_r (nI_1 i) (ih (i + 1) _ _ _ _ _ (by omega) (by omega)))⟩
          · rw [tw_b_f g]
            have := ih (i + 1) wd a11 a12 a13 a14 (by omega) (by omega)
            rw [tw_sm_f (q := fun r => sh r v) g] at this
            exact br_t rfl (nm_r (nI_1 i) this)
    exact ⟨R + 1, main (R + 1) 0 _ _ _ _ _ (by omega) (by omega)⟩
  · have := H wd a11 a12 a13 a14
    unfold tw_su at this
    rw [if_neg (by omega)] at this
    exact this
theorem tw_key {post : Int32 → St1 → Prop} {v : Nat} {left : Int32} (hK : tw_LK n R c sh vv hm a1 a2 a3 a4 a5 a6 a7 a8 a9 a10) (hn : n ≤ 8) (hR : R ≤ 12) (hv : v < n)
    (H : ∀ (wd : Int32) (a11 a12 a13 a14 : Nat → Int32), post (tw_ky (fun r => sh r v) a7 R 0 left) (nI n, hm, nI R, wd, a1, a2, a3, a4, a5, a6, a7, a8, a9, a10, a11, a12, a13, a14)) : wpX_key post (nI n, hm, nI R, wd, a1, a2, a3, a4, a5, a6, a7, a8, a9, a10, a11, a12, a13, a14) (nI v) left := by
  have main : ∀ (fu i : Nat) (left wd : Int32) (a11 a12 a13 a14 : Nat → Int32), i ≤ R → R - i < fu → (∀ (wd : Int32) (a11 a12 a13 a14 : Nat → Int32), post (tw_ky (fun r => sh r v) a7 (R - i) i left) (nI n, hm, nI R, wd, a1, a2, a3, a4, a5, a6, a7, a8, a9, a10, a11, a12, a13, a14)) → wX_key_15 post (nI v) fu left (nI i) (nI n) hm (nI R) wd a1 a2 a3 a4 a5 a6 a7 a8 a9 a10 a11 a12 a13 a14 := by
    intro fu
    induction fu with
    | zero => intro i _ _ _ _ _ _ _ h; exact absurd h (by omega)
    | succ fu ih =>
      intro i left wd a11 a12 a13 a14 hi hf H
      refine pk_le R i (fun hle => ?_) (fun hlt => ?_)
      · rw [show R - i = 0 by omega] at H
        exact H wd a11 a12 a13 a14
      · refine hK i v hlt hv _ wd a11 a12 a13 a14 (fun wd a11 a12 a13 a14 hb => ?_)
        rcases Classical.em (sh i v) with g | g
        · rw [tw_ky_t (q := fun r => sh r v) hlt g] at H
          rw [tw_b_t g]
          refine br_f (by decide) (br_c (fun q => ⟨pk_in i 12 (by omega), ?_⟩) (fun q => nm_e (nm_r (nI_1 i) (ih (i + 1) _ _ _ _ _ _ (by omega) (by omega) ?_))))
          · rw [if_pos q] at H
            rw [nI_clamp (by omega)]
            exact H wd a11 a12 a13 a14
          · rw [if_neg q] at H
            exact H
        · rw [tw_ky_f (q := fun r => sh r v) hlt g] at H
          rw [tw_b_f g]
          exact br_t rfl (nm_r (nI_1 i) (ih (i + 1) _ _ _ _ _ _ (by omega) (by omega) H))
  unfold wpX_key
  exact tw_isV hv hn (br_f (by decide) ⟨R + 1, main (R + 1) 0 _ _ _ _ _ _ (by omega) (by omega) H⟩)
theorem tw_value {post : Int32 → St1 → Prop} {v j : Nat} {key : Int32} (hK : tw_LK n R c sh vv hm a1 a2 a3 a4 a5 a6 a7 a8 a9 a10) (hn : n ≤ 8) (hR : R ≤ 12) (hv : v < n) (hj : j < 5) (h6 : a6 v = nI (c v)) (hc : c v ≤ 5)
    (H : ∀ (wd : Int32) (a11 a12 a13 a14 : Nat → Int32), post (tw_vl c sh vv a7 R v key j) (nI n, hm, nI R, wd, a1, a2, a3, a4, a5, a6, a7, a8, a9, a10, a11, a12, a13, a14)) : wpX_value post (nI n, hm, nI R, wd, a1, a2, a3, a4, a5, a6, a7, a8, a9, a10, a11, a12, a13, a14) (nI v) key (nI j) := by
  unfold wpX_value
  refine tw_find hR (fun hf => tw_isV hv hn (br_f (by decide) (tw_isC (c := c) (by omega) (by omega) h6 hc (fun hjc => br_f (by decide) (br_t (by decide) ?_)) (fun hjc => br_t rfl ?_)))) (fun r hr hf => tw_isV hv hn (br_f (by decide) (tw_isC (c := c) (by omega) (by omega) h6 hc (fun hjc => br_f (by decide) (br_f (nI_pos (by omega)) ?_)) (fun hjc => br_t rfl ?_))))
  · rw [tw_vl_n hf] at H; exact H wd a11 a12 a13 a14
  · rw [tw_vl_n hf] at H; exact H wd a11 a12 a13 a14
  · rw [tw_vl_s hjc hf] at H
    refine hK r v hr hv _ wd a11 a12 a13 a14 (fun wd a11 a12 a13 a14 hb => ?_)
    rcases Classical.em (sh r v) with g | g
    · rw [tw_vo_t g] at H
      rw [tw_b_t g]
      refine br_f (by decide) ⟨pk_in j 5 hj, ?_⟩
      rw [nI_clamp (by omega), hb j hjc]
      exact H wd a11 a12 a13 a14
    · rw [tw_vo_f g] at H
      rw [tw_b_f g]
      exact br_t rfl (H wd a11 a12 a13 a14)
  · rw [tw_vl_c hjc] at H; exact H wd a11 a12 a13 a14
theorem tw_shown {post : Int32 → St1 → Prop} {v : Nat} {key : Int32} (hK : tw_LK n R c sh vv hm a1 a2 a3 a4 a5 a6 a7 a8 a9 a10) (hn : n ≤ 8) (hR : R ≤ 12) (hv : v < n)
    (H : ∀ (wd : Int32) (a11 a12 a13 a14 : Nat → Int32), post (tw_sn sh a7 R v key) (nI n, hm, nI R, wd, a1, a2, a3, a4, a5, a6, a7, a8, a9, a10, a11, a12, a13, a14)) : wpX_shown post (nI n, hm, nI R, wd, a1, a2, a3, a4, a5, a6, a7, a8, a9, a10, a11, a12, a13, a14) (nI v) key := by
  unfold wpX_shown
  refine tw_find hR (fun hf => tw_isV hv hn (br_f (by decide) (br_t (by decide) ?_))) (fun r hr hf => tw_isV hv hn (br_f (by decide) (br_f (nI_pos (by omega)) ?_)))
  · rw [tw_sn_n hf] at H; exact H wd a11 a12 a13 a14
  · rw [tw_sn_s hf] at H
    refine hK r v hr hv _ wd a11 a12 a13 a14 (fun wd a11 a12 a13 a14 hb => ?_)
    rcases Classical.em (sh r v) with g | g
    · rw [tw_b_t g] at H ⊢
      exact br_f (by decide) (H wd a11 a12 a13 a14)
    · rw [tw_b_f g] at H ⊢
      exact br_t rfl (H wd a11 a12 a13 a14)
end
end
section
noncomputable def tw_h90 (c : Nat → Nat) (sh : Nat → Nat → Prop) (vv : Nat → Nat → Nat → Int32) (a7 : Nat → Int32) (R v : Nat) (key : Int32) : Nat → Int32 → Int32 := fun j h => 31 * h + tw_vl c sh vv a7 R v key j
noncomputable def tw_h63 (c : Nat → Nat) (sh : Nat → Nat → Prop) (vv : Nat → Nat → Nat → Int32) (a7 : Nat → Int32) (R v : Nat) : Nat → Int32 → Int32 :=
  fun i h => tw_fo (tw_h90 c sh vv a7 R v (tw_ky (fun r => sh r v) a7 R 0 (nI i))) (5 - 0) 0 (31 * h + tw_ky (fun r => sh r v) a7 R 0 (nI i))
noncomputable def tw_h35 (c : Nat → Nat) (sh : Nat → Nat → Prop) (vv : Nat → Nat → Nat → Int32) (R v : Nat) : Nat → Int32 → Int32 := fun j h => 31 * h + tw_su c sh vv R v j
noncomputable def tw_h4 (c : Nat → Nat) (sh : Nat → Nat → Prop) (vv : Nat → Nat → Nat → Int32) (a7 : Nat → Int32) (R : Nat) : Nat → Int32 → Int32 :=
  fun v h => tw_fo (tw_h63 c sh vv a7 R v) (tw_cn (fun r => sh r v) R - 0) 0 (tw_fo (tw_h35 c sh vv R v) (5 - 0) 0 (31 * h + nI (tw_cn (fun r => sh r v) R) + 3 * nI (c v)))
/-- what the law's sum answers -/
noncomputable def tw_ha (c : Nat → Nat) (sh : Nat → Nat → Prop) (vv : Nat → Nat → Nat → Int32) (a7 : Nat → Int32) (R n : Nat) : Int32 := tw_fo (tw_h4 c sh vv a7 R) (n - 0) 0 0
section
variable {vc hm rc wd : Int32} {a1 a2 a3 a4 a5 a6 a7 a8 a9 a10 a11 a12 a13 a14 : Nat → Int32} {n R : Nat} {c : Nat → Nat} {sh : Nat → Nat → Prop} {vv : Nat → Nat → Nat → Int32}
theorem tw_s90 {post : Int32 → St1 → Prop} {J4 J63 : tw_J6} {x1 x4 x5 key : Int32} {v : Nat} (hK : tw_LK n R c sh vv hm a1 a2 a3 a4 a5 a6 a7 a8 a9 a10) (hn : n ≤ 8) (hR : R ≤ 12) (h6 : ∀ v, v < n → a6 v = nI (c v)) (hc : ∀ v, v < n → c v ≤ 5) (hv : v < n) :
    ∀ (fu i : Nat) (ac wd : Int32) (a11 a12 a13 a14 : Nat → Int32), i ≤ 5 → 5 - i < fu → (∀ (wd : Int32) (a11 a12 a13 a14 : Nat → Int32), J63 (tw_fo (tw_h90 c sh vv a7 R v key) (5 - i) i ac) (x5 + 1) (nI n) hm (nI R) wd a1 a2 a3 a4 a5 a6 a7 a8 a9 a10 a11 a12 a13 a14) → wL_sum_90 post J4 J63 x1 (nI v) x4 x5 key fu ac (nI i) (nI n) hm (nI R) wd a1 a2 a3 a4 a5 a6 a7 a8 a9 a10 a11 a12 a13 a14 := by
  intro fu
  induction fu with
  | zero => intro i _ _ _ _ _ _ _ h; exact absurd h (by omega)
  | succ fu ih =>
    intro i ac wd a11 a12 a13 a14 hi hf H
    refine pk_le 5 i (fun hle => nm_e ?_) (fun hlt => ?_)
    · rw [tw_fo_e hle] at H
      exact H wd a11 a12 a13 a14
    · rw [tw_fo_s hlt] at H
      exact tw_value hK hn hR hv hlt (h6 v hv) (hc v hv) (fun wd a11 a12 a13 a14 => nm_e (nm_r (nI_1 i) (ih (i + 1) _ _ _ _ _ _ (by omega) (by omega) H)))
theorem tw_s63 {post : Int32 → St1 → Prop} {J4 : tw_J6} {x1 : Int32} {v K : Nat} (hK : tw_LK n R c sh vv hm a1 a2 a3 a4 a5 a6 a7 a8 a9 a10) (hn : n ≤ 8) (hR : R ≤ 12) (h6 : ∀ v, v < n → a6 v = nI (c v)) (hc : ∀ v, v < n → c v ≤ 5) (hv : v < n) (hK12 : K ≤ 12) :
    ∀ (fu i : Nat) (ac wd : Int32) (a11 a12 a13 a14 : Nat → Int32), i ≤ K → K - i < fu → (∀ (wd : Int32) (a11 a12 a13 a14 : Nat → Int32), J4 (tw_fo (tw_h63 c sh vv a7 R v) (K - i) i ac) (nI (v + 1)) (nI n) hm (nI R) wd a1 a2 a3 a4 a5 a6 a7 a8 a9 a10 a11 a12 a13 a14) → wL_sum_63 post J4 x1 (nI v) (nI K) fu ac (nI i) (nI n) hm (nI R) wd a1 a2 a3 a4 a5 a6 a7 a8 a9 a10 a11 a12 a13 a14 := by
  intro fu
  induction fu with
  | zero => intro i _ _ _ _ _ _ _ h; exact absurd h (by omega)
  | succ fu ih =>
    intro i ac wd a11 a12 a13 a14 hi hf H
    refine pk_le K i (fun hle => nm_r (nI_1 v) ?_) (fun hlt => ?_)
    · rw [tw_fo_e hle] at H
      exact H wd a11 a12 a13 a14
    · rw [tw_fo_s hlt] at H
      refine tw_key hK hn hR hv (fun wd a11 a12 a13 a14 => nm_e ⟨6, tw_s90 (J63 := wL_sum_63 post J4 x1 (nI v) (nI K) fu) hK hn hR h6 hc hv 6 0 _ _ _ _ _ _ (by omega) (by omega) (fun wd a11 a12 a13 a14 => ?_)⟩)
      rw [nI_1]
      exact ih (i + 1) _ _ _ _ _ _ (by omega) (by omega) H
theorem tw_s35 {post : Int32 → St1 → Prop} {J4 : tw_J6} {x1 : Int32} {v K : Nat} (hK : tw_LK n R c sh vv hm a1 a2 a3 a4 a5 a6 a7 a8 a9 a10) (hn : n ≤ 8) (hR : R ≤ 12) (h6 : ∀ v, v < n → a6 v = nI (c v)) (hc : ∀ v, v < n → c v ≤ 5) (hv : v < n) (hK12 : K ≤ 12) :
    ∀ (fu i : Nat) (ac wd : Int32) (a11 a12 a13 a14 : Nat → Int32), i ≤ 5 → 5 - i < fu → (∀ (wd : Int32) (a11 a12 a13 a14 : Nat → Int32), J4 (tw_fo (tw_h63 c sh vv a7 R v) (K - 0) 0 (tw_fo (tw_h35 c sh vv R v) (5 - i) i ac)) (nI (v + 1)) (nI n) hm (nI R) wd a1 a2 a3 a4 a5 a6 a7 a8 a9 a10 a11 a12 a13 a14) → wL_sum_35 post J4 x1 (nI v) (nI K) fu ac (nI i) (nI n) hm (nI R) wd a1 a2 a3 a4 a5 a6 a7 a8 a9 a10 a11 a12 a13 a14 := by
  intro fu
  induction fu with
  | zero => intro i _ _ _ _ _ _ _ h; exact absurd h (by omega)
  | succ fu ih =>
    intro i ac wd a11 a12 a13 a14 hi hf H
    refine pk_le 5 i (fun hle => ?_) (fun hlt => ?_)
    · rw [tw_fo_e hle] at H
      exact ⟨K + 1, tw_s63 hK hn hR h6 hc hv hK12 (K + 1) 0 _ _ _ _ _ _ (by omega) (by omega) H⟩
    · rw [tw_fo_s hlt] at H
      exact tw_sum hK hn hR hv hlt (h6 v hv) (hc v hv) (fun wd a11 a12 a13 a14 => nm_e (nm_r (nI_1 i) (ih (i + 1) _ _ _ _ _ _ (by omega) (by omega) H)))
theorem tw_s4 {post : Int32 → St1 → Prop} (hK : tw_LK n R c sh vv hm a1 a2 a3 a4 a5 a6 a7 a8 a9 a10) (hn : n ≤ 8) (hR : R ≤ 12) (h6 : ∀ v, v < n → a6 v = nI (c v)) (hc : ∀ v, v < n → c v ≤ 5) :
    ∀ (fu i : Nat) (ac wd : Int32) (a11 a12 a13 a14 : Nat → Int32), i ≤ n → n - i < fu → (∀ (wd : Int32) (a11 a12 a13 a14 : Nat → Int32), post (tw_fo (tw_h4 c sh vv a7 R) (n - i) i ac) (nI n, hm, nI R, wd, a1, a2, a3, a4, a5, a6, a7, a8, a9, a10, a11, a12, a13, a14)) → wL_sum_4 post (nI n) fu ac (nI i) (nI n) hm (nI R) wd a1 a2 a3 a4 a5 a6 a7 a8 a9 a10 a11 a12 a13 a14 := by
  intro fu
  induction fu with
  | zero => intro i _ _ _ _ _ _ _ h; exact absurd h (by omega)
  | succ fu ih =>
    intro i ac wd a11 a12 a13 a14 hi hf H
    refine pk_le n i (fun hle => ?_) (fun hlt => ?_)
    · rw [tw_fo_e hle] at H
      exact H wd a11 a12 a13 a14
    · rw [tw_fo_s hlt] at H
      have hcn := tw_cn_le (fun r => sh r i) R
      exact tw_count hK hn hR hlt (fun wd a11 a12 a13 a14 => tw_columns (c := c) hlt hn (h6 i hlt) (nm_e ⟨6, tw_s35 (J4 := wL_sum_4 post (nI n) fu) hK hn hR h6 hc hlt (by omega) 6 0 _ _ _ _ _ _ (by omega) (by omega) (fun wd a11 a12 a13 a14 => ih (i + 1) _ _ _ _ _ _ (by omega) (by omega) H)⟩))
theorem tw_lsum {post : Int32 → St1 → Prop} (hK : tw_LK n R c sh vv hm a1 a2 a3 a4 a5 a6 a7 a8 a9 a10) (hn : n ≤ 8) (hR : R ≤ 12) (h6 : ∀ v, v < n → a6 v = nI (c v)) (hc : ∀ v, v < n → c v ≤ 5)
    (H : ∀ (wd : Int32) (a11 a12 a13 a14 : Nat → Int32), post (tw_ha c sh vv a7 R n) (nI n, hm, nI R, wd, a1, a2, a3, a4, a5, a6, a7, a8, a9, a10, a11, a12, a13, a14)) : wpL_sum post (nI n, hm, nI R, wd, a1, a2, a3, a4, a5, a6, a7, a8, a9, a10, a11, a12, a13, a14) (nI n) :=
  ⟨n + 1, tw_s4 hK hn hR h6 hc (n + 1) 0 0 wd a11 a12 a13 a14 (by omega) (by omega) H⟩
end
/-- row r is stored right for the home h -/
def tw_RO (n : Nat) (p k c : Nat → Nat) (h : Nat) (a8 a9 : Nat → Int32) (V : Nat → Nat → Int32) (F : Nat → Int32) (r : Nat) : Prop :=
  (∀ j, j < c h → a8 (5 * r + j) = V h j) ∧ (∀ e, 0 < e → e < n → tw_fr p k e h → a9 (8 * r + e) = F e)
/-- all that is kept between two calls -/
def tw_I (n h R : Nat) (p k x z c : Nat → Nat) (VV : Nat → Nat → Nat → Int32) (FF : Nat → Nat → Int32) (a1 a2 a3 a4 a5 a6 a7 a8 a9 : Nat → Int32) : Prop :=
  tw_T n p k x z c ∧ tw_M n p k x z c a1 a2 a3 a4 a6 ∧ h < n ∧ R ≤ 12 ∧ (∀ r, r < R → tw_F n p k x z c a5 (VV r) (FF r)) ∧ (∀ r, r < R → tw_RO n p k c h a8 a9 (VV r) (FF r) r) ∧ (∀ r, r < 12 → ∃ t, t < 100 ∧ a7 r = nI t)
section
variable {vc hm rc wd : Int32} {a1 a2 a3 a4 a5 a6 a7 a8 a9 a10 a11 a12 a13 a14 : Nat → Int32} {n h R : Nat} {p k x z c : Nat → Nat} {VV : Nat → Nat → Nat → Int32} {FF : Nat → Nat → Int32}
theorem tw_I_LK (I : tw_I n h R p k x z c VV FF a1 a2 a3 a4 a5 a6 a7 a8 a9) : tw_LK n R c (fun r v => tw_Sh n p k x a5 (VV r) v) VV (nI h) a1 a2 a3 a4 a5 a6 a7 a8 a9 a10 := by
  obtain ⟨hT, hM, hh, hR, hF, hO, hk⟩ := I
  intro r v hr hv post wd a11 a12 a13 a14 H
  exact tw_look (V := VV r) (F := FF r) hT hM (hF r hr) (by omega) hh hv (hO r hr).1 (hO r hr).2 (fun b11 b12 b13 b14 q1 _ => H _ b11 b12 b13 b14 q1)
theorem tw_move {post : St1 → Prop} {v : Nat} (I : tw_I n h R p k x z c VV FF a1 a2 a3 a4 a5 a6 a7 a8 a9) (hv : v < n)
    (H : ∀ (wd : Int32) (a8 a9 a11 a12 a13 : Nat → Int32), tw_I n v R p k x z c VV FF a1 a2 a3 a4 a5 a6 a7 a8 a9 → post (vc, nI v, nI R, wd, a1, a2, a3, a4, a5, a6, a7, a8, a9, a10, a11, a12, a13, a14)) : wpX_moveHome post (vc, nI h, nI R, wd, a1, a2, a3, a4, a5, a6, a7, a8, a9, a10, a11, a12, a13, a14) (nI v) := by
  obtain ⟨hT, hM, hh, hR, hF, hO, hk⟩ := I
  have hn8 : n ≤ 8 := hT.2.1
  have hch := tw_T_c hT hh
  have hcv := tw_T_c hT hv
  have main : ∀ (fu i : Nat) (wd : Int32) (a8 a9 a11 a12 a13 : Nat → Int32), i ≤ R → R - i < fu → (∀ r, r < i → tw_RO n p k c v a8 a9 (VV r) (FF r) r) → (∀ r, i ≤ r → r < R → tw_RO n p k c h a8 a9 (VV r) (FF r) r) → wX_moveHome_2 post (nI v) fu (nI i) vc (nI h) (nI R) wd a1 a2 a3 a4 a5 a6 a7 a8 a9 a10 a11 a12 a13 a14 := by
    intro fu
    induction fu with
    | zero => intro i _ _ _ _ _ _ _ g; exact absurd g (by omega)
    | succ fu ih =>
      intro i wd a8 a9 a11 a12 a13 hi hf h1 h2
      refine pk_le R i (fun hle => ?_) (fun hlt => ?_)
      · exact H wd a8 a9 a11 a12 a13 ⟨hT, hM, hv, hR, hF, fun r hr => h1 r (by omega), hk⟩
      · have hO := h2 i (Nat.le_refl _) hlt
        refine tw_load (c := c) (by omega) (by omega) (hM h hh).2.2.2.2 (fun b11 hb => ?_)
        refine tw_carry (m := 2) (V := VV i) (F := FF i) hT hM (hF i hlt) (by omega) (by omega) hh hv (fun j hj => by rw [hb j (by omega)]; exact hO.1 j hj) (fun e e0 he hc hfr => hO.2 e e0 he hfr) (fun c9 c11 c12 c13 q1 q2 => ?_)
        obtain ⟨e12, q9⟩ := q2.2 (by omega)
        refine tw_store (by omega) (fun d8 s1 s2 => nm_r (nI_1 i) (ih (i + 1) _ d8 c9 c11 c12 c13 (by omega) (by omega) (fun r hr => ?_) (fun r hr hr' => ?_)))
        · by_cases g : r = i
          · rw [g]
            refine ⟨fun j hj => by rw [s1 j (by omega)]; exact q1 j hj, fun e e0 he hfr => ?_⟩
            by_cases w : tw_W n p k h v e
            · exact (q9 i e (by omega)).1 ⟨rfl, w⟩
            · rw [(q9 i e (by omega)).2 (fun t => w t.2)]
              refine hO.2 e e0 he ?_
              have hB : tw_B p h e ↔ tw_B p v e := Classical.byContradiction (fun t => w ⟨e0, he, t, hfr⟩)
              rcases hfr with s | s
              · exact Or.inl ⟨s.1, fun t => s.2 (hB.mp t)⟩
              · exact Or.inr ⟨s.1, hB.mpr s.2⟩
          · have hr1 := h1 r (by omega)
            refine ⟨fun j hj => by rw [s2 r j (by omega) g]; exact hr1.1 j hj, fun e e0 he hfr => ?_⟩
            rw [(q9 r e (by omega)).2 (fun t => g t.1)]
            exact hr1.2 e e0 he hfr
        · have hr1 := h2 r (by omega) hr'
          refine ⟨fun j hj => by rw [s2 r j (by omega) (by omega)]; exact hr1.1 j hj, fun e e0 he hfr => ?_⟩
          rw [(q9 r e (by omega)).2 (fun t => absurd t.1 (by omega))]
          exact hr1.2 e e0 he hfr
  exact ⟨R + 1, main (R + 1) 0 wd a8 a9 a11 a12 a13 (by omega) (by omega) (fun r hr => absurd hr (by omega)) (fun r _ hr => hO r hr)⟩
theorem tw_home {post : Int32 → St1 → Prop} {v : Nat} (I : tw_I n h R p k x z c VV FF a1 a2 a3 a4 a5 a6 a7 a8 a9) (hv : v < n)
    (H : ∀ (wd : Int32) (a8 a9 a11 a12 a13 : Nat → Int32), tw_I n v R p k x z c VV FF a1 a2 a3 a4 a5 a6 a7 a8 a9 → post 1 (nI n, nI v, nI R, wd, a1, a2, a3, a4, a5, a6, a7, a8, a9, a10, a11, a12, a13, a14)) : wpX_home post (nI n, nI h, nI R, wd, a1, a2, a3, a4, a5, a6, a7, a8, a9, a10, a11, a12, a13, a14) (nI v) := by
  unfold wpX_home
  exact tw_isV hv I.1.2.1 (br_f (by decide) (tw_move I hv H))
end
end
section
def tw_se {α : Type} (n : Nat) (v : α) (f : Nat → α) : Nat → α := fun j => if j = n then v else f j
theorem tw_se_s {α : Type} {n : Nat} {v : α} {f : Nat → α} : tw_se n v f n = v := if_pos rfl
theorem tw_se_n {α : Type} {n j : Nat} {v : α} {f : Nat → α} (h : j ≠ n) : tw_se n v f j = f j := if_neg h
theorem tw_bf_cong {n : Nat} {p p' : Nat → Nat} (hp : ∀ e, 0 < e → e < n → p e < e) (h : ∀ j, j < n → p' j = p j) (e : Nat) : ∀ f v, v < n → (tw_bf p' f v e ↔ tw_bf p f v e) := by
  intro f
  induction f with
  | zero => intro v _; exact Iff.rfl
  | succ f ih =>
    intro v hv
    show ((v ≤ e ∧ v = e) ∨ (e < v ∧ tw_bf p' f (p' v) e)) ↔ ((v ≤ e ∧ v = e) ∨ (e < v ∧ tw_bf p f (p v) e))
    rw [h v hv]
    constructor
    · intro s
      rcases s with s | s
      · exact Or.inl s
      · have := hp v (by omega) hv
        exact Or.inr ⟨s.1, (ih (p v) (by omega)).mp s.2⟩
    · intro s
      rcases s with s | s
      · exact Or.inl s
      · have := hp v (by omega) hv
        exact Or.inr ⟨s.1, (ih (p v) (by omega)).mpr s.2⟩
theorem tw_B_cong {n : Nat} {p p' : Nat → Nat} (hp : ∀ e, 0 < e → e < n → p e < e) (h : ∀ j, j < n → p' j = p j) {w e : Nat} (hw : w < n) : tw_B p' w e ↔ tw_B p w e := tw_bf_cong hp h e w w hw
theorem tw_ch {α : Type} {q : Nat → α → Prop} (h : ∀ r, ∃ y, q r y) : ∃ f : Nat → α, ∀ r, q r (f r) := ⟨fun r => Classical.choose (h r), fun r => Classical.choose_spec (h r)⟩
def tw_ms (x : Int32) : Nat := (x &&& 255).toNatClampNeg
theorem tw_ms_e (x : Int32) : x &&& 255 = nI (tw_ms x) ∧ tw_ms x < 256 := by
  obtain ⟨j, hj, e⟩ := pk_andE x (m := 255) 8 (by decide)
  have : tw_ms x = j := by unfold tw_ms; rw [e, nI_clamp (by omega)]
  rw [this]
  exact ⟨e, hj⟩
theorem tw_rm (x : Int32) {d : Nat} (h0 : 0 < d) (hd : d ≤ 255) : (x &&& 255) - (x &&& 255) / nI d * nI d = nI (tw_ms x % d) := by
  have := tw_ms_e x
  rw [this.1, pk_rem (by omega) h0 (by omega)]
section
variable {vc hm rc wd : Int32} {a1 a2 a3 a4 a5 a6 a7 a8 a9 a10 a11 a12 a13 a14 : Nat → Int32} {n h R : Nat} {p k x z c : Nat → Nat} {VV : Nat → Nat → Nat → Int32} {FF : Nat → Nat → Int32}
theorem tw_edit235 {post : Int32 → St1 → Prop} {y : Int32} {e : Nat} (he : e < 8) (hR : R ≤ 12)
    (H : ∀ (b9 : Nat → Int32), (∀ q i, i < 8 → ((q < R ∧ i = e) → b9 (8 * q + i) = y) ∧ (¬ (q < R ∧ i = e) → b9 (8 * q + i) = a9 (8 * q + i))) → post (nI e) (vc, hm, nI R, wd, a1, a2, a3, a4, a5, a6, a7, a8, b9, a10, a11, a12, a13, a14)) : ∃ fu, wX_edit_235 post y (nI e) vc hm (nI R) wd fu 0 a1 a2 a3 a4 a5 a6 a7 a8 a9 a10 a11 a12 a13 a14 :=
  pk_loop (fun fu i s => wX_edit_235 post y (nI e) vc hm (nI R) wd fu (nI i) a1 a2 a3 a4 a5 a6 a7 a8 s a10 a11 a12 a13 a14) (fun i s => ∀ q j, j < 8 → ((q < i ∧ j = e) → s (8 * q + j) = y) ∧ (¬ (q < i ∧ j = e) → s (8 * q + j) = a9 (8 * q + j))) R 0 a9 (by omega) (fun q j _ => ⟨fun t => absurd t.1 (by omega), fun _ => rfl⟩)
    (fun fu s g => pk_le R R (fun _ => H s g) (fun t => absurd t (by omega)))
    (fun fu i s hi g hw => pk_le R i (fun t => absurd t (by omega)) (fun _ => ⟨pk_in (8 * i + e) 96 (by omega) (tw_ix8 i e), nm_r (e' := upd s (8 * i + e) y) (by rw [tw_ix8, nI_clamp (by omega)]) (nm_r (nI_1 i) (hw _ (fun q j hj => by
      by_cases w : q = i ∧ j = e
      · rw [w.1, w.2, pk_us]
        exact ⟨fun _ => rfl, fun t => absurd ⟨by omega, rfl⟩ t⟩
      · rw [pk_un (by omega)]
        have gg := g q j hj
        exact ⟨fun t => gg.1 ⟨by omega, t.2⟩, fun t => gg.2 (fun t' => t ⟨by omega, t'.2⟩)⟩)))⟩))
theorem tw_edit141 {post : Int32 → St1 → Prop} {v kd xx zz cnt : Nat} {y z0 z1 : Int32} (I : tw_I n h R p k x z c VV FF a1 a2 a3 a4 a5 a6 a7 a8 a9) (hv : v < n) (hn : n < 8) (hkd : kd ≤ 5) (hx : xx < c v) (hz : zz < c v) (h5 : kd = 5 → xx ≠ zz)
    (hzz : z1 + z0 = nI cnt) (hcn : cnt < 10) (hc0 : kd = 0 → cnt = c v + 1) (hc1 : kd = 1 → cnt + 1 = c v) (hc2 : 2 ≤ kd → cnt = c v)
    (H2 : post (-2) (nI n, nI h, nI R, wd, a1, a2, a3, a4, a5, a6, a7, a8, a9, a10, a11, a12, a13, a14))
    (H1 : ∀ (p' k' x' z' c' : Nat → Nat) VV FF a1 a2 a3 a4 a5 a6 a9, tw_I (n + 1) h R p' k' x' z' c' VV FF a1 a2 a3 a4 a5 a6 a7 a8 a9 → p' n = v → (∀ j, j < n → p' j = p j) → post (nI n) (nI (n + 1), nI h, nI R, wd, a1, a2, a3, a4, a5, a6, a7, a8, a9, a10, a11, a12, a13, a14)) :
    wX_edit_141 post (nI v) y (nI kd) (nI xx) (nI zz) z0 z1 (nI n) (nI h) (nI R) wd a1 a2 a3 a4 a5 a6 a7 a8 a9 a10 a11 a12 a13 a14 := by
  obtain ⟨hT, hM, hh, hR, hF, hO, hk⟩ := I
  have hcv := tw_T_c hT hv
  have hp : ∀ e, 0 < e → e < n → p e < e := fun e e0 he => tw_T_p hT e0 he
  unfold wX_edit_141
  refine nm_r (e' := nI cnt) hzz (pk_lt cnt 1 (fun _ => H2) (fun h1 => pk_le cnt 5 (fun h5' => ?_) (fun _ => H2)))
  refine nm_r (nI_1 n) ⟨pk_in n 8 hn, nm_r (e' := upd a1 n (nI v)) (by rw [nI_clamp (by omega), tw_by v (by omega)]) ⟨pk_in n 8 hn, nm_r (e' := upd a2 n (nI kd)) (by rw [nI_clamp (by omega), tw_by kd (by omega)]) ⟨pk_in n 8 hn, nm_r (e' := upd a3 n (nI xx)) (by rw [nI_clamp (by omega), tw_by xx (by omega)]) ⟨pk_in n 8 hn, nm_r (e' := upd a4 n (nI zz)) (by rw [nI_clamp (by omega), tw_by zz (by omega)]) ⟨pk_in n 8 hn, nm_r (e' := upd a5 n y) (by rw [nI_clamp (by omega)]) ⟨pk_in n 8 hn, nm_r (e' := upd a6 n (nI cnt)) (by rw [nI_clamp (by omega), tw_by cnt (by omega)]) ?_⟩⟩⟩⟩⟩⟩
  refine tw_edit235 (e := n) hn hR (fun b9 hb => ?_)
  obtain ⟨ve, hve⟩ := tw_ch (fun r => tw_E_dn (x := xx) (z := zz) (cp := c v) (ce := cnt) (y := y) hkd (VV r v) y)
  obtain ⟨fe, hfe⟩ := tw_ch hve
  have hvn : v ≠ n := by omega
  refine H1 (tw_se n v p) (tw_se n kd k) (tw_se n xx x) (tw_se n zz z) (tw_se n cnt c) (fun r => tw_se n (ve r) (VV r)) (fun r => tw_se n (fe r) (FF r)) _ _ _ _ _ _ _ ⟨?_, ?_, by omega, hR, ?_, ?_, hk⟩ tw_se_s (fun j hj => tw_se_n (by omega))
  · refine ⟨by omega, by omega, ?_, fun e e0 he => ?_⟩
    · have := hT.1
      rw [tw_se_n (by omega)]; exact hT.2.2.1
    · by_cases g : e = n
      · rw [g, tw_se_s, tw_se_s, tw_se_s, tw_se_s, tw_se_s, tw_se_n hvn]
        exact ⟨hv, hkd, by omega, h5', hc0, fun t => ⟨hc1 t, hx⟩, fun t => ⟨hc2 t, hx⟩, fun _ => hz, h5⟩
      · have t := hT.2.2.2 e e0 (by omega)
        have := t.1
        rw [tw_se_n g, tw_se_n g, tw_se_n g, tw_se_n g, tw_se_n g, tw_se_n (show p e ≠ n by omega)]
        exact t
  · intro e he
    by_cases g : e = n
    · rw [g, pk_us, pk_us, pk_us, pk_us, pk_us, tw_se_s, tw_se_s, tw_se_s, tw_se_s, tw_se_s]
      exact ⟨rfl, rfl, rfl, rfl, rfl⟩
    · rw [pk_un g, pk_un g, pk_un g, pk_un g, pk_un g, tw_se_n g, tw_se_n g, tw_se_n g, tw_se_n g, tw_se_n g]
      exact hM e (by omega)
  · intro r hr e e0 he
    dsimp only
    by_cases g : e = n
    · rw [g, pk_us, tw_se_s, tw_se_s, tw_se_s, tw_se_s, tw_se_s, tw_se_s, tw_se_s, tw_se_n hvn, tw_se_n hvn]
      exact (hfe r).1
    · have := hp e e0 (by omega)
      rw [pk_un g, tw_se_n g, tw_se_n g, tw_se_n g, tw_se_n g, tw_se_n g, tw_se_n g, tw_se_n g, tw_se_n (show p e ≠ n by omega), tw_se_n (show p e ≠ n by omega)]
      exact hF r hr e e0 (by omega)
  · intro r hr
    have hhn : h ≠ n := by omega
    refine ⟨fun j hj => ?_, fun e e0 he hfr => ?_⟩
    · dsimp only
      rw [tw_se_n hhn] at hj ⊢
      exact (hO r hr).1 j hj
    · dsimp only
      have hB : tw_B (tw_se n v p) h e ↔ tw_B p h e := tw_B_cong hp (fun j hj => tw_se_n (by omega)) hh
      by_cases g : e = n
      · have hnb : ¬ tw_B p h e := fun t => by have := tw_B_le t; omega
        rcases hfr with s | s
        · rw [g, tw_se_s, (hb r n (by omega)).1 ⟨hr, rfl⟩]
          rw [g, tw_se_s] at s
          exact ((hfe r).2 s.1).symm
        · exact absurd (hB.mp s.2) hnb
      · rw [tw_se_n g, (hb r e (by omega)).2 (fun t => g t.2)]
        refine (hO r hr).2 e e0 (by omega) ?_
        unfold tw_fr at hfr
        rw [tw_se_n g] at hfr
        rcases hfr with s | s
        · exact Or.inl ⟨s.1, fun t => s.2 (hB.mpr t)⟩
        · exact Or.inr ⟨s.1, hB.mp s.2⟩
theorem tw_edit {post : Int32 → St1 → Prop} {v kd xx zz : Nat} {y : Int32} (I : tw_I n h R p k x z c VV FF a1 a2 a3 a4 a5 a6 a7 a8 a9) (hv : v < n) (hkd : kd ≤ 5) (hx : xx < c v) (hz : zz < c v)
    (Hm : post (-1) (nI n, nI h, nI R, wd, a1, a2, a3, a4, a5, a6, a7, a8, a9, a10, a11, a12, a13, a14)) (H2 : post (-2) (nI n, nI h, nI R, wd, a1, a2, a3, a4, a5, a6, a7, a8, a9, a10, a11, a12, a13, a14))
    (H1 : n < 8 → ∀ (p' k' x' z' c' : Nat → Nat) VV FF a1 a2 a3 a4 a5 a6 a9, tw_I (n + 1) h R p' k' x' z' c' VV FF a1 a2 a3 a4 a5 a6 a7 a8 a9 → p' n = v → (∀ j, j < n → p' j = p j) → post (nI n) (nI (n + 1), nI h, nI R, wd, a1, a2, a3, a4, a5, a6, a7, a8, a9, a10, a11, a12, a13, a14)) :
    wpX_edit post (nI n, nI h, nI R, wd, a1, a2, a3, a4, a5, a6, a7, a8, a9, a10, a11, a12, a13, a14) (nI v) (nI (kd + 8 * xx + 64 * zz)) y := by
  have hT := I.1
  have hM := I.2.1
  have hn8 : n ≤ 8 := hT.2.1
  have hcv := tw_T_c hT hv
  have h6 := (hM v hv).2.2.2.2
  unfold wpX_edit
  refine tw_isV hv hn8 (br_f (by decide) (br_f (nI_pos (by omega)) (pk_le (kd + 8 * xx + 64 * zz) 511 (fun _ => pk_lt n 8 (fun hn => ?_) (fun _ => H2)) (fun g => absurd g (by omega)))))
  have e115 : (kd = 5 → xx ≠ zz) → wX_edit_115 post (nI v) y (nI kd) (nI xx) (nI zz) (nI n) (nI h) (nI R) wd a1 a2 a3 a4 a5 a6 a7 a8 a9 a10 a11 a12 a13 a14 := by
    intro h5
    unfold wX_edit_115
    refine ⟨pk_in v 8 (by omega), ?_⟩
    rw [nI_clamp (show v < 2 ^ 31 by omega), h6]
    refine pk_eq kd 0 (fun g => ?_) (fun g0 => pk_eq kd 1 (fun g => ?_) (fun g1 => ?_))
    · exact tw_edit141 (cnt := c v + 1) I hv hn hkd hx hz h5 (nI_1 _) (by omega) (fun _ => rfl) (fun t => absurd t (by omega)) (fun t => absurd t (by omega)) H2 (H1 hn)
    · exact tw_edit141 (cnt := c v - 1) I hv hn hkd hx hz h5 (sb_m1 (by omega)) (by omega) (fun t => absurd t (by omega)) (fun _ => by omega) (fun t => absurd t (by omega)) H2 (H1 hn)
    · exact tw_edit141 (cnt := c v) I hv hn hkd hx hz h5 (Int32.add_zero _) (by omega) (fun t => absurd t (by omega)) (fun t => absurd t (by omega)) (fun _ => rfl) H2 (H1 hn)
  have e100 : wX_edit_100 post (nI v) y (nI kd) (nI xx) (nI zz) (nI n) (nI h) (nI R) wd a1 a2 a3 a4 a5 a6 a7 a8 a9 a10 a11 a12 a13 a14 := by
    unfold wX_edit_100
    exact pk_eq kd 5 (fun g => pk_eq xx zz (fun _ => Hm) (fun g' => e115 (fun _ => g'))) (fun g => e115 (fun t => absurd t g))
  have e88 : wX_edit_88 post (nI v) y (nI kd) (nI xx) (nI zz) (nI n) (nI h) (nI R) wd a1 a2 a3 a4 a5 a6 a7 a8 a9 a10 a11 a12 a13 a14 := by
    unfold wX_edit_88
    exact tw_isC (c := c) (by omega) (by omega) h6 (by omega) (fun _ => br_f (by decide) e100) (fun t => absurd t (by omega))
  have e76 : wX_edit_76 post (nI v) y (nI kd) (nI xx) (nI zz) (nI n) (nI h) (nI R) wd a1 a2 a3 a4 a5 a6 a7 a8 a9 a10 a11 a12 a13 a14 := by
    unfold wX_edit_76
    exact pk_eq kd 4 (fun _ => e88) (fun _ => pk_eq kd 5 (fun _ => e88) (fun _ => e100))
  refine nm_r (e' := nI kd) ?_ (nm_r (e' := nI xx) ?_ (nm_r (e' := nI zz) ?_ ?_))
  · rw [pk_andN (m := 7) (by omega) 3 (by decide), show (kd + 8 * xx + 64 * zz) % 2 ^ 3 = kd by omega]
  · rw [pk_shrN (by omega) _ 3 (by decide), pk_andN (m := 7) (by omega) 3 (by decide), show (kd + 8 * xx + 64 * zz) / 2 ^ 3 % 2 ^ 3 = xx by omega]
  · rw [pk_shrN (by omega) _ 6 (by decide), show (kd + 8 * xx + 64 * zz) / 2 ^ 6 = zz by omega]
  · exact pk_lt 5 kd (fun t => absurd t (by omega)) (fun _ => pk_eq kd 0 (fun _ => e76) (fun _ => tw_isC (c := c) (by omega) (by omega) h6 (by omega) (fun _ => br_f (by decide) e76) (fun t => absurd t (by omega))))
theorem tw_made {post : Int32 → St1 → Prop} {p1 p2 p3 : Int32} (I : tw_I n h R p k x z c VV FF a1 a2 a3 a4 a5 a6 a7 a8 a9)
    (Hm : ∀ t : Int32, t < 0 → post t (nI n, nI h, nI R, wd, a1, a2, a3, a4, a5, a6, a7, a8, a9, a10, a11, a12, a13, a14))
    (H1 : n < 8 → ∀ (p' k' x' z' c' : Nat → Nat) VV FF a1 a2 a3 a4 a5 a6 a9, tw_I (n + 1) h R p' k' x' z' c' VV FF a1 a2 a3 a4 a5 a6 a7 a8 a9 → p' n = tw_ms p2 % n → (∀ j, j < n → p' j = p j) → post (nI n) (nI (n + 1), nI h, nI R, wd, a1, a2, a3, a4, a5, a6, a7, a8, a9, a10, a11, a12, a13, a14)) :
    wpL_made post (nI n, nI h, nI R, wd, a1, a2, a3, a4, a5, a6, a7, a8, a9, a10, a11, a12, a13, a14) p1 p2 p3 (nI n) := by
  have hT := I.1
  have hM := I.2.1
  have hn1 : 1 ≤ n := hT.1
  have hn8 : n ≤ 8 := hT.2.1
  have hv : tw_ms p2 % n < n := Nat.mod_lt _ (by omega)
  have hcv := tw_T_c hT hv
  have h6 := (hM _ hv).2.2.2.2
  unfold wpL_made
  refine ⟨nI_ne0 (by omega) (by omega), nm_r (e' := nI (tw_ms p2 % n)) (tw_rm p2 (by omega) (by omega)) ?_⟩
  refine tw_columns (c := c) hv hn8 h6 ⟨by decide, nm_r (e' := nI (tw_ms p1 % 6)) (tw_rm p1 (d := 6) (by omega) (by omega)) ⟨nI_ne0 (by omega) (by omega), nm_r (e' := nI (tw_ms (p2 >>> ((8 : Int32) &&& 31)) % c (tw_ms p2 % n))) (tw_rm _ (by omega) (by omega)) ⟨nI_ne0 (by omega) (by omega), nm_r (e' := nI (tw_ms (p2 >>> ((16 : Int32) &&& 31)) % c (tw_ms p2 % n))) (tw_rm _ (by omega) (by omega)) ?_⟩⟩⟩
  have hx : tw_ms (p2 >>> ((8 : Int32) &&& 31)) % c (tw_ms p2 % n) < c (tw_ms p2 % n) := Nat.mod_lt _ (by omega)
  have hz : tw_ms (p2 >>> ((16 : Int32) &&& 31)) % c (tw_ms p2 % n) < c (tw_ms p2 % n) := Nat.mod_lt _ (by omega)
  have e91 : ∀ (y : Int32) (kd xx zz : Nat), kd ≤ 5 → xx < c (tw_ms p2 % n) → zz < c (tw_ms p2 % n) → wL_made_91 post y ((nI kd + 8 * nI xx) + 64 * nI zz) (nI (tw_ms p2 % n)) (nI n) (nI h) (nI R) wd a1 a2 a3 a4 a5 a6 a7 a8 a9 a10 a11 a12 a13 a14 := by
    intro y kd xx zz h1 h2 h3
    unfold wL_made_91
    rw [show (nI kd + 8 * nI xx) + 64 * nI zz = nI (kd + 8 * xx + 64 * zz) by rw [show (8 : Int32) = nI 8 from rfl, show (64 : Int32) = nI 64 from rfl, pk_mul, pk_mul, nI_add, nI_add]]
    exact tw_edit I hv h1 h2 h3 (Hm _ (by decide)) (Hm _ (by decide)) H1
  exact pk_eq (tw_ms p1 % 6) 3 (fun _ => ⟨by decide, e91 _ _ _ _ (by omega) hx hz⟩) (fun _ => ⟨by decide, e91 _ _ _ _ (by omega) hx hz⟩)
theorem tw_I_res (I : tw_I n h R p k x z c VV FF a1 a2 a3 a4 a5 a6 a7 a8 a9) (hn : 1 < n) (hh : h < n - 1) : tw_I (n - 1) h R p k x z c VV FF a1 a2 a3 a4 a5 a6 a7 a8 a9 := by
  obtain ⟨hT, hM, _, hR, hF, hO, hk⟩ := I
  exact ⟨⟨by omega, by have := hT.2.1; omega, hT.2.2.1, fun e e0 he => hT.2.2.2 e e0 (by omega)⟩, fun e he => hM e (by omega), hh, hR, fun r hr e e0 he => hF r hr e e0 (by omega), fun r hr => ⟨(hO r hr).1, fun e e0 he => (hO r hr).2 e e0 (by omega)⟩, hk⟩
theorem tw_retract {post : Int32 → St1 → Prop} (I : tw_I n h R p k x z c VV FF a1 a2 a3 a4 a5 a6 a7 a8 a9) (hn : 1 < n)
    (H : ∀ (h : Nat) (wd : Int32) (a8 a9 a11 a12 a13 : Nat → Int32), tw_I (n - 1) h R p k x z c VV FF a1 a2 a3 a4 a5 a6 a7 a8 a9 → post (nI (n - 1)) (nI (n - 1), nI h, nI R, wd, a1, a2, a3, a4, a5, a6, a7, a8, a9, a10, a11, a12, a13, a14)) : wpX_retract post (nI n, nI h, nI R, wd, a1, a2, a3, a4, a5, a6, a7, a8, a9, a10, a11, a12, a13, a14) := by
  have hT := I.1
  have hn8 : n ≤ 8 := hT.2.1
  have hh := I.2.2.1
  unfold wpX_retract
  refine pk_eq n 1 (fun t => absurd t (by omega)) (fun _ => nm_r (e' := nI (n - 1)) (tw_sub1 (by omega)) (pk_eq h (n - 1) (fun g => ⟨pk_in (n - 1) 8 (by omega), ?_⟩) (fun g => ?_)))
  · rw [nI_clamp (by omega), (I.2.1 (n - 1) (by omega)).1]
    have hp := tw_T_p hT (show 0 < n - 1 by omega) (by omega)
    refine tw_move I (by omega) (fun wd a8 a9 a11 a12 a13 I' => ?_)
    exact nm_r (tw_sub1 (by omega)) (H _ wd a8 a9 a11 a12 a13 (tw_I_res I' hn (by omega)))
  · exact nm_r (tw_sub1 (by omega)) (H h wd a8 a9 a11 a12 a13 (tw_I_res I hn (by omega)))
theorem tw_draft {post : Int32 → St1 → Prop} {j : Nat} {val : Int32} (hj : j < 5) (H : post 1 (vc, hm, rc, wd, a1, a2, a3, a4, a5, a6, a7, a8, a9, upd a10 j val, a11, a12, a13, a14)) : wpX_draft post (vc, hm, rc, wd, a1, a2, a3, a4, a5, a6, a7, a8, a9, a10, a11, a12, a13, a14) (nI j) val :=
  pk_lt j 0 (fun t => absurd t (by omega)) (fun _ => pk_lt j 5 (fun _ => ⟨pk_in j 5 hj, nm_r (e' := upd a10 j val) (by rw [nI_clamp (by omega)]) H⟩) (fun t => absurd t (by omega)))
end
end
section
def tw_sw (i j s : Nat) : Nat := if s = i then j else if s = j then i else s
theorem tw_sw_i {i j : Nat} : tw_sw i j i = j := if_pos rfl
theorem tw_sw_j {i j : Nat} (h : i ≠ j) : tw_sw i j j = i := by
  unfold tw_sw
  rw [if_neg (fun t => h t.symm), if_pos rfl]
theorem tw_sw_o {i j s : Nat} (h1 : s ≠ i) (h2 : s ≠ j) : tw_sw i j s = s := by
  unfold tw_sw
  rw [if_neg h1, if_neg h2]
theorem tw_sw_lt {i j s R : Nat} (hi : i < R) (hj : j < R) (hs : s < R) : tw_sw i j s < R := by
  by_cases h1 : s = i
  · rw [h1, tw_sw_i]; exact hj
  · by_cases h2 : s = j
    · rw [h2, tw_sw_j (by omega)]; exact hi
    · rw [tw_sw_o h1 h2]; exact hs
/-- a step of the exchange of two rows of w places -/
theorem tw_sw_step {w i j t : Nat} {a s : Nat → Int32} (hij : i ≠ j) (ht : t < w) (g : ∀ q e, e < w → (e < t → s (w * q + e) = a (w * tw_sw i j q + e)) ∧ (t ≤ e → s (w * q + e) = a (w * q + e)))
    (hd : ∀ q e q' e', e < w → e' < w → w * q + e = w * q' + e' → q = q' ∧ e = e') :
    ∀ q e, e < w → (e < t + 1 → upd (upd s (w * i + t) (a (w * j + t))) (w * j + t) (a (w * i + t)) (w * q + e) = a (w * tw_sw i j q + e)) ∧ (t + 1 ≤ e → upd (upd s (w * i + t) (a (w * j + t))) (w * j + t) (a (w * i + t)) (w * q + e) = a (w * q + e)) := by
  intro q e he
  by_cases h1 : e = t
  · refine ⟨fun _ => ?_, fun h => absurd h (by omega)⟩
    by_cases h2 : q = j
    · rw [h1, h2, pk_us, tw_sw_j hij]
    · rw [pk_un (fun z => h2 (hd q e j t he ht z).1)]
      by_cases h3 : q = i
      · rw [h1, h3, pk_us, tw_sw_i]
      · rw [pk_un (fun z => h3 (hd q e i t he ht z).1), (g q e he).2 (by omega), tw_sw_o h3 h2]
  · rw [pk_un (fun z => h1 (hd q e j t he ht z).2), pk_un (fun z => h1 (hd q e i t he ht z).2)]
    exact ⟨fun h => (g q e he).1 (by omega), fun h => (g q e he).2 (by omega)⟩
/-- row i is the one with the key; it is shown at v with the values d -/
def tw_Q (n R v : Nat) (p k x c : Nat → Nat) (a5 : Nat → Int32) (VV : Nat → Nat → Nat → Int32) (a7 : Nat → Int32) (key : Int32) (d : Nat → Int32) (i : Nat) : Prop :=
  i < R ∧ a7 i = key ∧ (∀ r, r < R → r ≠ i → a7 r ≠ key) ∧ (∀ j, j < c v → VV i v j = d j) ∧ tw_Sh n p k x a5 (VV i) v
section
variable {vc hm rc wd : Int32} {a1 a2 a3 a4 a5 a6 a7 a8 a9 a10 a11 a12 a13 a14 : Nat → Int32} {n h R : Nat} {p k x z c : Nat → Nat} {VV : Nat → Nat → Nat → Int32} {FF : Nat → Nat → Int32}
theorem tw_xr92 {post : St1 → Prop} {i j : Nat} (hi : i < 12) (hj : j < 12) (hij : i ≠ j) (H : ∀ (b9 : Nat → Int32), (∀ s e, e < 8 → b9 (8 * s + e) = a9 (8 * tw_sw i j s + e)) → post (vc, hm, rc, wd, a1, a2, a3, a4, a5, a6, a7, a8, b9, a10, a11, a12, a13, a14)) : ∃ fu, wX_exchangeRows_92 post (nI i) (nI j) vc hm rc wd fu 0 a1 a2 a3 a4 a5 a6 a7 a8 a9 a10 a11 a12 a13 a14 :=
  pk_loop (fun fu t s => wX_exchangeRows_92 post (nI i) (nI j) vc hm rc wd fu (nI t) a1 a2 a3 a4 a5 a6 a7 a8 s a10 a11 a12 a13 a14) (fun t s => ∀ q e, e < 8 → (e < t → s (8 * q + e) = a9 (8 * tw_sw i j q + e)) ∧ (t ≤ e → s (8 * q + e) = a9 (8 * q + e))) 8 0 a9 (by omega) (fun q e _ => ⟨fun t => absurd t (by omega), fun _ => rfl⟩)
    (fun fu s g => pk_le 8 8 (fun _ => H s (fun q e he => (g q e he).1 he)) (fun t => absurd t (by omega)))
    (fun fu t s ht g hw => pk_le 8 t (fun t => absurd t (by omega)) (fun _ => ⟨pk_in (8 * i + t) 96 (by omega) (tw_ix8 i t), nm_r (e' := a9 (8 * i + t)) (by rw [tw_ix8, nI_clamp (by omega)]; exact (g i t ht).2 (Nat.le_refl _)) ⟨pk_in (8 * j + t) 96 (by omega) (tw_ix8 j t), pk_in (8 * i + t) 96 (by omega) (tw_ix8 i t), nm_r (e' := upd s (8 * i + t) (a9 (8 * j + t))) (by rw [tw_ix8, tw_ix8, nI_clamp (by omega), nI_clamp (by omega), (g j t ht).2 (Nat.le_refl _)]) ⟨pk_in (8 * j + t) 96 (by omega) (tw_ix8 j t), nm_r (e' := upd (upd s (8 * i + t) (a9 (8 * j + t))) (8 * j + t) (a9 (8 * i + t))) (by rw [tw_ix8, nI_clamp (by omega)]) (nm_r (nI_1 t) (hw _ (tw_sw_step hij ht g (fun q e q' e' _ _ z => ⟨by omega, by omega⟩))))⟩⟩⟩))
theorem tw_xr29 {post : St1 → Prop} {i j : Nat} (hi : i < 12) (hj : j < 12) (hij : i ≠ j) (H : ∀ (b8 b9 : Nat → Int32), (∀ s e, e < 5 → b8 (5 * s + e) = a8 (5 * tw_sw i j s + e)) → (∀ s e, e < 8 → b9 (8 * s + e) = a9 (8 * tw_sw i j s + e)) → post (vc, hm, rc, wd, a1, a2, a3, a4, a5, a6, a7, b8, b9, a10, a11, a12, a13, a14)) : ∃ fu, wX_exchangeRows_29 post (nI i) (nI j) vc hm rc wd fu 0 a1 a2 a3 a4 a5 a6 a7 a8 a9 a10 a11 a12 a13 a14 :=
  pk_loop (fun fu t s => wX_exchangeRows_29 post (nI i) (nI j) vc hm rc wd fu (nI t) a1 a2 a3 a4 a5 a6 a7 s a9 a10 a11 a12 a13 a14) (fun t s => ∀ q e, e < 5 → (e < t → s (5 * q + e) = a8 (5 * tw_sw i j q + e)) ∧ (t ≤ e → s (5 * q + e) = a8 (5 * q + e))) 5 0 a8 (by omega) (fun q e _ => ⟨fun t => absurd t (by omega), fun _ => rfl⟩)
    (fun fu s g => pk_le 5 5 (fun _ => tw_xr92 hi hj hij (fun b9 hb => H s b9 (fun q e he => (g q e he).1 he) hb)) (fun t => absurd t (by omega)))
    (fun fu t s ht g hw => pk_le 5 t (fun t => absurd t (by omega)) (fun _ => ⟨pk_in (5 * i + t) 60 (by omega) (tw_ix5 i t), nm_r (e' := a8 (5 * i + t)) (by rw [tw_ix5, nI_clamp (by omega)]; exact (g i t ht).2 (Nat.le_refl _)) ⟨pk_in (5 * j + t) 60 (by omega) (tw_ix5 j t), pk_in (5 * i + t) 60 (by omega) (tw_ix5 i t), nm_r (e' := upd s (5 * i + t) (a8 (5 * j + t))) (by rw [tw_ix5, tw_ix5, nI_clamp (by omega), nI_clamp (by omega), (g j t ht).2 (Nat.le_refl _)]) ⟨pk_in (5 * j + t) 60 (by omega) (tw_ix5 j t), nm_r (e' := upd (upd s (5 * i + t) (a8 (5 * j + t))) (5 * j + t) (a8 (5 * i + t))) (by rw [tw_ix5, nI_clamp (by omega)]) (nm_r (nI_1 t) (hw _ (tw_sw_step hij ht g (fun q e q' e' _ _ z => ⟨by omega, by omega⟩))))⟩⟩⟩))
theorem tw_xrows {post : St1 → Prop} {i j : Nat} (I : tw_I n h R p k x z c VV FF a1 a2 a3 a4 a5 a6 a7 a8 a9) (hi : i < R) (hj : j < R) (hij : i ≠ j)
    (H : ∀ (b7 b8 b9 : Nat → Int32), tw_I n h R p k x z c (fun r => VV (tw_sw i j r)) (fun r => FF (tw_sw i j r)) a1 a2 a3 a4 a5 a6 b7 b8 b9 → (∀ s, b7 s = a7 (tw_sw i j s)) → post (vc, hm, rc, wd, a1, a2, a3, a4, a5, a6, b7, b8, b9, a10, a11, a12, a13, a14)) : wpX_exchangeRows post (vc, hm, rc, wd, a1, a2, a3, a4, a5, a6, a7, a8, a9, a10, a11, a12, a13, a14) (nI i) (nI j) := by
  obtain ⟨hT, hM, hh, hR, hF, hO, hk⟩ := I
  have hch := tw_T_c hT hh
  obtain ⟨ti, ki, ei⟩ := hk i (by omega)
  obtain ⟨tj, kj, ej⟩ := hk j (by omega)
  refine And.intro (pk_in i 12 (by omega)) (nm_r (e' := nI ti) (by rw [nI_clamp (by omega)]; exact ei) ⟨pk_in j 12 (by omega), pk_in i 12 (by omega), nm_r (e' := upd a7 i (nI tj)) (by rw [nI_clamp (by omega), nI_clamp (by omega), ej, tw_nar (by omega)]) ⟨pk_in j 12 (by omega), nm_r (e' := upd (upd a7 i (nI tj)) j (nI ti)) (by rw [nI_clamp (by omega), tw_nar (by omega)]) ?_⟩⟩)
  have hs : ∀ s, upd (upd a7 i (nI tj)) j (nI ti) s = a7 (tw_sw i j s) := by
    intro s
    by_cases h1 : s = j
    · rw [h1, pk_us, tw_sw_j hij, ei]
    · rw [pk_un h1]
      by_cases h2 : s = i
      · rw [h2, pk_us, tw_sw_i, ej]
      · rw [pk_un h2, tw_sw_o h2 h1]
  refine tw_xr29 (by omega) (by omega) hij (fun b8 b9 h8 h9 => H _ b8 b9 ⟨hT, hM, hh, hR, fun r hr => hF _ (tw_sw_lt hi hj hr), fun r hr => ?_, fun r hr => ?_⟩ hs)
  · have o := hO _ (tw_sw_lt hi hj hr)
    exact ⟨fun j' hj' => by rw [h8 r j' (by omega)]; exact o.1 j' hj', fun e e0 he hf => by rw [h9 r e (by have := hT.2.1; omega)]; exact o.2 e e0 he hf⟩
  · rw [hs r]
    exact hk _ (tw_sw_lt (by omega) (by omega) hr)
theorem tw_sort7 {post : St1 → Prop} {v : Nat} {key : Int32} {d : Nat → Int32}
    (H : ∀ (i : Nat) (VV : Nat → Nat → Nat → Int32) (FF : Nat → Nat → Int32) (a7 a8 a9 : Nat → Int32), tw_I n h R p k x z c VV FF a1 a2 a3 a4 a5 a6 a7 a8 a9 → tw_Q n R v p k x c a5 VV a7 key d i → post (vc, hm, nI R, wd, a1, a2, a3, a4, a5, a6, a7, a8, a9, a10, a11, a12, a13, a14)) :
    ∀ (fu i : Nat) (VV : Nat → Nat → Nat → Int32) (FF : Nat → Nat → Int32) (a7 a8 a9 : Nat → Int32), i < fu → tw_I n h R p k x z c VV FF a1 a2 a3 a4 a5 a6 a7 a8 a9 → tw_Q n R v p k x c a5 VV a7 key d i → wX_sortLast_7 post fu (nI i) vc hm (nI R) wd a1 a2 a3 a4 a5 a6 a7 a8 a9 a10 a11 a12 a13 a14 := by
  intro fu
  induction fu with
  | zero => intro i _ _ _ _ _ g; exact absurd g (by omega)
  | succ fu ih =>
    intro i VV FF a7 a8 a9 hf I q
    have hR := I.2.2.2.1
    have hi := q.1
    refine pk_le i 0 (fun _ => H i VV FF a7 a8 a9 I q) (fun h0 => ⟨pk_in i 12 (by omega), pk_in (i - 1) 12 (by omega) (tw_sub1 h0), br_c (fun _ => H i VV FF a7 a8 a9 I q) (fun _ => ?_)⟩)
    rw [tw_sub1 h0]
    refine tw_xrows I hi (by omega) (by omega) (fun b7 b8 b9 I' hb => nm_r (e' := nI (i - 1)) (sb_m1 h0) (ih (i - 1) _ _ b7 b8 b9 (by omega) I' ?_))
    have hs : tw_sw i (i - 1) (i - 1) = i := tw_sw_j (by omega)
    obtain ⟨q1, q2, q3, q4, q5⟩ := q
    refine ⟨by omega, by rw [hb, hs]; exact q2, fun r hr hne => ?_, ?_, ?_⟩
    · rw [hb]
      refine q3 _ (tw_sw_lt hi (by omega) hr) (fun e => ?_)
      by_cases g : r = i
      · rw [g, tw_sw_i] at e; omega
      · rw [tw_sw_o g hne] at e; exact g e
    · dsimp only
      rw [hs]; exact q4
    · dsimp only
      rw [hs]; exact q5
theorem tw_sortLast {post : St1 → Prop} {v : Nat} {key : Int32} {d : Nat → Int32} (I : tw_I n h (R + 1) p k x z c VV FF a1 a2 a3 a4 a5 a6 a7 a8 a9) (q : tw_Q n (R + 1) v p k x c a5 VV a7 key d R)
    (H : ∀ (i : Nat) (VV : Nat → Nat → Nat → Int32) (FF : Nat → Nat → Int32) (a7 a8 a9 : Nat → Int32), tw_I n h (R + 1) p k x z c VV FF a1 a2 a3 a4 a5 a6 a7 a8 a9 → tw_Q n (R + 1) v p k x c a5 VV a7 key d i → post (vc, hm, nI (R + 1), wd, a1, a2, a3, a4, a5, a6, a7, a8, a9, a10, a11, a12, a13, a14)) : wpX_sortLast post (vc, hm, nI (R + 1), wd, a1, a2, a3, a4, a5, a6, a7, a8, a9, a10, a11, a12, a13, a14) :=
  nm_r (e' := nI R) (nI_pred R) ⟨R + 1, tw_sort7 H (R + 1) R VV FF a7 a8 a9 (by omega) I q⟩
theorem tw_ins110 {post : Int32 → St1 → Prop} {v t : Nat} (I : tw_I n h R p k x z c VV FF a1 a2 a3 a4 a5 a6 a7 a8 a9) (hv : v < n) (ht : t < 100) (hR12 : R < 12) (hf : tw_fi a7 (nI t) R 0 = none)
    (h9 : ∀ e, e < 8 → a9 (8 * R + e) = a5 e) (h12 : ∀ e, e < 8 → a12 e = a5 e)
    (H0 : ∀ (res : Int32) wd a11 a12 a14, res ≤ 0 → post res (nI n, nI h, nI R, wd, a1, a2, a3, a4, a5, a6, a7, a8, a9, a10, a11, a12, a13, a14))
    (H1 : ∀ (i : Nat) (VV : Nat → Nat → Nat → Int32) (FF : Nat → Nat → Int32) (wd : Int32) (a7 a8 a9 a11 a12 a13 a14 : Nat → Int32), tw_I n h (R + 1) p k x z c VV FF a1 a2 a3 a4 a5 a6 a7 a8 a9 → tw_Q n (R + 1) v p k x c a5 VV a7 (nI t) a10 i → post (nI (R + 1)) (nI n, nI h, nI (R + 1), wd, a1, a2, a3, a4, a5, a6, a7, a8, a9, a10, a11, a12, a13, a14)) :
    ∃ fu, wX_insert_110 post (nI v) (nI t) (nI R) (nI n) (nI h) (nI R) (nI (c v)) fu 0 a1 a2 a3 a4 a5 a6 a7 a8 a9 a10 a11 a12 a13 a14 := by
  obtain ⟨hT, hM, hh, hR, hF, hO, hk⟩ := I
  have hn8 : n ≤ 8 := hT.2.1
  have hch := tw_T_c hT hh
  have hcv := tw_T_c hT hv
  obtain ⟨V, F, gF, gfr, gV⟩ := tw_fam hT a5 a5 hv a10
  refine pk_loop (fun fu i s => wX_insert_110 post (nI v) (nI t) (nI R) (nI n) (nI h) (nI R) (nI (c v)) fu (nI i) a1 a2 a3 a4 a5 a6 a7 a8 a9 a10 s a12 a13 a14) (fun i s => ∀ j, j < i → s j = a10 j) 5 0 a11 (by omega) (fun j hj => absurd hj (by omega))
    (fun fu s g => pk_le 5 5 (fun _ => ?_) (fun t => absurd t (by omega)))
    (fun fu i s hi g hw => pk_le 5 i (fun t => absurd t (by omega)) (fun _ => ⟨pk_in i 5 hi, pk_in i 5 hi, nm_r (e' := upd s i (a10 i)) (by rw [nI_clamp (by omega)]) (nm_r (nI_1 i) (hw _ (tw_fill g rfl)))⟩))
  have sV : ∀ j, j < c v → s j = V v j := fun j hj => by rw [g j (by omega), gV]
  refine tw_isShown (V := V) (F := F) hT hM gF hR12 hh hv sV (fun e e0 he hk1 hb => ?_) (fun b14 => ?_)
  · have q := gfr e e0 he (Or.inr ⟨hk1, hb⟩)
    exact ⟨fun _ => by rw [q]; exact h9 e (by omega), fun _ => by rw [q]; exact h12 e (by omega)⟩
  · rcases Classical.em (tw_Sh n p k x a5 V v) with w | w
    · rw [tw_b_t w]
      refine br_f (by decide) ?_
      refine tw_carry (m := 1) (V := V) (F := F) hT hM gF (by omega) hR12 hv hh sV (fun e e0 he _ hfr => ?_) (fun c9 c11 c12 c13 q1 q2 => ?_)
      · rw [gfr e e0 he hfr]
        exact h12 e (by omega)
      · obtain ⟨e12, q9⟩ := q2.2 (by omega)
        refine tw_store hR12 (fun d8 s1 s2 => ⟨pk_in R 12 hR12, nm_r (e' := upd a7 R (nI t)) (by rw [nI_clamp (by omega), tw_by t (by omega)]) (nm_r (nI_1 R) ?_)⟩)
        refine tw_sortLast (h := h) (VV := tw_se R V VV) (FF := tw_se R F FF) (v := v) (key := nI t) (d := a10) ⟨hT, hM, hh, by omega, fun r hr => ?_, fun r hr => ?_, fun r hr => ?_⟩ ⟨by omega, pk_us, fun r hr hne => ?_, ?_, ?_⟩ (fun i VV' FF' b7 b8 b9 I' Q' => H1 i VV' FF' _ b7 b8 b9 c11 c12 c13 b14 I' Q')
        · by_cases e : r = R
          · rw [e, tw_se_s, tw_se_s]; exact gF
          · rw [tw_se_n e, tw_se_n e]; exact hF r (by omega)
        · by_cases e : r = R
          · rw [e, tw_se_s, tw_se_s]
            refine ⟨fun j hj => by rw [s1 j (by omega)]; exact q1 j hj, fun e e0 he hfr => ?_⟩
            by_cases u : tw_W n p k v h e
            · exact (q9 R e (by omega)).1 ⟨rfl, u⟩
            · rw [(q9 R e (by omega)).2 (fun t => u t.2), h9 e (by omega)]
              have hB : tw_B p v e ↔ tw_B p h e := Classical.byContradiction (fun t => u ⟨e0, he, t, hfr⟩)
              refine (gfr e e0 he ?_).symm
              rcases hfr with s | s
              · exact Or.inl ⟨s.1, fun t => s.2 (hB.mp t)⟩
              · exact Or.inr ⟨s.1, hB.mpr s.2⟩
          · rw [tw_se_n e, tw_se_n e]
            have o := hO r (by omega)
            refine ⟨fun j hj => by rw [s2 r j (by omega) e]; exact o.1 j hj, fun e' e0 he hfr => ?_⟩
            rw [(q9 r e' (by omega)).2 (fun t => e t.1)]
            exact o.2 e' e0 he hfr
        · by_cases e : r = R
          · rw [e, pk_us]; exact ⟨t, ht, rfl⟩
          · rw [pk_un e]; exact hk r hr
        · rw [pk_un hne]
          exact tw_fi_none R 0 hf r (by omega) (by omega)
        · intro j hj
          rw [tw_se_s, gV]
        · rw [tw_se_s]; exact w
    · rw [tw_b_f w]
      exact br_t rfl (H0 (-4) _ s a12 b14 (by decide))
theorem tw_insert {post : Int32 → St1 → Prop} {v t : Nat} (I : tw_I n h R p k x z c VV FF a1 a2 a3 a4 a5 a6 a7 a8 a9) (hv : v < n) (ht : t < 100)
    (H0 : ∀ (res : Int32) wd a9 a11 a12 a14, tw_I n h R p k x z c VV FF a1 a2 a3 a4 a5 a6 a7 a8 a9 → res ≤ 0 → post res (nI n, nI h, nI R, wd, a1, a2, a3, a4, a5, a6, a7, a8, a9, a10, a11, a12, a13, a14))
    (H1 : ∀ (i : Nat) (VV : Nat → Nat → Nat → Int32) (FF : Nat → Nat → Int32) (wd : Int32) (a7 a8 a9 a11 a12 a13 a14 : Nat → Int32), tw_I n h (R + 1) p k x z c VV FF a1 a2 a3 a4 a5 a6 a7 a8 a9 → tw_Q n (R + 1) v p k x c a5 VV a7 (nI t) a10 i → post (nI (R + 1)) (nI n, nI h, nI (R + 1), wd, a1, a2, a3, a4, a5, a6, a7, a8, a9, a10, a11, a12, a13, a14)) :
    wpX_insert post (nI n, nI h, nI R, wd, a1, a2, a3, a4, a5, a6, a7, a8, a9, a10, a11, a12, a13, a14) (nI v) (nI t) := by
  have hT := I.1
  have hM := I.2.1
  have hn8 : n ≤ 8 := hT.2.1
  have hR := I.2.2.2.1
  have h6 := (hM v hv).2.2.2.2
  unfold wpX_insert
  refine tw_isV hv hn8 (br_f (by decide) (br_f (nI_pos (by omega)) (pk_le t 99 (fun _ => tw_find hR (fun hf => br_t (by decide) (pk_lt R 12 (fun hR12 => ?_) (fun _ => H0 (-2) wd a9 a11 a12 a14 I (by decide)))) (fun r hr hf => br_f (nI_pos (by omega)) (H0 (-3) wd a9 a11 a12 a14 I (by decide)))) (fun g => absurd g (by omega)))))
  refine pk_loop (fun fu i s => wX_insert_51 post (nI v) (nI t) (nI R) (nI n) (nI h) (nI R) wd fu (nI i) a1 a2 a3 a4 a5 a6 a7 a8 s.1 a10 a11 s.2 a13 a14) (fun i s => (∀ q e, e < 8 → ((q = R ∧ e < i) → s.1 (8 * q + e) = a5 e) ∧ (¬ (q = R ∧ e < i) → s.1 (8 * q + e) = a9 (8 * q + e))) ∧ (∀ e, e < i → s.2 e = a5 e)) 8 0 (a9, a12) (by omega) ⟨fun q e _ => ⟨fun t => absurd t.2 (by omega), fun _ => rfl⟩, fun e he => absurd he (by omega)⟩
    (fun fu s g => pk_le 8 8 (fun _ => ⟨pk_in v 8 (by omega), nm_r (e' := nI (c v)) (by rw [nI_clamp (by omega)]; exact h6) ?_⟩) (fun t => absurd t (by omega)))
    (fun fu i s hi g hw => pk_le 8 i (fun t => absurd t (by omega)) (fun _ => ⟨pk_in i 8 hi, pk_in (8 * R + i) 96 (by omega) (tw_ix8 R i), nm_r (e' := upd s.1 (8 * R + i) (a5 i)) (by rw [tw_ix8, nI_clamp (by omega), nI_clamp (by omega)]) ⟨pk_in i 8 hi, pk_in i 8 hi, nm_r (e' := upd s.2 i (a5 i)) (by rw [nI_clamp (by omega)]) (nm_r (nI_1 i) (hw (upd s.1 (8 * R + i) (a5 i), upd s.2 i (a5 i)) ⟨fun q e he => ?_, tw_fill g.2 rfl⟩))⟩⟩))
  · obtain ⟨b9, b12⟩ := s
    dsimp only at g
    have I' : tw_I n h R p k x z c VV FF a1 a2 a3 a4 a5 a6 a7 a8 b9 := by
      obtain ⟨hT, hM, hh, hR, hF, hO, hk⟩ := I
      refine ⟨hT, hM, hh, hR, hF, fun r hr => ⟨(hO r hr).1, fun e e0 he hfr => ?_⟩, hk⟩
      rw [(g.1 r e (by omega)).2 (fun t => absurd t.1 (by omega))]
      exact (hO r hr).2 e e0 he hfr
    exact tw_ins110 I' hv ht hR12 hf (fun e he => (g.1 R e he).1 ⟨rfl, he⟩) (fun e he => g.2 e he) (fun res wd a11 a12 a14 hres => H0 res wd b9 a11 a12 a14 I' hres) H1
  · have gg := g.1 q e he
    dsimp only
    by_cases w : q = R ∧ e = i
    · rw [w.1, w.2, pk_us]
      exact ⟨fun _ => rfl, fun t => absurd ⟨rfl, by omega⟩ t⟩
    · rw [pk_un (by omega)]
      exact ⟨fun t => gg.1 ⟨t.1, by omega⟩, fun t => gg.2 (fun t' => t ⟨t'.1, by omega⟩)⟩
theorem tw_update {post : Int32 → St1 → Prop} {v t j : Nat} {val : Int32} (I : tw_I n h R p k x z c VV FF a1 a2 a3 a4 a5 a6 a7 a8 a9) (hv : v < n) (ht : t < 100) (hj : j < 5)
    (H0 : ∀ (res : Int32) wd a11 a12 a13 a14, res ≠ 1 → post res (nI n, nI h, nI R, wd, a1, a2, a3, a4, a5, a6, a7, a8, a9, a10, a11, a12, a13, a14))
    (H1 : ∀ (r : Nat) (V : Nat → Nat → Int32) (F : Nat → Int32) (wd : Int32) (a8 a9 a11 a12 a13 a14 : Nat → Int32), j < c v → r < R → tw_fi a7 (nI t) R 0 = some r → tw_I n h R p k x z c (tw_se r V VV) (tw_se r F FF) a1 a2 a3 a4 a5 a6 a7 a8 a9 → V v j = val → tw_Sh n p k x a5 V v → post 1 (nI n, nI h, nI R, wd, a1, a2, a3, a4, a5, a6, a7, a8, a9, a10, a11, a12, a13, a14)) :
    wpX_update post (nI n, nI h, nI R, wd, a1, a2, a3, a4, a5, a6, a7, a8, a9, a10, a11, a12, a13, a14) (nI v) (nI t) (nI j) val := by
  obtain ⟨hT, hM, hh, hR, hF, hO, hk⟩ := I
  have hn8 : n ≤ 8 := hT.2.1
  have hch := tw_T_c hT hh
  have hcv := tw_T_c hT hv
  have h6 := (hM v hv).2.2.2.2
  unfold wpX_update
  refine tw_isV hv hn8 (br_f (by decide) (br_f (nI_pos (by omega)) (pk_lt 99 t (fun g => absurd g (by omega)) (fun _ => tw_isC (c := c) (by omega) (by omega) h6 (by omega) (fun hjc => br_f (by decide) (tw_find hR (fun hf => br_t (by decide) (H0 (-5) wd a11 a12 a13 a14 (by decide))) (fun r hr hf => br_f (nI_pos (by omega)) ?_))) (fun _ => br_t rfl (H0 (-1) wd a11 a12 a13 a14 (by decide)))))))
  have o := hO r hr
  refine tw_look (V := VV r) (F := FF r) hT hM (hF r hr) (by omega) hh hv o.1 o.2 (fun b11 b12 b13 b14 hb11 hb12 => ?_)
  rcases Classical.em (tw_Sh n p k x a5 (VV r) v) with w0 | w0
  · rw [tw_b_t w0]
    refine br_f (by decide) ⟨pk_in j 5 hj, nm_r (e' := upd b11 j val) (by rw [nI_clamp (by omega)]) ?_⟩
    obtain ⟨V, F, gF, gfr, gV⟩ := tw_fam hT a5 (FF r) hv (upd (VV r v) j val)
    have sV : ∀ i, i < c v → upd b11 j val i = V v i := by
      intro i hi
      rw [gV]
      by_cases e : i = j
      · rw [e, pk_us, pk_us]
      · rw [pk_un e, pk_un e]; exact hb11 i hi
    refine tw_isShown (V := V) (F := F) hT hM gF (by omega) hh hv sV (fun e e0 he hk1 hb => ?_) (fun c14 => ?_)
    · have q := gfr e e0 he (Or.inr ⟨hk1, hb⟩)
      exact ⟨fun s => by rw [q]; exact o.2 e e0 he (Or.inr ⟨hk1, s⟩), fun s => by rw [q]; exact hb12 e ⟨e0, he, fun u => s (u.mpr hb), Or.inr ⟨hk1, hb⟩⟩⟩
    · rcases Classical.em (tw_Sh n p k x a5 V v) with w | w
      · rw [tw_b_t w]
        refine br_f (by decide) ?_
        refine tw_carry (m := 1) (V := V) (F := F) hT hM gF (by omega) (by omega) hv hh sV (fun e e0 he hc hfr => ?_) (fun c9 c11 c12 c13 q1 q2 => ?_)
        · rw [gfr e e0 he hfr]
          exact hb12 e ⟨e0, he, fun u => hc u.symm, hfr⟩
        · obtain ⟨e12, q9⟩ := q2.2 (by omega)
          refine tw_store (by omega) (fun d8 s1 s2 => H1 r V F _ d8 c9 c11 c12 c13 c14 hjc hr hf ⟨hT, hM, hh, hR, fun r' hr' => ?_, fun r' hr' => ?_, hk⟩ (by rw [gV, pk_us]) w)
          · by_cases e : r' = r
            · rw [e, tw_se_s, tw_se_s]; exact gF
            · rw [tw_se_n e, tw_se_n e]; exact hF r' hr'
          · by_cases e : r' = r
            · rw [e, tw_se_s, tw_se_s]
              refine ⟨fun i hi => by rw [s1 i (by omega)]; exact q1 i hi, fun e e0 he hfr => ?_⟩
              by_cases u : tw_W n p k v h e
              · exact (q9 r e (by omega)).1 ⟨rfl, u⟩
              · rw [(q9 r e (by omega)).2 (fun t => u t.2), o.2 e e0 he hfr]
                have hB : tw_B p v e ↔ tw_B p h e := Classical.byContradiction (fun t => u ⟨e0, he, t, hfr⟩)
                refine (gfr e e0 he ?_).symm
                rcases hfr with s | s
                · exact Or.inl ⟨s.1, fun t => s.2 (hB.mp t)⟩
                · exact Or.inr ⟨s.1, hB.mpr s.2⟩
            · rw [tw_se_n e, tw_se_n e]
              have o' := hO r' hr'
              refine ⟨fun i hi => by rw [s2 r' i (by omega) e]; exact o'.1 i hi, fun e' e0 he hfr => ?_⟩
              rw [(q9 r' e' (by omega)).2 (fun t => e t.1)]
              exact o'.2 e' e0 he hfr
      · rw [tw_b_f w]
        exact br_t rfl (H0 (-4) _ _ b12 b13 c14 (by decide))
  · rw [tw_b_f w0]
    exact br_t rfl (H0 (-5) _ b11 b12 b13 b14 (by decide))
theorem tw_del45 {post : Int32 → St1 → Prop}
    (H : ∀ (VV : Nat → Nat → Nat → Int32) (FF : Nat → Nat → Int32) (a7 a8 a9 : Nat → Int32), tw_I n h (R - 1) p k x z c VV FF a1 a2 a3 a4 a5 a6 a7 a8 a9 → post (nI (R - 1)) (vc, hm, nI (R - 1), wd, a1, a2, a3, a4, a5, a6, a7, a8, a9, a10, a11, a12, a13, a14)) :
    ∀ (fu i : Nat) (VV : Nat → Nat → Nat → Int32) (FF : Nat → Nat → Int32) (a7 a8 a9 : Nat → Int32), i < R → R - i < fu → tw_I n h R p k x z c VV FF a1 a2 a3 a4 a5 a6 a7 a8 a9 → wX_delete_45 post fu (nI i) vc hm (nI R) wd a1 a2 a3 a4 a5 a6 a7 a8 a9 a10 a11 a12 a13 a14 := by
  intro fu
  induction fu with
  | zero => intro i _ _ _ _ _ _ g; exact absurd g (by omega)
  | succ fu ih =>
    intro i VV FF a7 a8 a9 hi hf I
    have hR := I.2.2.2.1
    refine pk_le (R - 1) i (fun _ => nm_r (e' := nI (R - 1)) (tw_sub1 (by omega)) (H VV FF a7 a8 a9 ?_)) (fun hlt => ?_) (tw_sub1 (by omega))
    · obtain ⟨hT, hM, hh, hR, hF, hO, hk⟩ := I
      exact ⟨hT, hM, hh, by omega, fun r hr => hF r (by omega), fun r hr => hO r (by omega), hk⟩
    · rw [nI_1]
      exact tw_xrows I hi (by omega) (by omega) (fun b7 b8 b9 I' _ => nm_e (ih (i + 1) _ _ b7 b8 b9 (by omega) (by omega) I'))
theorem tw_delete {post : Int32 → St1 → Prop} {v t : Nat} (I : tw_I n h R p k x z c VV FF a1 a2 a3 a4 a5 a6 a7 a8 a9) (hv : v < n) (ht : t < 100)
    (H : ∀ (res : Int32) R VV FF wd a7 a8 a9 a11 a12 a13 a14, tw_I n h R p k x z c VV FF a1 a2 a3 a4 a5 a6 a7 a8 a9 → post res (nI n, nI h, nI R, wd, a1, a2, a3, a4, a5, a6, a7, a8, a9, a10, a11, a12, a13, a14)) :
    wpX_delete post (nI n, nI h, nI R, wd, a1, a2, a3, a4, a5, a6, a7, a8, a9, a10, a11, a12, a13, a14) (nI v) (nI t) := by
  have hT := I.1
  have hn8 : n ≤ 8 := hT.2.1
  have hR := I.2.2.2.1
  unfold wpX_delete
  refine tw_isV hv hn8 (br_f (by decide) (br_f (nI_pos (by omega)) (pk_le t 99 (fun _ => tw_find hR (fun hf => br_t (by decide) (H (-5) R VV FF wd a7 a8 a9 a11 a12 a13 a14 I)) (fun r hr hf => br_f (nI_pos (by omega)) ?_)) (fun g => absurd g (by omega)))))
  refine tw_I_LK I r v hr hv _ wd a11 a12 a13 a14 (fun wd a11 a12 a13 a14 _ => ?_)
  rcases Classical.em (tw_Sh n p k x a5 (VV r) v) with w | w
  · rw [tw_b_t w]
    exact br_f (by decide) ⟨R + 1, tw_del45 (fun VV FF a7 a8 a9 I' => H _ (R - 1) VV FF wd a7 a8 a9 a11 a12 a13 a14 I') (R + 1) r VV FF a7 a8 a9 hr (by omega) I⟩
  · rw [tw_b_f w]
    exact br_t rfl (H (-5) R VV FF wd a7 a8 a9 a11 a12 a13 a14 I)
end
end
section
/-! bits (rows of the kit's laws/BITS.to-paste, renamed) -/
def tw_bt (x : Int32) (i : Nat) : Bool := x.toBitVec.getLsbD i
theorem tw_bt_ext {x y : Int32} (h : ∀ i, i < 32 → tw_bt x i = tw_bt y i) : x = y := Int32.toBitVec_inj.mp (BitVec.eq_of_getLsbD_eq (fun i hi => h i hi))
theorem tw_bt_or (x y : Int32) (i : Nat) : tw_bt (x ||| y) i = (tw_bt x i || tw_bt y i) := by unfold tw_bt; rw [Int32.toBitVec_or, BitVec.getLsbD_or]
theorem tw_bt_and (x y : Int32) (i : Nat) : tw_bt (x &&& y) i = (tw_bt x i && tw_bt y i) := by unfold tw_bt; rw [Int32.toBitVec_and, BitVec.getLsbD_and]
theorem tw_bt_xor (x y : Int32) (i : Nat) : tw_bt (x ^^^ y) i = (tw_bt x i ^^ tw_bt y i) := by unfold tw_bt; rw [Int32.toBitVec_xor, BitVec.getLsbD_xor]
theorem tw_bt_m1 : ∀ i, i < 32 → tw_bt (-1) i = true := by decide +kernel
theorem tw_bt_7 : ∀ i, i < 32 → tw_bt 7 i = decide (i < 3) := by decide +kernel
theorem tw_bt_v : ∀ v, v < 8 → ∀ i, i < 32 → 3 ≤ i → tw_bt (nI v) i = false := by decide +kernel
theorem tw_bt_s : ∀ n, n < 32 → ((nI n &&& 31).toBitVec.smod 32).toNat = n := by decide +kernel
theorem tw_bt_shl (n : Nat) (hn : n < 32) (x : Int32) {i : Nat} (hi : i < 32) : tw_bt (x <<< (nI n &&& 31)) i = (decide (n ≤ i) && tw_bt x (i - n)) := by
  unfold tw_bt
  rw [Int32.toBitVec_shiftLeft]
  show (x.toBitVec <<< ((nI n &&& 31).toBitVec.smod 32).toNat).getLsbD i = _
  rw [tw_bt_s n hn, BitVec.getLsbD_shiftLeft]
  rcases Nat.lt_or_ge i n with h | h
  · simp [h, Nat.not_le.mpr h]
  · simp [hi, h, Nat.not_lt.mpr h]
theorem tw_bt_shr (n : Nat) (hn : n < 32) (x : Int32) {i : Nat} (hi : i < 32) : tw_bt (x >>> (nI n &&& 31)) i = if n + i < 32 then tw_bt x (n + i) else tw_bt x 31 := by
  unfold tw_bt
  rw [Int32.toBitVec_shiftRight]
  show (x.toBitVec.sshiftRight ((nI n &&& 31).toBitVec.smod 32).toNat).getLsbD i = _
  rw [tw_bt_s n hn, BitVec.getLsbD_sshiftRight, BitVec.msb_eq_getLsbD_last]
  simp [hi]
theorem tw_3 (u : Nat) : (3 : Int32) * nI u = nI (3 * u) := by rw [show (3 : Int32) = nI 3 from rfl, pk_mul]
theorem tw_fld (x : Int32) {u i : Nat} (hu : u < 8) (hi : i < 32) : tw_bt ((x >>> (((3 : Int32) * nI u) &&& 31)) &&& 7) i = (decide (i < 3) && tw_bt x (3 * u + i)) := by
  rw [tw_3, tw_bt_and, tw_bt_shr (3 * u) (by omega) x hi, tw_bt_7 i hi]
  rcases Nat.lt_or_ge i 3 with h | h
  · rw [if_pos (by omega), decide_eq_true h, Bool.and_true, Bool.true_and]
  · rw [decide_eq_false (by omega), Bool.and_false, Bool.false_and]
def tw_put (x3 : Int32) (n v : Nat) : Int32 := (x3 &&& (((7 : Int32) <<< (((3 : Int32) * nI n) &&& 31)) ^^^ (-1))) ||| (nI v <<< (((3 : Int32) * nI n) &&& 31))
theorem tw_put_b (x3 : Int32) {n v j : Nat} (hn : n < 8) (hj : j < 32) : tw_bt (tw_put x3 n v) j = ((tw_bt x3 j && ((decide (3 * n ≤ j) && tw_bt 7 (j - 3 * n)) ^^ true)) || (decide (3 * n ≤ j) && tw_bt (nI v) (j - 3 * n))) := by
  unfold tw_put
  rw [tw_3, tw_bt_or, tw_bt_and, tw_bt_xor, tw_bt_shl (3 * n) (by omega) _ hj, tw_bt_shl (3 * n) (by omega) _ hj, tw_bt_m1 j hj]
theorem tw_put_s (x3 : Int32) {n v : Nat} (hn : n < 8) (hv : v < 8) : ((tw_put x3 n v) >>> (((3 : Int32) * nI n) &&& 31)) &&& 7 = nI v := by
  refine tw_bt_ext (fun i hi => ?_)
  rw [tw_fld _ hn hi]
  rcases Nat.lt_or_ge i 3 with h | h
  · rw [tw_put_b x3 hn (by omega), decide_eq_true h, decide_eq_true (show 3 * n ≤ 3 * n + i by omega), show 3 * n + i - 3 * n = i by omega, tw_bt_7 i hi, decide_eq_true h]
    cases tw_bt x3 (3 * n + i) <;> cases tw_bt (nI v) i <;> rfl
  · rw [decide_eq_false (by omega), tw_bt_v v hv i hi h]
    rfl
theorem tw_put_o (x3 : Int32) {n v u : Nat} (hn : n < 8) (hu : u < n) : ((tw_put x3 n v) >>> (((3 : Int32) * nI u) &&& 31)) &&& 7 = (x3 >>> (((3 : Int32) * nI u) &&& 31)) &&& 7 := by
  refine tw_bt_ext (fun i hi => ?_)
  rw [tw_fld _ (by omega) hi, tw_fld _ (by omega) hi]
  rcases Nat.lt_or_ge i 3 with h | h
  · rw [tw_put_b x3 hn (by omega), decide_eq_false (show ¬ 3 * n ≤ 3 * u + i by omega)]
    cases tw_bt x3 (3 * u + i) <;> rfl
  · rw [decide_eq_false (by omega), Bool.false_and, Bool.false_and]
/-- the law's word of parents -/
def tw_PB (n : Nat) (p : Nat → Nat) (x3 : Int32) : Prop := ∀ u, 0 < u → u < n → (x3 >>> (((3 : Int32) * nI u) &&& 31)) &&& 7 = nI (p u)
abbrev tw_J5 : Type := Int32 → Int32 → Int32 → Int32 → Int32 → (Nat → Int32) → (Nat → Int32) → (Nat → Int32) → (Nat → Int32) → (Nat → Int32) → (Nat → Int32) → (Nat → Int32) → (Nat → Int32) → (Nat → Int32) → (Nat → Int32) → (Nat → Int32) → (Nat → Int32) → (Nat → Int32) → (Nat → Int32) → Prop
abbrev tw_J7 : Type := Int32 → Int32 → tw_J5
section
variable {vc hm rc wd : Int32} {a1 a2 a3 a4 a5 a6 a7 a8 a9 a10 a11 a12 a13 a14 : Nat → Int32} {n R : Nat} {c : Nat → Nat} {sh : Nat → Nat → Prop} {vv : Nat → Nat → Nat → Int32}
theorem tw_l426 {post : Int32 → Prop} {L : Nat} {xs : Nat → Int32} {J15 : tw_J7} {J406 : tw_J5} {x2 x3 x4 x6 : Int32} {kc ks u q : Nat} (hK : tw_LK n R c sh vv hm a1 a2 a3 a4 a5 a6 a7 a8 a9 a10) (hn : n ≤ 8) (hR : R ≤ 12) (hu : u < n) (hq : q < n) (hS : ∀ r, sh r u → sh r q) :
    ∀ (fu i : Nat) (wd : Int32) (a11 a12 a13 a14 : Nat → Int32), i ≤ 16 → 16 - i < fu → (∀ (wd : Int32) (a11 a12 a13 a14 : Nat → Int32), J406 (nI (u + 1)) (nI n) hm (nI R) wd a1 a2 a3 a4 a5 a6 a7 a8 a9 a10 a11 a12 a13 a14) → wL_law_426 post L xs J15 J406 x2 x3 x4 x6 (nI u) (nI q) kc ks fu (nI i) (nI n) hm (nI R) wd a1 a2 a3 a4 a5 a6 a7 a8 a9 a10 a11 a12 a13 a14 := by
  intro fu
  induction fu with
  | zero => intro i _ _ _ _ _ _ g; exact absurd g (by omega)
  | succ fu ih =>
    intro i wd a11 a12 a13 a14 hi hf H
    refine pk_le 16 i (fun _ => nm_r (nI_1 u) (H wd a11 a12 a13 a14)) (fun hlt => tw_shown hK hn hR hu (fun wd a11 a12 a13 a14 => ?_))
    cases e : tw_fi a7 (nI i) R 0 with
    | none =>
      rw [tw_sn_n e]
      exact br_t rfl (nm_r (nI_1 i) (ih (i + 1) wd a11 a12 a13 a14 (by omega) (by omega) H))
    | some r =>
      rw [tw_sn_s e]
      rcases Classical.em (sh r u) with w | w
      · rw [tw_b_t w]
        refine br_f (by decide) (tw_shown hK hn hR hq (fun wd a11 a12 a13 a14 => ?_))
        rw [tw_sn_s e, tw_b_t (hS r w)]
        exact br_f (by decide) (nm_r (nI_1 i) (ih (i + 1) wd a11 a12 a13 a14 (by omega) (by omega) H))
      · rw [tw_b_f w]
        exact br_t rfl (nm_r (nI_1 i) (ih (i + 1) wd a11 a12 a13 a14 (by omega) (by omega) H))
end
section
variable {wd : Int32} {a1 a2 a3 a4 a5 a6 a7 a8 a9 a10 a11 a12 a13 a14 : Nat → Int32} {n h R : Nat} {p k x z c : Nat → Nat} {VV : Nat → Nat → Nat → Int32} {FF : Nat → Nat → Int32}
theorem tw_l406 {post : Int32 → Prop} {L : Nat} {xs : Nat → Int32} {J15 : tw_J7} {x3 x4 x6 : Int32} {kc ks : Nat} (I : tw_I n h R p k x z c VV FF a1 a2 a3 a4 a5 a6 a7 a8 a9) (hB : tw_PB n p x3)
    (H : ∀ (h : Nat) (wd : Int32) (a8 a9 a11 a12 a13 a14 : Nat → Int32), tw_I n h R p k x z c VV FF a1 a2 a3 a4 a5 a6 a7 a8 a9 → J15 (nI n) x3 (x4 + 4) (nI n) (nI h) (nI R) wd a1 a2 a3 a4 a5 a6 a7 a8 a9 a10 a11 a12 a13 a14) :
    ∀ (fu u : Nat) (wd : Int32) (a11 a12 a13 a14 : Nat → Int32), 0 < u → u ≤ n → n - u < fu → wL_law_406 post L xs J15 (nI n) x3 x4 x6 kc ks fu (nI u) (nI n) (nI h) (nI R) wd a1 a2 a3 a4 a5 a6 a7 a8 a9 a10 a11 a12 a13 a14 := by
  have hT := I.1
  have hn1 : 1 ≤ n := hT.1
  have hn8 : n ≤ 8 := hT.2.1
  have hR := I.2.2.2.1
  have hp : ∀ e, 0 < e → e < n → p e < e := fun e e0 he => tw_T_p hT e0 he
  intro fu
  induction fu with
  | zero => intro u _ _ _ _ _ _ _ g; exact absurd g (by omega)
  | succ fu ih =>
    intro u wd a11 a12 a13 a14 u0 hu hf
    refine pk_le n u (fun hle => ⟨nI_ne0 (by omega) (by omega), ?_⟩) (fun hlt => ?_)
    · rw [tw_rm (x6 >>> ((8 : Int32) &&& 31)) (d := n) (by omega) (by omega)]
      exact tw_home I (Nat.mod_lt _ (by omega)) (fun wd a8 a9 a11 a12 a13 I' => br_f (by decide) (nm_e (H _ wd a8 a9 a11 a12 a13 a14 I')))
    · have hpu := hp u u0 hlt
      exact nm_r (e' := nI (p u)) (hB u u0 hlt) ⟨17, tw_l426 (J406 := wL_law_406 post L xs J15 (nI n) x3 x4 x6 kc ks fu) (tw_I_LK I) hn8 hR hlt (by omega) (fun r s => ((tw_Sh_up hp u0 hlt).mp s).2) 17 0 wd a11 a12 a13 a14 (by omega) (by omega) (fun wd a11 a12 a13 a14 => ih (u + 1) wd a11 a12 a13 a14 (by omega) (by omega) (by omega))⟩
theorem tw_l370 {post : Int32 → Prop} {L : Nat} {xs : Nat → Int32} {J15 : tw_J7} {x3 x4 x6 : Int32} {kc ks : Nat} (hB : tw_PB n p x3)
    (H : ∀ (h : Nat) (wd : Int32) (a8 a9 a11 a12 a13 a14 : Nat → Int32), tw_I n h R p k x z c VV FF a1 a2 a3 a4 a5 a6 a7 a8 a9 → J15 (nI n) x3 (x4 + 4) (nI n) (nI h) (nI R) wd a1 a2 a3 a4 a5 a6 a7 a8 a9 a10 a11 a12 a13 a14) :
    ∀ (fu i h : Nat) (wd : Int32) (a8 a9 a11 a12 a13 a14 : Nat → Int32), i ≤ n → n - i < fu → tw_I n h R p k x z c VV FF a1 a2 a3 a4 a5 a6 a7 a8 a9 → wL_law_370 post L xs J15 (nI n) x3 x4 x6 (tw_ha c (fun r v => tw_Sh n p k x a5 (VV r) v) VV a7 R n) kc ks fu (nI i) (nI n) (nI h) (nI R) wd a1 a2 a3 a4 a5 a6 a7 a8 a9 a10 a11 a12 a13 a14 := by
  intro fu
  induction fu with
  | zero => intro i _ _ _ _ _ _ _ _ _ g; exact absurd g (by omega)
  | succ fu ih =>
    intro i h wd a8 a9 a11 a12 a13 a14 hi hf I
    have hT := I.1
    have hn1 : 1 ≤ n := hT.1
    have hn8 : n ≤ 8 := hT.2.1
    have hR := I.2.2.2.1
    refine pk_le n i (fun hle => ?_) (fun hlt => ?_)
    · exact ⟨n + 1, tw_l406 I hB H (n + 1) 1 wd a11 a12 a13 a14 (by omega) (by omega) (by omega)⟩
    · refine tw_home I hlt (fun wd a8 a9 a11 a12 a13 I' => br_f (by decide) ?_)
      exact tw_lsum (c := c) (tw_I_LK I') hn8 hR (fun v hv => (I'.2.1 v hv).2.2.2.2) (fun v hv => (tw_T_c hT hv).2) (fun wd a11 a12 a13 a14 => br_t rfl (nm_r (nI_1 i) (ih (i + 1) i wd a8 a9 a11 a12 a13 a14 (by omega) (by omega) I')))
/-- behind each step of the script: the sums, the parents, the home -/
theorem tw_l360 {post : Int32 → Prop} {L : Nat} {xs : Nat → Int32} {J15 : tw_J7} {x3 x4 x6 : Int32} {kc ks : Nat} (I : tw_I n h R p k x z c VV FF a1 a2 a3 a4 a5 a6 a7 a8 a9) (hB : tw_PB n p x3)
    (H : ∀ (h : Nat) (wd : Int32) (a8 a9 a11 a12 a13 a14 : Nat → Int32), tw_I n h R p k x z c VV FF a1 a2 a3 a4 a5 a6 a7 a8 a9 → J15 (nI n) x3 (x4 + 4) (nI n) (nI h) (nI R) wd a1 a2 a3 a4 a5 a6 a7 a8 a9 a10 a11 a12 a13 a14) :
    wL_law_360 post L xs J15 (nI n) x3 x4 x6 kc ks (nI n) (nI h) (nI R) wd a1 a2 a3 a4 a5 a6 a7 a8 a9 a10 a11 a12 a13 a14 := by
  have hT := I.1
  unfold wL_law_360
  exact tw_lsum (c := c) (tw_I_LK I) hT.2.1 I.2.2.2.1 (fun v hv => (I.2.1 v hv).2.2.2.2) (fun v hv => (tw_T_c hT hv).2) (fun wd a11 a12 a13 a14 => ⟨n + 1, tw_l370 hB H (n + 1) 0 h wd a8 a9 a11 a12 a13 a14 (by omega) (by omega) I⟩)
end
end
section
def tw_dd (x7 : Int32) (j : Nat) : Int32 := (x7 >>> (nI j &&& 31)) - (x7 >>> (nI j &&& 31)) / 50 * 50
theorem tw_i4 {L i : Nat} (hL : L ≤ 260) (hi : i ≤ 300) (h : ¬ nI L - 4 < nI i) : i + 4 ≤ L := by
  rcases Nat.lt_or_ge L (i + 4) with g | g
  · refine absurd ?_ h
    rw [Int32.lt_iff_toInt_lt, show (4 : Int32) = nI 4 from rfl, pk_sub_toInt (by omega) (by omega), nI_toInt (by omega)]
    omega
  · exact g
section
variable {wd : Int32} {a1 a2 a3 a4 a5 a6 a7 a8 a9 a10 a11 a12 a13 a14 : Nat → Int32} {n h R : Nat} {p k x z c : Nat → Nat} {VV : Nat → Nat → Nat → Int32} {FF : Nat → Nat → Int32}
theorem tw_Q_fi {v i : Nat} {key : Int32} {d : Nat → Int32} (q : tw_Q n R v p k x c a5 VV a7 key d i) : tw_fi a7 key R 0 = some i := by
  have := q.1
  exact tw_fi_only q.2.1 R 0 (by omega) (by omega) (fun j _ hj hne => q.2.2.1 j (by omega) hne)
theorem tw_l241 {post : Int32 → Prop} {L : Nat} {xs : Nat → Int32} {J15 : tw_J7} {x2 x3 x4 x6 x7 : Int32} {kc ks v t i0 : Nat} {d : Nat → Int32} (I : tw_I n h R p k x z c VV FF a1 a2 a3 a4 a5 a6 a7 a8 a9) (hv : v < n) (hd : ∀ j, j < 5 → d j = tw_dd x7 j) (q : tw_Q n R v p k x c a5 VV a7 (nI t) d i0)
    (C : ∀ (wd : Int32) (a11 a12 a13 a14 : Nat → Int32), wL_law_360 post L xs J15 x2 x3 x4 x6 kc ks (nI n) (nI h) (nI R) wd a1 a2 a3 a4 a5 a6 a7 a8 a9 a10 a11 a12 a13 a14) :
    ∀ (fu i : Nat) (wd : Int32) (a11 a12 a13 a14 : Nat → Int32), i ≤ 5 → 5 - i < fu → wL_law_241 post L xs J15 x2 x3 x4 x6 x7 (nI v) (nI t) kc ks fu (nI i) (nI n) (nI h) (nI R) wd a1 a2 a3 a4 a5 a6 a7 a8 a9 a10 a11 a12 a13 a14 := by
  have hT := I.1
  have hn8 : n ≤ 8 := hT.2.1
  have hR := I.2.2.2.1
  have hcv := tw_T_c hT hv
  have h6 := (I.2.1 v hv).2.2.2.2
  have hf := tw_Q_fi q
  intro fu
  induction fu with
  | zero => intro i _ _ _ _ _ _ g; exact absurd g (by omega)
  | succ fu ih =>
    intro i wd a11 a12 a13 a14 hi hfu
    unfold wL_law_241
    refine tw_columns (c := c) hv hn8 h6 (pk_le (c v) i (fun _ => C wd a11 a12 a13 a14) (fun hlt => tw_value (tw_I_LK I) hn8 hR hv (by omega) h6 (by omega) (fun wd a11 a12 a13 a14 => ⟨by decide, br_t ?_ (nm_r (nI_1 i) (ih (i + 1) wd a11 a12 a13 a14 (by omega) (by omega)))⟩)))
    exact (tw_vl_s hlt hf).trans ((tw_vo_t q.2.2.2.2).trans ((q.2.2.2.1 i hlt).trans (hd i (by omega))))
theorem tw_l183 {post : Int32 → Prop} {L : Nat} {xs : Nat → Int32} {J15 : tw_J7} {x2 x3 x4 x6 x7 : Int32} {kc ks v t : Nat} (I : tw_I n h R p k x z c VV FF a1 a2 a3 a4 a5 a6 a7 a8 a9) (hv : v < n) (ht : t < 100)
    (C : ∀ (R : Nat) (VV : Nat → Nat → Nat → Int32) (FF : Nat → Nat → Int32) (wd : Int32) (a7 a8 a9 a10 a11 a12 a13 a14 : Nat → Int32), tw_I n h R p k x z c VV FF a1 a2 a3 a4 a5 a6 a7 a8 a9 → wL_law_360 post L xs J15 x2 x3 x4 x6 kc ks (nI n) (nI h) (nI R) wd a1 a2 a3 a4 a5 a6 a7 a8 a9 a10 a11 a12 a13 a14) :
    ∀ (fu i : Nat) (wd : Int32) (a10 a11 a12 a13 a14 : Nat → Int32), i ≤ 5 → 5 - i < fu → (∀ j, j < i → a10 j = tw_dd x7 j) → wL_law_183 post L xs J15 x2 x3 x4 x6 x7 (nI v) (nI t) kc ks fu (nI i) (nI n) (nI h) (nI R) wd a1 a2 a3 a4 a5 a6 a7 a8 a9 a10 a11 a12 a13 a14 := by
  have hT := I.1
  have hn8 : n ≤ 8 := hT.2.1
  intro fu
  induction fu with
  | zero => intro i _ _ _ _ _ _ _ g; exact absurd g (by omega)
  | succ fu ih =>
    intro i wd a10 a11 a12 a13 a14 hi hfu hd
    refine pk_le 5 i (fun hle => ?_) (fun hlt => ⟨by decide, ?_⟩)
    · refine tw_insert I hv ht (fun res wd b9 a11 a12 a14 I' hres => br_t hres (C R VV FF wd a7 a8 b9 a10 a11 a12 a13 a14 I')) (fun i0 VV' FF' wd b7 b8 b9 a11 a12 a13 a14 I' Q' => br_f (nI_nle (by omega) (by have := I'.2.2.2.1; omega)) (tw_shown (tw_I_LK I') hn8 I'.2.2.2.1 hv (fun wd a11 a12 a13 a14 => ?_)))
      rw [show tw_sn (fun r v => tw_Sh n p k x a5 (VV' r) v) b7 (R + 1) v (nI t) = 1 from (tw_sn_s (tw_Q_fi Q')).trans (tw_b_t Q'.2.2.2.2)]
      exact br_f (by decide) ⟨6, tw_l241 I' hv (fun j hj => hd j (by omega)) Q' (fun wd a11 a12 a13 a14 => C (R + 1) VV' FF' wd b7 b8 b9 a10 a11 a12 a13 a14 I') 6 0 wd a11 a12 a13 a14 (by omega) (by omega)⟩
    · exact tw_draft hlt (br_f (by decide) (nm_r (nI_1 i) (ih (i + 1) wd _ a11 a12 a13 a14 (by omega) (by omega) (tw_fill hd rfl))))
end
theorem tw_l15 {post : Int32 → Prop} {L : Nat} {xs : Nat → Int32} {kc ks : Nat} (hp1 : post 1) (hL : L ≤ 260) :
    ∀ (fu i n h R : Nat) (p k x z c : Nat → Nat) (VV : Nat → Nat → Nat → Int32) (FF : Nat → Nat → Int32) (x3 wd : Int32) (a1 a2 a3 a4 a5 a6 a7 a8 a9 a10 a11 a12 a13 a14 : Nat → Int32),
    i ≤ L + 4 → L + 5 - i < fu → tw_I n h R p k x z c VV FF a1 a2 a3 a4 a5 a6 a7 a8 a9 → tw_PB n p x3 → wL_law_15 post L xs kc ks fu (nI n) x3 (nI i) (nI n) (nI h) (nI R) wd a1 a2 a3 a4 a5 a6 a7 a8 a9 a10 a11 a12 a13 a14 := by
  intro fu
  induction fu with
  | zero => intro i n h R p k x z c VV FF x3 wd a1 a2 a3 a4 a5 a6 a7 a8 a9 a10 a11 a12 a13 a14 _ g; exact absurd g (by omega)
  | succ fu ih =>
    intro i n h R p k x z c VV FF x3 wd a1 a2 a3 a4 a5 a6 a7 a8 a9 a10 a11 a12 a13 a14 hi hf I hB
    refine br_c (fun _ => hp1) (fun hnl => ?_)
    have hi4 : i + 4 ≤ L := tw_i4 hL (by omega) hnl
    have c360 : ∀ {n h R : Nat} {p k x z c : Nat → Nat} {VV : Nat → Nat → Nat → Int32} {FF : Nat → Nat → Int32} {x3 x6 wd : Int32} {a1 a2 a3 a4 a5 a6 a7 a8 a9 a10 a11 a12 a13 a14 : Nat → Int32},
        tw_I n h R p k x z c VV FF a1 a2 a3 a4 a5 a6 a7 a8 a9 → tw_PB n p x3 → wL_law_360 post L xs (wL_law_15 post L xs kc ks fu) (nI n) x3 (nI i) x6 kc ks (nI n) (nI h) (nI R) wd a1 a2 a3 a4 a5 a6 a7 a8 a9 a10 a11 a12 a13 a14 := by
      intro n h R p k x z c VV FF x3 x6 wd a1 a2 a3 a4 a5 a6 a7 a8 a9 a10 a11 a12 a13 a14 I hB
      refine tw_l360 I hB (fun h wd a8 a9 a11 a12 a13 a14 I' => ?_)
      rw [show nI i + 4 = nI (i + 4) from nI_add i 4]
      exact ih (i + 4) n h R p k x z c VV FF x3 wd a1 a2 a3 a4 a5 a6 a7 a8 a9 a10 a11 a12 a13 a14 (by omega) (by omega) I' hB
    have hT := I.1
    have hn1 : 1 ≤ n := hT.1
    have hn8 : n ≤ 8 := hT.2.1
    have hR := I.2.2.2.1
    refine ⟨pk_in (i + 1) L (by omega) (nI_add i 1), fun x5 _ => ⟨pk_in (i + 2) L (by omega) (nI_add i 2), fun x6 _ => ⟨pk_in (i + 3) L (by omega) (nI_add i 3), fun x7 _ => ⟨nI_ne0 (by omega) (by omega), nm_r (e' := nI (tw_ms x5 % n)) (tw_rm x5 (by omega) (by omega)) ⟨by decide, nm_r (e' := nI (tw_ms x6 % 16)) (tw_rm x6 (d := 16) (by omega) (by omega)) ⟨pk_in i L (by omega), fun kk _ => ?_⟩⟩⟩⟩⟩⟩
    have hv : tw_ms x5 % n < n := Nat.mod_lt _ (by omega)
    have ht : tw_ms x6 % 16 < 100 := by omega
    have hcv := tw_T_c hT hv
    have h6 := (I.2.1 _ hv).2.2.2.2
    have hj : tw_ms (x5 >>> ((8 : Int32) &&& 31)) % 5 < 5 := by omega
    refine br_c (fun _ => ?_) (fun _ => br_c (fun _ => ?_) (fun _ => br_c (fun _ => ?_) (fun _ => br_c (fun _ => ⟨pk_in i L (by omega), ?_⟩) (fun _ => br_c (fun _ => ?_) (fun _ => br_c (fun _ => ?_) (fun _ => br_c (fun _ => ?_) (fun _ => trivial)))))))
    · refine ⟨by decide, nm_r (e' := nI (tw_ms (x5 >>> ((8 : Int32) &&& 31)) % 5)) (tw_rm _ (d := 5) (by omega) (by omega)) ⟨by decide, fun x12 _ => ?_⟩⟩
      refine tw_update I hv ht hj (fun res wd a11 a12 a13 a14 hres => br_f hres (c360 I hB)) (fun r V F wd b8 b9 a11 a12 a13 a14 hjc hr hfi I' hV hS => br_t rfl ?_)
      have hS' : tw_Sh n p k x a5 (tw_se r V VV r) (tw_ms x5 % n) := by rw [tw_se_s]; exact hS
      refine tw_value (tw_I_LK I') hn8 hR hv hj h6 (by omega) (fun wd a11 a12 a13 a14 => br_t ?_ ?_)
      · exact (tw_vl_s hjc hfi).trans ((tw_vo_t hS').trans (by rw [tw_se_s]; exact hV))
      · refine tw_shown (tw_I_LK I') hn8 hR hv (fun wd a11 a12 a13 a14 => ?_)
        rw [show tw_sn (fun r' v => tw_Sh n p k x a5 (tw_se r V VV r') v) a7 R (tw_ms x5 % n) (nI (tw_ms x6 % 16)) = 1 from (tw_sn_s hfi).trans (tw_b_t hS')]
        exact br_f (by decide) (c360 I' hB)
    · refine ⟨by decide, nm_r (e' := nI (tw_ms (x5 >>> ((8 : Int32) &&& 31)) % 5)) (tw_rm _ (d := 5) (by omega) (by omega)) ⟨by decide, fun x12 _ => ?_⟩⟩
      refine tw_update I hv ht hj (fun res wd a11 a12 a13 a14 hres => br_f hres (c360 I hB)) (fun r V F wd b8 b9 a11 a12 a13 a14 hjc hr hfi I' hV hS => br_t rfl ?_)
      have hS' : tw_Sh n p k x a5 (tw_se r V VV r) (tw_ms x5 % n) := by rw [tw_se_s]; exact hS
      refine tw_value (tw_I_LK I') hn8 hR hv hj h6 (by omega) (fun wd a11 a12 a13 a14 => br_t ?_ ?_)
      · exact (tw_vl_s hjc hfi).trans ((tw_vo_t hS').trans (by rw [tw_se_s]; exact hV))
      · refine tw_shown (tw_I_LK I') hn8 hR hv (fun wd a11 a12 a13 a14 => ?_)
        rw [show tw_sn (fun r' v => tw_Sh n p k x a5 (tw_se r V VV r') v) a7 R (tw_ms x5 % n) (nI (tw_ms x6 % 16)) = 1 from (tw_sn_s hfi).trans (tw_b_t hS')]
        exact br_f (by decide) (c360 I' hB)
    · exact br_c (fun _ => pk_le n 1 (fun _ => c360 I hB) (fun hn => tw_retract I hn (fun h wd b8 b9 a11 a12 a13 I' => c360 I' (fun u u0 hu => hB u u0 (by omega))))) (fun _ => c360 I hB)
    · refine tw_made I (fun t ht => br_t ht (c360 I hB)) (fun hn p' k' x' z' c' VV' FF' b1 b2 b3 b4 b5 b6 b9 I' e1 e2 => br_f (nI_pos (by omega)) (nm_r (e' := tw_put x3 n (tw_ms x5 % n)) rfl (nm_r (nI_1 n) (c360 I' (fun u u0 hu => ?_)))))
      by_cases g : u = n
      · rw [g, e1]
        exact tw_put_s x3 hn (by omega)
      · rw [tw_put_o x3 hn (by omega), e2 u (by omega)]
        exact hB u u0 (by omega)
    · exact ⟨6, tw_l183 I hv ht (fun R VV FF wd b7 b8 b9 b10 a11 a12 a13 a14 I' => c360 I' hB) 6 0 wd a10 a11 a12 a13 a14 (by omega) (by omega) (fun j hj => absurd hj (by omega))⟩
    · exact ⟨6, tw_l183 I hv ht (fun R VV FF wd b7 b8 b9 b10 a11 a12 a13 a14 I' => c360 I' hB) 6 0 wd a10 a11 a12 a13 a14 (by omega) (by omega) (fun j hj => absurd hj (by omega))⟩
    · exact tw_delete I hv ht (fun res R VV FF wd b7 b8 b9 a11 a12 a13 a14 I' => c360 I' hB)
theorem i_vc (xs : Nat → Int32) (L : Nat) (hL : L ≤ 260) : wpL_law (fun r => r = 1) L xs := by
  refine ⟨14, 247, by omega, by omega, ?_⟩
  unfold wpX_init
  refine ⟨by omega, by omega, by omega, by omega, by omega, by omega, by omega, by omega, by omega, by omega, by omega, by omega, by omega, by omega, by omega, by omega, by omega, by omega, by omega, by omega, by omega, by omega, by omega, by omega, by omega, by omega, by omega, by omega, nm_e ⟨L + 6, ?_⟩⟩
  refine tw_l15 (post := fun r => r = 1) rfl hL (L + 6) 0 1 0 0 (fun _ => 0) (fun _ => 0) (fun _ => 0) (fun _ => 0) (fun j => if j = 0 then 2 else 0) (fun _ _ _ => 0) (fun _ _ => 0) 0 0 (fun _ => 0) (fun _ => 0) (fun _ => 0) (fun _ => 0) (fun _ => 0) (upd (fun _ => 0) 0 2) (fun _ => 0) (fun _ => 0) (fun _ => 0) (fun _ => 0) (fun _ => 0) (fun _ => 0) (fun _ => 0) (fun _ => 0) (by omega) (by omega) ⟨⟨by omega, by omega, rfl, fun e e0 he => absurd he (by omega)⟩, fun e he => ?_, by omega, by omega, fun r hr => absurd hr (by omega), fun r hr => absurd hr (by omega), fun r _ => ⟨0, by omega, rfl⟩⟩ (fun u u0 hu => absurd hu (by omega))
  have e0 : e = 0 := by omega
  rw [e0]
  exact ⟨rfl, rfl, rfl, rfl, rfl⟩
end
