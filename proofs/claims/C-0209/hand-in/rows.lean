section
theorem pk_us {f : Nat → Int32} {k : Nat} {x : Int32} : upd f k x k = x := if_pos rfl
theorem pk_un {f : Nat → Int32} {k j : Nat} {x : Int32} (h : j ≠ k) : upd f k x j = f j := if_neg h
theorem pk_sub {a b : Nat} (h : b ≤ a) : nI a - nI b = nI (a - b) := by
  obtain ⟨c, rfl⟩ : ∃ c, a = c + b := ⟨a - b, by omega⟩
  rw [← nI_add, Int32.add_sub_cancel, Nat.add_sub_cancel]
theorem pk_m1 (n : Nat) : nI (n + 1) + (-1) = nI n := by
  rw [← nI_1, Int32.add_assoc, show (1 : Int32) + (-1) = 0 from rfl, Int32.add_zero]
theorem pk_mul (a b : Nat) : nI a * nI b = nI (a * b) := (Int32.ofNat_mul a b).symm
theorem pk_ix (x : Int32) {n : Nat} (hn : n < 2 ^ 31) : x < 0 ∨ nI n ≤ x ∨ ∃ j : Nat, j < n ∧ x = nI j := by
  by_cases h : x < 0
  · exact Or.inl h
  · obtain ⟨j, hj, rfl⟩ := nI_of h
    by_cases h2 : j < n
    · exact Or.inr (Or.inr ⟨j, h2, rfl⟩)
    · exact Or.inr (Or.inl (nI_le (by omega) hj))
theorem pk_le {x y : Int32} {A B : Prop} (a b : Nat) (f : a ≤ b → A) (g : b < a → B) (hx : x = nI a := by rfl) (hy : y = nI b := by rfl) (ha : a < 2 ^ 31 := by omega) (hb : b < 2 ^ 31 := by omega) : (x ≤ y → A) ∧ (¬ x ≤ y → B) := by
  subst hx hy
  rw [nI_leI ha hb]
  exact ⟨f, fun z => g (by omega)⟩
theorem pk_lt {x y : Int32} {A B : Prop} (a b : Nat) (f : a < b → A) (g : b ≤ a → B) (hx : x = nI a := by rfl) (hy : y = nI b := by rfl) (ha : a < 2 ^ 31 := by omega) (hb : b < 2 ^ 31 := by omega) : (x < y → A) ∧ (¬ x < y → B) := by
  subst hx hy
  rw [nI_ltI ha hb]
  exact ⟨f, fun z => g (by omega)⟩
theorem pk_eq {x y : Int32} {A B : Prop} (a b : Nat) (f : a = b → A) (g : a ≠ b → B) (hx : x = nI a := by rfl) (hy : y = nI b := by rfl) (ha : a < 2 ^ 31 := by omega) (hb : b < 2 ^ 31 := by omega) : (x = y → A) ∧ (¬ x = y → B) := by
  subst hx hy
  rw [nI_eq ha hb]
  exact ⟨f, g⟩
theorem pk_in {x : Int32} (n N : Nat) (h : n < N) (hx : x = nI n := by rfl) (hN : N < 2 ^ 31 := by omega) : vp_in x N := by
  subst hx
  exact vp_in_nI h hN
theorem pk_cl {x : Int32} (n : Nat) (hx : x = nI n := by rfl) (h : n < 2 ^ 31 := by omega) : x.toNatClampNeg = n := by
  subst hx
  exact nI_clamp h
theorem pk_least (P : Nat → Prop) (h : ∃ k, P k) : ∃ k, P k ∧ ∀ j, j < k → ¬ P j := by
  obtain ⟨k, hk⟩ := h
  induction k using Nat.strongRecOn with
  | ind k ih =>
    by_cases e : ∃ j, j < k ∧ P j
    · obtain ⟨j, hj, pj⟩ := e
      exact ih j hj pj
    · exact ⟨k, hk, fun j hj pj => e ⟨j, hj, pj⟩⟩
end
section
/-! 0/1 of a proposition, finite sums, pigeonhole -/
noncomputable def ba_b (P : Prop) : Nat := @ite Nat P (Classical.propDecidable P) 1 0
theorem ba_t {P : Prop} (h : P) : ba_b P = 1 := by unfold ba_b; rw [if_pos h]
theorem ba_f {P : Prop} (h : ¬ P) : ba_b P = 0 := by unfold ba_b; rw [if_neg h]
theorem ba_le1 (P : Prop) : ba_b P ≤ 1 := by
  rcases Classical.em P with h | h
  · rw [ba_t h]; exact Nat.le_refl _
  · rw [ba_f h]; exact Nat.zero_le _
theorem ba_congr {P Q : Prop} (h : P ↔ Q) : ba_b P = ba_b Q := by rw [propext h]
theorem ba_mono {P Q : Prop} (h : P → Q) : ba_b P ≤ ba_b Q := by
  rcases Classical.em P with hp | hp
  · rw [ba_t hp, ba_t (h hp)]; exact Nat.le_refl _
  · rw [ba_f hp]; exact Nat.zero_le _
def ba_sm (f : Nat → Nat) : Nat → Nat
  | 0 => 0
  | k + 1 => ba_sm f k + f k
theorem ba_sm0 (f : Nat → Nat) : ba_sm f 0 = 0 := rfl
theorem ba_sms (f : Nat → Nat) (k : Nat) : ba_sm f (k + 1) = ba_sm f k + f k := rfl
theorem ba_sm_congr {f g : Nat → Nat} : ∀ {k : Nat}, (∀ j, j < k → f j = g j) → ba_sm f k = ba_sm g k
  | 0, _ => rfl
  | k + 1, h => by
    rw [ba_sms, ba_sms, ba_sm_congr (k := k) (fun j hj => h j (by omega)), h k (by omega)]
theorem ba_sm_le {f g : Nat → Nat} : ∀ {k : Nat}, (∀ j, j < k → f j ≤ g j) → ba_sm f k ≤ ba_sm g k
  | 0, _ => Nat.le_refl _
  | k + 1, h => by
    have a := ba_sm_le (f := f) (g := g) (k := k) (fun j hj => h j (by omega))
    have b := h k (by omega)
    rw [ba_sms, ba_sms]; omega
theorem ba_sm_lt {f g : Nat → Nat} {c : Nat} (hc : f c < g c) : ∀ {k : Nat}, (∀ j, j < k → f j ≤ g j) → c < k → ba_sm f k < ba_sm g k
  | 0, _, h => absurd h (Nat.not_lt_zero _)
  | k + 1, h, hk => by
    rw [ba_sms, ba_sms]
    rcases Nat.lt_or_ge c k with z | z
    · have a := ba_sm_lt (f := f) (g := g) hc (k := k) (fun j hj => h j (by omega)) z
      have b := h k (by omega)
      omega
    · have e : c = k := by omega
      subst e
      have a := ba_sm_le (f := f) (g := g) (k := c) (fun j hj => h j (by omega))
      omega
theorem ba_sm_add (f g : Nat → Nat) : ∀ k, ba_sm (fun j => f j + g j) k = ba_sm f k + ba_sm g k
  | 0 => rfl
  | k + 1 => by
    rw [ba_sms, ba_sms, ba_sms, ba_sm_add f g k]; omega
theorem ba_sm_z {f : Nat → Nat} : ∀ {k : Nat}, (∀ j, j < k → f j = 0) → ba_sm f k = 0
  | 0, _ => rfl
  | k + 1, h => by
    rw [ba_sms, ba_sm_z (k := k) (fun j hj => h j (by omega)), h k (by omega)]
theorem ba_sm_1 {f : Nat → Nat} {c : Nat} : ∀ {k : Nat}, c < k → (∀ j, j < k → j ≠ c → f j = 0) → ba_sm f k = f c
  | 0, h, _ => absurd h (Nat.not_lt_zero _)
  | k + 1, hc, h => by
    rw [ba_sms]
    rcases Nat.lt_or_ge c k with z | z
    · rw [ba_sm_1 z (fun j hj hn => h j (by omega) hn), h k (by omega) (by omega)]; omega
    · have e : c = k := by omega
      subst e
      rw [ba_sm_z (fun j hj => h j (by omega) (by omega))]; omega
theorem ba_sm_c (c : Nat) : ∀ k, ba_sm (fun _ => c) k = k * c
  | 0 => by rw [ba_sm0, Nat.zero_mul]
  | k + 1 => by rw [ba_sms, ba_sm_c c k, Nat.succ_mul]
theorem ba_sm_swap (f : Nat → Nat → Nat) (b : Nat) : ∀ a, ba_sm (fun i => ba_sm (fun j => f i j) b) a = ba_sm (fun j => ba_sm (fun i => f i j) a) b
  | 0 => by
    rw [ba_sm0, ba_sm_z]
    intro j _; rfl
  | a + 1 => by
    rw [ba_sms, ba_sm_swap f b a, ← ba_sm_add]
    exact ba_sm_congr (fun j _ => rfl)
theorem ba_sm_ge {f : Nat → Nat} {c : Nat} : ∀ {k : Nat}, c < k → f c ≤ ba_sm f k
  | 0, h => absurd h (Nat.not_lt_zero _)
  | k + 1, h => by
    rw [ba_sms]
    rcases Nat.lt_or_ge c k with z | z
    · have := ba_sm_ge (f := f) z; omega
    · have e : c = k := by omega
      subst e; omega
theorem ba_sm_one {f : Nat → Nat} : ∀ {k : Nat}, (∀ j, j < k → f j ≤ 1) → (∀ i j, i < k → j < k → f i ≠ 0 → f j ≠ 0 → i = j) → ba_sm f k ≤ 1
  | 0, _, _ => Nat.zero_le _
  | k + 1, h1, h2 => by
    rw [ba_sms]
    rcases Nat.eq_zero_or_pos (f k) with z | z
    · have := ba_sm_one (f := f) (k := k) (fun j hj => h1 j (by omega)) (fun i j hi hj => h2 i j (by omega) (by omega)); omega
    · have e : ba_sm f k = 0 := ba_sm_z (fun j hj => by
        rcases Nat.eq_zero_or_pos (f j) with y | y
        · exact y
        · have := h2 j k (by omega) (by omega) (by omega) (by omega); omega)
      have := h1 k (by omega); omega
/-- as many different numbers below n: at most n -/
theorem ba_pig {f : Nat → Nat} {k n : Nat} (hb : ∀ i, i < k → f i < n) (hi : ∀ i j, i < k → j < k → f i = f j → i = j) : k ≤ n := by
  have a : ba_sm (fun i => ba_sm (fun v => ba_b (f i = v)) n) k = k := by
    rw [ba_sm_congr (g := fun _ => 1), ba_sm_c, Nat.mul_one]
    intro i hk
    show ba_sm (fun v => ba_b (f i = v)) n = 1
    rw [ba_sm_1 (hb i hk) (fun j _ hn => ba_f (fun e => hn e.symm)), ba_t rfl]
  have b : ba_sm (fun v => ba_sm (fun i => ba_b (f i = v)) k) n ≤ ba_sm (fun _ => 1) n := by
    apply ba_sm_le
    intro v hv
    apply ba_sm_one (fun j _ => ba_le1 _)
    intro i j h1 h2 h3 h4
    have p : f i = v := Classical.byContradiction (fun q => h3 (ba_f q))
    have q : f j = v := Classical.byContradiction (fun q => h4 (ba_f q))
    exact hi i j h1 h2 (p.trans q.symm)
  rw [ba_sm_swap] at a
  rw [ba_sm_c, Nat.mul_one] at b
  omega
/-- a count -/
noncomputable def ba_cn (P : Nat → Prop) (k : Nat) : Nat := ba_sm (fun j => ba_b (P j)) k
theorem ba_cns (P : Nat → Prop) (k : Nat) : ba_cn P (k + 1) = ba_cn P k + ba_b (P k) := rfl
theorem ba_cn_congr {P Q : Nat → Prop} {k : Nat} (h : ∀ j, j < k → (P j ↔ Q j)) : ba_cn P k = ba_cn Q k := ba_sm_congr (fun j hj => ba_congr (h j hj))
theorem ba_cn_le (P : Nat → Prop) : ∀ k, ba_cn P k ≤ k
  | 0 => Nat.le_refl _
  | k + 1 => by have := ba_cn_le P k; have := ba_le1 (P k); rw [ba_cns]; omega
theorem ba_cn_pos {P : Nat → Prop} {c k : Nat} (hc : c < k) (h : P c) : 0 < ba_cn P k := by
  have := ba_sm_ge (f := fun j => ba_b (P j)) hc
  rw [ba_t h] at this
  exact this
theorem ba_cn_mono {P Q : Nat → Prop} {k : Nat} (h : ∀ j, j < k → P j → Q j) : ba_cn P k ≤ ba_cn Q k := ba_sm_le (fun j hj => ba_mono (h j hj))
theorem ba_cn_lt {P Q : Nat → Prop} {c k : Nat} (hc : c < k) (hp : ¬ P c) (hq : Q c) (h : ∀ j, j < k → P j → Q j) : ba_cn P k < ba_cn Q k := by
  refine ba_sm_lt (c := c) ?_ (fun j hj => ba_mono (h j hj)) hc
  show ba_b (P c) < ba_b (Q c)
  rw [ba_f hp, ba_t hq]; exact Nat.zero_lt_one
/-- one more -/
theorem ba_cn_or {P Q : Nat → Prop} {c k : Nat} (hc : c < k) (hp : ¬ P c) (h : ∀ j, j < k → (Q j ↔ (j = c ∨ P j))) : ba_cn Q k = ba_cn P k + 1 := by
  have e : ba_cn Q k = ba_sm (fun j => ba_b (P j) + ba_b (j = c)) k := by
    apply ba_sm_congr
    intro j hj
    show ba_b (Q j) = ba_b (P j) + ba_b (j = c)
    rcases Classical.em (j = c) with z | z
    · subst z
      rw [ba_t ((h j hj).mpr (Or.inl rfl)), ba_f hp, ba_t rfl]
    · rw [ba_f z, Nat.add_zero]
      exact ba_congr ((h j hj).trans ⟨fun q => q.elim (fun y => absurd y z) id, Or.inr⟩)
  rw [e, ba_sm_add]
  have s : ba_sm (fun j => ba_b (j = c)) k = 1 := by
    rw [ba_sm_1 hc (fun j _ hn => ba_f hn), ba_t rfl]
  rw [s]; rfl
theorem ba_strong {P : Nat → Prop} (h : ∀ i, (∀ j, j < i → P j) → P i) (i : Nat) : P i := Nat.strongRecOn i h
/-- induction over a measure -/
theorem ba_meas {α : Type} (f : α → Nat) {P : α → Prop} (h : ∀ a, (∀ b, f b < f a → P b) → P a) (a : α) : P a := by
  have key : ∀ k a, f a < k → P a := by
    intro k
    induction k with
    | zero => intro a ha; exact absurd ha (Nat.not_lt_zero _)
    | succ k ih => intro a ha; exact h a (fun b hb => ih b (by omega))
  exact key _ a (Nat.lt_succ_self _)
end
section
/-! reachability from 0 without a vertex z -/
def re_R (E : Nat → Nat → Prop) (z v : Nat) : Prop := ∀ S : Nat → Prop, (z ≠ 0 → S 0) → (∀ a b, S a → E a b → b ≠ z → S b) → S v
theorem re_0 {E : Nat → Nat → Prop} {z : Nat} (h : z ≠ 0) : re_R E z 0 := fun _ h0 _ => h0 h
theorem re_s {E : Nat → Nat → Prop} {z a b : Nat} (h : re_R E z a) (e : E a b) (hb : b ≠ z) : re_R E z b := fun S h0 hs => hs a b (h S h0 hs) e hb
theorem re_ne {E : Nat → Nat → Prop} {z v : Nat} (h : re_R E z v) : v ≠ z := h (fun v => v ≠ z) (fun q e => q e.symm) (fun _ _ _ _ q => q)
/-- avoiding more, through fewer edges -/
theorem re_mono {E F : Nat → Nat → Prop} {z y v : Nat} (h : re_R E z v) (h0 : z ≠ 0 → y ≠ 0) (hs : ∀ a b, E a b → b ≠ z → F a b ∧ b ≠ y) : re_R F y v :=
  h (fun v => re_R F y v) (fun q => re_0 (h0 q)) (fun a b q e hb => re_s q (hs a b e hb).1 (hs a b e hb).2)
theorem re_00 {E : Nat → Nat → Prop} {v : Nat} (h : re_R E 0 v) : False := h (fun _ => False) (fun q => q rfl) (fun _ _ q _ _ => q)
/-- the edges of a graph given by m tails and heads, without the edge i -/
def re_E (m : Nat) (tl hd : Nat → Nat) (i : Nat) : Nat → Nat → Prop := fun a b => ∃ e, e < m ∧ e ≠ i ∧ tl e = a ∧ hd e = b
/-- z dominates v -/
def re_D (E : Nat → Nat → Prop) (z v : Nat) : Prop := re_R E 24 v ∧ ¬ re_R E z v
section
variable {E : Nat → Nat → Prop}
theorem re_live {z v : Nat} (hE : ∀ a b, E a b → b < 24) (h : re_R E z v) : re_R E 24 v :=
  re_mono h (fun _ => by decide) (fun a b e _ => ⟨e, by have := hE a b e; omega⟩)
theorem re_lt (hE : ∀ a b, E a b → b < 24) {v : Nat} (h : re_R E 24 v) : v < 24 := h (fun v => v < 24) (fun _ => by decide) (fun a b _ e _ => hE a b e)
theorem re_D0 {v : Nat} (h : re_R E 24 v) : re_D E 0 v := ⟨h, fun q => re_00 q⟩
theorem re_Dr {v : Nat} (h : re_R E 24 v) : re_D E v v := ⟨h, fun q => re_ne q rfl⟩
/-- a dominator is live -/
theorem re_Dl {z v : Nat} (h : re_D E z v) : re_R E 24 z := by
  refine Classical.byContradiction (fun hz => h.2 ?_)
  refine h.1 (fun v => re_R E z v ∧ re_R E 24 v) ?_ ?_ |>.1
  · intro _
    have z0 : z ≠ 0 := fun e => hz (by rw [e]; exact re_0 (by decide))
    exact ⟨re_0 z0, re_0 (by decide)⟩
  · intro a b q e hb
    have hl := re_s q.2 e hb
    exact ⟨re_s q.1 e (fun c => hz (c ▸ hl)), hl⟩
/-- dominators of a dominator -/
theorem re_Dt {x y v : Nat} (h1 : re_D E x y) (h2 : re_D E y v) : re_D E x v := by
  refine ⟨h2.1, fun q => h2.2 (q (fun v => re_R E x v ∧ re_R E y v) ?_ ?_).2⟩
  · intro hx
    have y0 : y ≠ 0 := fun e => h1.2 (by rw [e]; exact re_0 hx)
    exact ⟨re_0 hx, re_0 y0⟩
  · intro a b q e hb
    have hl := re_s q.1 e hb
    exact ⟨hl, re_s q.2 e (fun c => h1.2 (c ▸ hl))⟩
end
end
section
/-! Lengauer and Tarjan without paths: numbers d, parents p of a depth-first tree; R: the reached vertices -/
def lt_A (R : Nat → Prop) (d p : Nat → Nat) (a b : Nat) : Prop := d a ≤ d b ∧ ∀ c, R c → d a < d c → d c ≤ d b → d a ≤ d (p c)
def lt_T (R : Nat → Prop) (d p : Nat → Nat) (E : Nat → Nat → Prop) : Prop :=
  R 0 ∧ d 0 = 0 ∧ (∀ a b, R a → R b → d a = d b → a = b) ∧
  (∀ v, R v → v ≠ 0 → R (p v) ∧ d (p v) < d v ∧ E (p v) v ∧ lt_A R d p (p v) v) ∧
  (∀ a b, R a → E a b → R b) ∧ (∀ a b, R a → E a b → d a < d b → lt_A R d p a b)
def lt_S1 (R : Nat → Prop) (d p : Nat → Nat) (E : Nat → Nat → Prop) (s : Nat → Nat) (w : Nat) : Prop :=
  s w < d w ∧ (∃ q, R q ∧ d q = s w ∧ lt_A R d p q w) ∧ (∀ z, R z → s w < d z → d z < d w → re_R E z w) ∧
  (∀ a, R a → E a w → (d a < d w → s w ≤ d a) ∧ (∀ u, R u → lt_A R d p u a → d w < d u → s w ≤ s u))
/-- what z must be to dominate w -/
def lt_D (R : Nat → Prop) (d p : Nat → Nat) (s : Nat → Nat) (z w : Nat) : Prop := lt_A R d p z w ∧ ∀ y, R y → lt_A R d p y w → d z < d y → d z ≤ s y
section
variable {R : Nat → Prop} {d p : Nat → Nat} {E : Nat → Nat → Prop} {s : Nat → Nat}
theorem lt_refl (a : Nat) : lt_A R d p a a := ⟨Nat.le_refl _, fun c _ h1 h2 => by omega⟩
theorem lt_trans {a b c : Nat} (h1 : lt_A R d p a b) (h2 : lt_A R d p b c) : lt_A R d p a c := by
  have := h1.1
  have := h2.1
  refine ⟨by omega, fun x hx h3 h4 => ?_⟩
  rcases Nat.lt_or_ge (d b) (d x) with z | z
  · have := h2.2 x hx z h4; omega
  · exact h1.2 x hx h3 z
theorem lt_conv {a b c : Nat} (h : lt_A R d p a b) (h1 : d a ≤ d c) (h2 : d c ≤ d b) : lt_A R d p a c :=
  ⟨h1, fun x hx h3 h4 => h.2 x hx h3 (by omega)⟩
section
variable (T : lt_T R d p E)
theorem lt_inj {R : Nat → Prop} {d p : Nat → Nat} {E : Nat → Nat → Prop} (T : lt_T R d p E) {a b : Nat} (ha : R a) (hb : R b) (h : d a = d b) : a = b := T.2.2.1 a b ha hb h
theorem lt_ne0 (T : lt_T R d p E) {v : Nat} (h : 0 < d v) : v ≠ 0 := fun e => by
  have := T.2.1
  rw [e] at h; omega
theorem lt_par (T : lt_T R d p E) {a b : Nat} (hb : R b) (h : lt_A R d p a b) (hl : d a < d b) : lt_A R d p a (p b) := by
  have q := T.2.2.2.1 b hb (lt_ne0 T (by omega))
  exact lt_conv h (h.2 b hb hl (Nat.le_refl _)) (by omega)
/-- down the tree to v, without z: z isn't above v -/
theorem lt_path (T : lt_T R d p E) {z : Nat} : ∀ v, R v → ¬ (R z ∧ lt_A R d p z v) → re_R E z v := by
  intro v
  induction v using ba_meas d with
  | h v ih =>
    intro hv hz
    rcases Nat.eq_zero_or_pos v with e | e
    · subst e
      exact re_0 (fun c => hz ⟨by rw [c]; exact T.1, by rw [c]; exact lt_refl 0⟩)
    · obtain ⟨h1, h2, h3, h4⟩ := T.2.2.2.1 v hv (by omega)
      refine re_s (ih (p v) h2 h1 (fun c => hz ⟨c.1, lt_trans c.2 h4⟩)) h3 (fun c => hz ⟨c ▸ hv, ?_⟩)
      rw [c]; exact lt_refl z
/-- down the tree from u to w, below z -/
theorem lt_down (T : lt_T R d p E) {z u : Nat} (hu : R u) (hr : re_R E z u) (hz : d z < d u) : ∀ w, R w → lt_A R d p u w → re_R E z w := by
  intro w
  induction w using ba_meas d with
  | h w ih =>
    intro hw ha
    rcases Nat.lt_or_ge (d u) (d w) with e | e
    · obtain ⟨h1, h2, h3, h4⟩ := T.2.2.2.1 w hw (lt_ne0 T (by omega))
      refine re_s (ih (p w) h2 h1 (lt_par T hw ha e)) h3 (fun c => ?_)
      rw [c] at e; omega
    · have := ha.1
      have e2 : u = w := lt_inj T hu hw (by omega)
      rw [← e2]; exact hr
/-- the highest one above a that is beyond b -/
theorem lt_top (T : lt_T R d p E) {b : Nat} : ∀ a, R a → d b < d a → ∃ t, R t ∧ lt_A R d p t a ∧ d b < d t ∧ d (p t) ≤ d b := by
  intro a
  induction a using ba_meas d with
  | h a ih =>
    intro ha hb
    rcases Nat.lt_or_ge (d b) (d (p a)) with e | e
    · obtain ⟨h1, h2, h3, h4⟩ := T.2.2.2.1 a ha (lt_ne0 T (by omega))
      obtain ⟨t, t1, t2, t3, t4⟩ := ih (p a) h2 h1 e
      exact ⟨t, t1, lt_trans t2 h4, t3, t4⟩
    · exact ⟨a, ha, lt_refl a, hb, e⟩
theorem lt_R (T : lt_T R d p E) {v : Nat} {z : Nat} (h : re_R E z v) : R v := h R (fun _ => T.1) (fun a b ha e _ => T.2.2.2.2.1 a b ha e)
theorem lt_Dm (T : lt_T R d p E) (S : ∀ w, R w → w ≠ 0 → lt_S1 R d p E s w) {z w : Nat} (hw : R w) (h : ¬ re_R E z w) : R z ∧ lt_D R d p s z w := by
  have hz : R z ∧ lt_A R d p z w := Classical.byContradiction (fun c => h (lt_path T w hw c))
  refine ⟨hz.1, hz.2, fun y hy ha hl => ?_⟩
  rcases Nat.lt_or_ge (s y) (d z) with e | e
  · have hs := S y hy (lt_ne0 T (by omega))
    exact absurd (lt_down T hy (hs.2.2.1 z hz.1 e hl) hl w hw ha) h
  · exact e
theorem lt_Dr (T : lt_T R d p E) (S : ∀ w, R w → w ≠ 0 → lt_S1 R d p E s w) {z w : Nat} (hz : R z) (hw : R w) (h : lt_D R d p s z w) : ¬ re_R E z w := by
  intro r
  refine (r (fun v => R v ∧ ¬ lt_D R d p s z v) ?_ ?_).2 h
  · intro z0
    refine ⟨T.1, fun c => z0 (lt_inj T hz T.1 ?_)⟩
    have := c.1.1
    have := T.2.1
    omega
  · intro a b ha e hb
    obtain ⟨ha, hna⟩ := ha
    have hRb := T.2.2.2.2.1 a b ha e
    refine ⟨hRb, fun c => hna ?_⟩
    have hzb : d z < d b := by
      have := c.1.1
      rcases Nat.lt_or_ge (d z) (d b) with q | q
      · exact q
      · exact absurd (lt_inj T hRb hz (by omega)) hb
    have hs := S b hRb (lt_ne0 T (by omega))
    have hzs : d z ≤ s b := c.2 b hRb (lt_refl b) hzb
    have h2 := hs.2.2.2 a ha e
    rcases Nat.lt_trichotomy (d a) (d b) with q | q | q
    · have hab := T.2.2.2.2.2 a b ha e q
      have := h2.1 q
      exact ⟨lt_conv c.1 (by omega) (by omega), fun y hy hya hl => c.2 y hy (lt_trans hya hab) hl⟩
    · have : a = b := lt_inj T ha hRb q
      rw [this]; exact c
    · obtain ⟨t, t1, t2, t3, t4⟩ := lt_top T a ha q
      have i1 := h2.2 t t1 t2 t3
      obtain ⟨p1, p2, p3, p4⟩ := T.2.2.2.1 t t1 (lt_ne0 T (by omega))
      have i2 := ((S t t1 (lt_ne0 T (by omega))).2.2.2 (p t) p1 p3).1 p2
      have hzt : lt_A R d p z (p t) := lt_conv c.1 (by omega) t4
      refine ⟨lt_trans hzt (lt_trans p4 t2), fun y hy hya hl => ?_⟩
      rcases Nat.lt_or_ge (d b) (d y) with j | j
      · have := h2.2 y hy hya j; omega
      · exact c.2 y hy (lt_conv hya j (by omega)) hl
/-- the two cases of the immediate dominator -/
theorem lt_c1 {w q x : Nat} (hqA : lt_A R d p q w) (hq : d q = s w) (hsw : s w < d w) (hw : R w) (hx : R x)
    (hm : ∀ u, R u → lt_A R d p u w → s w < d u → s w ≤ s u) (T : lt_T R d p E) : (lt_D R d p s x w ∧ x ≠ w) ↔ lt_D R d p s x q := by
  constructor
  · rintro ⟨⟨h1, h2⟩, h3⟩
    have hl : d x < d w := by
      have := h1.1
      rcases Nat.lt_or_ge (d x) (d w) with q | q
      · exact q
      · exact absurd (lt_inj T hx hw (by omega)) h3
    have h4 := h2 w hw (lt_refl w) hl
    exact ⟨lt_conv h1 (by omega) (by omega), fun y hy hya hyl => h2 y hy (lt_trans hya hqA) hyl⟩
  · rintro ⟨h1, h2⟩
    have := h1.1
    refine ⟨⟨lt_trans h1 hqA, fun y hy hya hyl => ?_⟩, fun e => by rw [e] at this; omega⟩
    rcases Nat.lt_or_ge (s w) (d y) with j | j
    · have := hm y hy hya j; omega
    · exact h2 y hy (lt_conv hya (by omega) (by omega)) hyl
theorem lt_c2 {w u x : Nat} (huA : lt_A R d p u w) (hu : R u) (hsu : s u < s w) (hwu : s w < d u) (hsw : s w < d w) (hw : R w) (hx : R x)
    (hm : ∀ y, R y → lt_A R d p y w → s w < d y → s u ≤ s y) (T : lt_T R d p E) : (lt_D R d p s x w ∧ x ≠ w) ↔ (lt_D R d p s x u ∧ x ≠ u) := by
  constructor
  · rintro ⟨⟨h1, h2⟩, h3⟩
    have hl : d x < d w := by
      have := h1.1
      rcases Nat.lt_or_ge (d x) (d w) with q | q
      · exact q
      · exact absurd (lt_inj T hx hw (by omega)) h3
    have h4 := h2 w hw (lt_refl w) hl
    have := huA.1
    exact ⟨⟨lt_conv h1 (by omega) (by omega), fun y hy hya hyl => h2 y hy (lt_trans hya huA) hyl⟩, fun e => by rw [e] at h4; omega⟩
  · rintro ⟨⟨h1, h2⟩, h3⟩
    have hl : d x < d u := by
      have := h1.1
      rcases Nat.lt_or_ge (d x) (d u) with q | q
      · exact q
      · exact absurd (lt_inj T hx hu (by omega)) h3
    have h4 := h2 u hu (lt_refl u) hl
    have := huA.1
    refine ⟨⟨lt_trans h1 huA, fun y hy hya hyl => ?_⟩, fun e => by rw [e] at hl; omega⟩
    rcases Nat.lt_or_ge (d u) (d y) with j | j
    · have := hm y hy hya (by omega); omega
    · exact h2 y hy (lt_conv hya j (by omega)) hyl
end
end
end
section
/-! the forest with shortened paths: k: the vertices with numbers from k on are linked; an: their ancestors, lb: their labels -/
def fo_u (f : Nat → Nat) (k x : Nat) : Nat → Nat := fun j => if j = k then x else f j
theorem fo_us {f : Nat → Nat} {k x : Nat} : fo_u f k x k = x := if_pos rfl
theorem fo_un {f : Nat → Nat} {k x j : Nat} (h : j ≠ k) : fo_u f k x j = f j := if_neg h
def fo_C (R : Nat → Prop) (d p s : Nat → Nat) (k : Nat) (v a l : Nat) : Prop :=
  R a ∧ d a < d v ∧ lt_A R d p a v ∧ R l ∧ lt_A R d p l v ∧ k ≤ d l ∧
  (∀ u, R u → lt_A R d p u v → d a < d u → s l ≤ s u) ∧ (∀ u, R u → lt_A R d p u v → d u < k → d u ≤ d a)
def fo_I (R : Nat → Prop) (d p s : Nat → Nat) (k : Nat) (an lb : Nat → Nat) : Prop := ∀ v, R v → k ≤ d v → fo_C R d p s k v (an v) (lb v)
def fo_V (R : Nat → Prop) (d p s : Nat → Nat) (k v x : Nat) : Prop :=
  R x ∧ (d v < k → x = v) ∧ (k ≤ d v → lt_A R d p x v ∧ k ≤ d x ∧ ∀ u, R u → lt_A R d p u v → k ≤ d u → s x ≤ s u)
section
variable {R : Nat → Prop} {d p s an lb : Nat → Nat} {E : Nat → Nat → Prop} {k : Nat}
theorem fo_comp {x y : Nat} (H : fo_I R d p s k an lb) (hx : R x) (hk : k ≤ d x) (ha : k ≤ d (an x))
    (hy : (y = lb (an x) ∨ y = lb x) ∧ s y ≤ s (lb (an x)) ∧ s y ≤ s (lb x)) : fo_I R d p s k (fo_u an x (an (an x))) (fo_u lb x y) := by
  intro v hv hkv
  rcases Classical.em (v = x) with e | e
  · subst e
    rw [fo_us, fo_us]
    obtain ⟨a1, a2, a3, a4, a5, a6, a7, a8⟩ := H v hv hkv
    obtain ⟨b1, b2, b3, b4, b5, b6, b7, b8⟩ := H (an v) a1 ha
    obtain ⟨y1, y2, y3⟩ := hy
    refine ⟨b1, by omega, lt_trans b3 a3, ?_, ?_, ?_, ?_, ?_⟩
    · rcases y1 with e | e <;> rw [e] <;> assumption
    · rcases y1 with e | e <;> rw [e]
      · exact lt_trans b5 a3
      · exact a5
    · rcases y1 with e | e <;> rw [e] <;> assumption
    · intro u hu hua hl
      rcases Nat.lt_or_ge (d (an v)) (d u) with j | j
      · have := a7 u hu hua j; omega
      · have := b7 u hu (lt_conv hua j (by omega)) hl; omega
    · intro u hu hua hl
      exact b8 u hu (lt_conv hua (by omega) (by omega)) hl
  · rw [fo_un e, fo_un e]
    exact H v hv hkv
theorem fo_link {w : Nat} (T : lt_T R d p E) (H : fo_I R d p s (k + 1) an lb) (hw : R w) (h0 : w ≠ 0) (hd : d w = k) : fo_I R d p s k (fo_u an w (p w)) (fo_u lb w w) := by
  intro v hv hkv
  rcases Classical.em (v = w) with e | e
  · subst e
    rw [fo_us, fo_us]
    obtain ⟨h1, h2, h3, h4⟩ := T.2.2.2.1 v hv h0
    refine ⟨h1, h2, h4, hv, lt_refl v, hkv, ?_, ?_⟩
    · intro u hu hua hl
      rcases Nat.lt_or_ge (d u) (d v) with j | j
      · have := (lt_par T hv hua j).1; omega
      · have := hua.1
        rw [lt_inj T hu hv (by omega)]; exact Nat.le_refl _
    · intro u hu hua hl
      exact (lt_par T hv hua (by omega)).1
  · rw [fo_un e, fo_un e]
    have hne : d v ≠ k := fun c => e (lt_inj T hv hw (by omega))
    obtain ⟨a1, a2, a3, a4, a5, a6, a7, a8⟩ := H v hv (by omega)
    exact ⟨a1, a2, a3, a4, a5, by omega, a7, fun u hu hua hl => a8 u hu hua (by omega)⟩
theorem fo_congr {s' : Nat → Nat} (H : fo_I R d p s k an lb) (h : ∀ u, R u → k ≤ d u → s' u = s u) : fo_I R d p s' k an lb := by
  intro v hv hkv
  obtain ⟨a1, a2, a3, a4, a5, a6, a7, a8⟩ := H v hv hkv
  refine ⟨a1, a2, a3, a4, a5, a6, fun u hu hua hl => ?_, a8⟩
  have hku : k ≤ d u := by
    rcases Nat.lt_or_ge (d u) k with j | j
    · have := a8 u hu hua j; omega
    · exact j
  rw [h _ a4 a6, h u hu hku]
  exact a7 u hu hua hl
theorem fo_ext {an' lb' : Nat → Nat} (H : fo_I R d p s k an lb) (h : ∀ u, R u → k ≤ d u → an' u = an u ∧ lb' u = lb u) : fo_I R d p s k an' lb' := by
  intro v hv hkv
  rw [(h v hv hkv).1, (h v hv hkv).2]
  exact H v hv hkv
/-- what the label says once the ancestor is a root -/
theorem fo_val {v : Nat} (H : fo_I R d p s k an lb) (hv : R v) (hk : k ≤ d v) (ha : d (an v) < k) : fo_V R d p s k v (lb v) := by
  obtain ⟨a1, a2, a3, a4, a5, a6, a7, a8⟩ := H v hv hk
  exact ⟨a4, fun c => by omega, fun _ => ⟨a5, a6, fun u hu hua hl => a7 u hu hua (by omega)⟩⟩
end
end
section
/-! the depth-first search: rc vertices reached, D on the stack st, c v: the edges of v below it are done -/
def df_I (n m : Nat) (tl hd : Nat → Nat) (rc D : Nat) (R : Nat → Prop) (d p vt st c : Nat → Nat) : Prop :=
  (R 0 ∧ d 0 = 0 ∧ 0 < rc) ∧
  (∀ v, R v → v < n ∧ d v < rc ∧ vt (d v) = v) ∧
  (∀ i, i < rc → R (vt i) ∧ d (vt i) = i) ∧
  (∀ v, R v → v ≠ 0 → R (p v) ∧ d (p v) < d v ∧ (∃ e, e < m ∧ tl e = p v ∧ hd e = v) ∧ lt_A R d p (p v) v) ∧
  (∀ j, j < D → R (st j) ∧ ∀ x, R x → d (st j) < d x → d (st j) ≤ d (p x)) ∧
  (∀ i j, i < j → j < D → d (st i) < d (st j)) ∧
  (∀ e, e < m → R (tl e) → e < c (tl e) → R (hd e) ∧ (d (tl e) < d (hd e) → lt_A R d p (tl e) (hd e))) ∧
  (∀ v, R v → (∃ j, j < D ∧ st j = v) ∨ (∀ e, e < m → tl e = v → e < c v)) ∧
  (∀ v, ¬ R v → c v = 0)
section
variable {n m rc D : Nat} {tl hd : Nat → Nat} {R : Nat → Prop} {d p vt st c : Nat → Nat}
theorem df_0 (hn : 0 < n) (hR : ∀ v, R v ↔ v = 0) (hd0 : d 0 = 0) (hv : vt 0 = 0) (hs : st 0 = 0) (hc : ∀ v, c v = 0) : df_I n m tl hd 1 1 R d p vt st c := by
  refine ⟨⟨(hR 0).mpr rfl, hd0, by omega⟩, ?_, ?_, ?_, ?_, ?_, ?_, ?_, ?_⟩
  · intro v h
    have := (hR v).mp h
    subst this
    rw [hd0]; exact ⟨hn, by omega, hv⟩
  · intro i hi
    have : i = 0 := by omega
    subst this
    rw [hv]; exact ⟨(hR 0).mpr rfl, hd0⟩
  · intro v h h0; exact absurd ((hR v).mp h) h0
  · intro j hj
    have : j = 0 := by omega
    subst this
    rw [hs]
    refine ⟨(hR 0).mpr rfl, fun x hx hl => ?_⟩
    rw [(hR x).mp hx] at hl; omega
  · intro i j h1 h2; omega
  · intro e _ _ h; rw [hc] at h; omega
  · intro v h; exact Or.inl ⟨0, by omega, hs.trans ((hR v).mp h).symm⟩
  · intro v _; exact hc v
theorem df_pop (H : df_I n m tl hd rc (D + 1) R d p vt st c) (hx : ∀ e, e < m → tl e = st D → e < c (st D)) : df_I n m tl hd rc D R d p vt st c := by
  obtain ⟨h1, h2, h3, h4, h5, h6, h7, h8, h9⟩ := H
  refine ⟨h1, h2, h3, h4, fun j hj => h5 j (by omega), fun i j a b => h6 i j a (by omega), h7, ?_, h9⟩
  intro v hv
  rcases h8 v hv with ⟨j, hj, e⟩ | h
  · rcases Nat.lt_or_ge j D with q | q
    · exact Or.inl ⟨j, q, e⟩
    · have : j = D := by omega
      subst this
      subst e
      exact Or.inr hx
  · exact Or.inr h
theorem df_old {e : Nat} (H : df_I n m tl hd rc (D + 1) R d p vt st c) (he : e < m) (ht : tl e = st D) (hc : c (st D) ≤ e) (hn : ∀ e', c (st D) ≤ e' → e' < e → tl e' ≠ st D) (hw : R (hd e)) :
    df_I n m tl hd rc (D + 1) R d p vt st (fo_u c (st D) (e + 1)) := by
  obtain ⟨h1, h2, h3, h4, h5, h6, h7, h8, h9⟩ := H
  refine ⟨h1, h2, h3, h4, h5, h6, ?_, ?_, ?_⟩
  · intro e' he' hr hl
    rcases Classical.em (tl e' = st D) with q | q
    · rw [q, fo_us] at hl
      rcases Nat.lt_or_ge e' (c (st D)) with z | z
      · exact h7 e' he' hr (by rw [q]; exact z)
      · have : e' = e := by
          rcases Nat.lt_or_ge e' e with y | y
          · exact absurd q (hn e' z y)
          · omega
        subst this
        refine ⟨hw, fun hl => ?_⟩
        rw [q] at hl ⊢
        exact ⟨by omega, fun x hx hl2 _ => (h5 D (by omega)).2 x hx hl2⟩
    · rw [fo_un q] at hl
      exact h7 e' he' hr hl
  · intro v hv
    rcases h8 v hv with h | h
    · exact Or.inl h
    · refine Or.inr (fun e' he' hv' => ?_)
      rcases Classical.em (v = st D) with q | q
      · have := h e' he' hv'
        rw [q, fo_us]; rw [q] at this; omega
      · rw [fo_un q]; exact h e' he' hv'
  · intro v hv
    rw [fo_un (fun q => hv (by rw [q]; exact (h5 D (by omega)).1))]
    exact h9 v hv
theorem df_A {w rv v : Nat} {a b : Nat} (h0 : d 0 = 0) (hp : ∀ v, R v → v ≠ 0 → R (p v)) (hw : ¬ R w) (ha : R a) (hb : R b) (hlt : d b < rv) (h : lt_A R d p a b) : lt_A (fun x => R x ∨ x = w) (fo_u d w rv) (fo_u p w v) a b := by
  have ne : ∀ x, R x → x ≠ w := fun x hx e => hw (e ▸ hx)
  refine ⟨by rw [fo_un (ne a ha), fo_un (ne b hb)]; exact h.1, fun x hx h1 h2 => ?_⟩
  rw [fo_un (ne a ha)] at h1 ⊢
  rw [fo_un (ne b hb)] at h2
  rcases hx with hx | hx
  · rw [fo_un (ne x hx)] at h1 h2
    have x0 : x ≠ 0 := fun e => by rw [e, h0] at h1; omega
    rw [fo_un (f := p) (ne x hx), fo_un (ne _ (hp x hx x0))]
    exact h.2 x hx h1 h2
  · subst hx
    rw [fo_us] at h2; omega
theorem df_new {e w : Nat} (H : df_I n m tl hd rc (D + 1) R d p vt st c) (he : e < m) (ht : tl e = st D) (hc : c (st D) ≤ e) (hn : ∀ e', c (st D) ≤ e' → e' < e → tl e' ≠ st D) (hw : ¬ R w) (hwe : hd e = w) (hwn : w < n) :
    df_I n m tl hd (rc + 1) (D + 2) (fun x => R x ∨ x = w) (fo_u d w rc) (fo_u p w (st D)) (fo_u vt rc w) (fo_u st (D + 1) w) (fo_u c (st D) (e + 1)) := by
  obtain ⟨h1, h2, h3, h4, h5, h6, h7, h8, h9⟩ := H
  have ne : ∀ x, R x → x ≠ w := fun x hx e => hw (e ▸ hx)
  have hsD := h5 D (by omega)
  have w0 : w ≠ 0 := fun e => hw (e ▸ h1.1)
  have hlt : d (st D) < rc := (h2 _ hsD.1).2.1
  have AA : ∀ {a b}, R a → R b → lt_A R d p a b → lt_A (fun x => R x ∨ x = w) (fo_u d w rc) (fo_u p w (st D)) a b :=
    fun {a b} ha hb h => df_A h1.2.1 (fun v hv h0 => (h4 v hv h0).1) hw ha hb (h2 b hb).2.1 h
  -- the top is above every later one
  have top : ∀ j, j < D + 1 → d (st j) ≤ d (st D) := by
    intro j hj
    rcases Nat.lt_or_ge j D with q | q
    · have := h6 j D q (by omega); omega
    · have : j = D := by omega
      subst this; exact Nat.le_refl _
  have s3 : ∀ j, j < D + 1 → ∀ x, (R x ∨ x = w) → d (st j) < fo_u d w rc x → d (st j) ≤ fo_u d w rc (fo_u p w (st D) x) := by
    intro j hj x hx hl
    rcases hx with hx | hx
    · rw [fo_un (ne x hx)] at hl
      have x0 : x ≠ 0 := fun e => by rw [e, h1.2.1] at hl; omega
      rw [fo_un (f := p) (ne x hx), fo_un (ne _ (h4 x hx x0).1)]
      exact (h5 j (by omega)).2 x hx hl
    · subst hx
      rw [fo_us, fo_un (ne _ hsD.1)]
      exact top j hj
  have Aw : lt_A (fun x => R x ∨ x = w) (fo_u d w rc) (fo_u p w (st D)) (st D) w := by
    refine ⟨by rw [fo_un (ne _ hsD.1), fo_us]; omega, fun x hx hl _ => ?_⟩
    rw [fo_un (ne _ hsD.1)] at hl ⊢
    exact s3 D (by omega) x hx hl
  refine ⟨⟨Or.inl h1.1, by rw [fo_un (fun q => w0 q.symm)]; exact h1.2.1, by omega⟩, ?_, ?_, ?_, ?_, ?_, ?_, ?_, ?_⟩
  · intro v hv
    rcases hv with hv | hv
    · obtain ⟨a, b, c⟩ := h2 v hv
      rw [fo_un (ne v hv), fo_un (by omega)]
      exact ⟨a, by omega, c⟩
    · subst hv
      rw [fo_us, fo_us]
      exact ⟨hwn, by omega, rfl⟩
  · intro i hi
    rcases Nat.lt_or_ge i rc with q | q
    · obtain ⟨a, b⟩ := h3 i q
      rw [fo_un (f := vt) (by omega), fo_un (ne _ a)]
      exact ⟨Or.inl a, b⟩
    · have : i = rc := by omega
      subst this
      rw [fo_us, fo_us]
      exact ⟨Or.inr rfl, rfl⟩
  · intro v hv v0
    rcases hv with hv | hv
    · obtain ⟨a, b, c, f⟩ := h4 v hv v0
      rw [fo_un (f := p) (ne v hv), fo_un (ne v hv), fo_un (ne _ a)]
      exact ⟨Or.inl a, b, c, AA a hv f⟩
    · subst hv
      rw [fo_us (f := p), fo_us, fo_un (ne _ hsD.1)]
      exact ⟨Or.inl hsD.1, hlt, ⟨e, he, ht, hwe⟩, Aw⟩
  · intro j hj
    rcases Nat.lt_or_ge j (D + 1) with q | q
    · rw [fo_un (f := st) (by omega)]
      refine ⟨Or.inl (h5 j q).1, ?_⟩
      rw [fo_un (ne _ (h5 j q).1)]
      exact s3 j q
    · have : j = D + 1 := by omega
      subst this
      rw [fo_us]
      refine ⟨Or.inr rfl, fun x hx hl => ?_⟩
      rw [fo_us] at hl
      rcases hx with hx | hx
      · rw [fo_un (ne x hx)] at hl
        have := (h2 x hx).2.1; omega
      · subst hx; rw [fo_us] at hl; omega
  · intro i j hij hj
    rcases Nat.lt_or_ge j (D + 1) with q | q
    · rw [fo_un (f := st) (by omega), fo_un (f := st) (by omega), fo_un (ne _ (h5 i (by omega)).1), fo_un (ne _ (h5 j q).1)]
      exact h6 i j hij q
    · have : j = D + 1 := by omega
      subst this
      rw [fo_us, fo_us, fo_un (f := st) (by omega), fo_un (ne _ (h5 i (by omega)).1)]
      exact (h2 _ (h5 i (by omega)).1).2.1
  · intro e' he' hr hl
    rcases hr with hr | hr
    · rcases Classical.em (tl e' = st D) with q | q
      · rw [q, fo_us] at hl
        rcases Nat.lt_or_ge e' (c (st D)) with z | z
        · obtain ⟨a, b⟩ := h7 e' he' hr (by rw [q]; exact z)
          refine ⟨Or.inl a, fun hl => ?_⟩
          rw [fo_un (ne _ hr), fo_un (ne _ a)] at hl
          exact AA hr a (b hl)
        · have : e' = e := by
            rcases Nat.lt_or_ge e' e with y | y
            · exact absurd q (hn e' z y)
            · omega
          subst this
          rw [hwe, q]
          exact ⟨Or.inr rfl, fun _ => Aw⟩
      · rw [fo_un q] at hl
        obtain ⟨a, b⟩ := h7 e' he' hr hl
        refine ⟨Or.inl a, fun hl => ?_⟩
        rw [fo_un (ne _ hr), fo_un (ne _ a)] at hl
        exact AA hr a (b hl)
    · rw [hr, fo_un (fun q => ne _ hsD.1 q.symm), h9 w hw] at hl; omega
  · intro v hv
    rcases hv with hv | hv
    · rcases h8 v hv with ⟨j, hj, q⟩ | h
      · exact Or.inl ⟨j, by omega, by rw [fo_un (by omega)]; exact q⟩
      · refine Or.inr (fun e' he' hv' => ?_)
        rcases Classical.em (v = st D) with q | q
        · have := h e' he' hv'
          rw [q, fo_us]; rw [q] at this; omega
        · rw [fo_un q]; exact h e' he' hv'
    · exact Or.inl ⟨D + 1, by omega, by rw [fo_us]; exact hv.symm⟩
  · intro v hv
    have : v ≠ st D := fun q => hv (Or.inl (by rw [q]; exact hsD.1))
    rw [fo_un this]
    exact h9 v (fun q => hv (Or.inl q))
theorem df_end (hm : m ≤ 60) (H : df_I n m tl hd rc 0 R d p vt st c) : lt_T R d p (re_E m tl hd 60) := by
  obtain ⟨h1, h2, h3, h4, h5, h6, h7, h8, h9⟩ := H
  have cl : ∀ e, e < m → R (tl e) → e < c (tl e) := by
    intro e he hr
    rcases h8 _ hr with ⟨j, hj, _⟩ | h
    · omega
    · exact h e he rfl
  refine ⟨h1.1, h1.2.1, ?_, ?_, ?_, ?_⟩
  · intro a b ha hb e
    rw [← (h2 a ha).2.2, ← (h2 b hb).2.2, e]
  · intro v hv v0
    obtain ⟨a, b, ⟨e, e1, e2, e3⟩, f⟩ := h4 v hv v0
    exact ⟨a, b, ⟨e, e1, by omega, e2, e3⟩, f⟩
  · rintro a b ha ⟨e, e1, _, e2, e3⟩
    subst e2; subst e3
    exact (h7 e e1 ha (cl e e1 ha)).1
  · rintro a b ha ⟨e, e1, _, e2, e3⟩ hl
    subst e2; subst e3
    exact (h7 e e1 ha (cl e e1 ha)).2 hl
end
end
section
/-! a pointer: x is f j for the least j of [e, l) with P j, or -1 if there is none -/
def pt_P (P : Nat → Prop) (f : Nat → Nat) (e l : Nat) (x : Int32) : Prop :=
  (x = -1 ∧ ∀ j, e ≤ j → j < l → ¬ P j) ∨ (∃ j, e ≤ j ∧ j < l ∧ P j ∧ x = nI (f j) ∧ ∀ i, e ≤ i → i < j → ¬ P i)
theorem pt_e {P : Nat → Prop} {f : Nat → Nat} {e l : Nat} (h : l ≤ e) : pt_P P f e l (-1) := Or.inl ⟨rfl, fun j h1 h2 => by omega⟩
theorem pt_y {P : Nat → Prop} {f : Nat → Nat} {e l : Nat} (he : e < l) (h : P e) : pt_P P f e l (nI (f e)) :=
  Or.inr ⟨e, Nat.le_refl _, he, h, rfl, fun i h1 h2 => by omega⟩
theorem pt_n {P : Nat → Prop} {f : Nat → Nat} {e l : Nat} {x : Int32} (h : ¬ P e) (q : pt_P P f (e + 1) l x) : pt_P P f e l x := by
  have key : ∀ j, e ≤ j → ¬ e + 1 ≤ j → ¬ P j := fun j h1 h2 => by
    have : j = e := by omega
    rw [this]; exact h
  rcases q with ⟨h1, h2⟩ | ⟨j, h1, h2, h3, h4, h5⟩
  · refine Or.inl ⟨h1, fun j h3 h4 => ?_⟩
    rcases Nat.lt_or_ge j (e + 1) with z | z
    · exact key j h3 (by omega)
    · exact h2 j z h4
  · refine Or.inr ⟨j, by omega, h2, h3, h4, fun i h6 h7 => ?_⟩
    rcases Nat.lt_or_ge i (e + 1) with z | z
    · exact key i h6 (by omega)
    · exact h5 i z h7
theorem pt_congr {P Q : Nat → Prop} {f g : Nat → Nat} {e l : Nat} {x : Int32} (h : ∀ j, e ≤ j → j < l → ((P j ↔ Q j) ∧ f j = g j)) (q : pt_P P f e l x) : pt_P Q g e l x := by
  rcases q with ⟨h1, h2⟩ | ⟨j, h1, h2, h3, h4, h5⟩
  · exact Or.inl ⟨h1, fun j h3 h4 c => h2 j h3 h4 ((h j h3 h4).1.mpr c)⟩
  · refine Or.inr ⟨j, h1, h2, (h j h1 h2).1.mp h3, by rw [h4, (h j h1 h2).2], fun i h6 h7 c => h5 i h6 h7 ((h i h6 (by omega)).1.mpr c)⟩
theorem pt_nm1 {a : Nat} (h : a < 2 ^ 31) : ¬ nI a = -1 := by
  intro e
  have h1 := nI_toInt h
  rw [e, show (-1 : Int32).toInt = -1 from by decide] at h1
  omega
/-- chains of edges by their ends t: done for the edges from e on -/
def pt_C (n m : Nat) (t : Nat → Nat) (e : Nat) (fi ne : Nat → Int32) : Prop :=
  (∀ v, v < n → pt_P (fun j => t j = v) id e m (fi v)) ∧ (∀ j, e ≤ j → j < m → pt_P (fun i => t i = t j) id (j + 1) m (ne j))
theorem pt_C0 {n m : Nat} {t : Nat → Nat} {fi ne : Nat → Int32} (h : ∀ v, v < n → fi v = -1) : pt_C n m t m fi ne :=
  ⟨fun v hv => by rw [h v hv]; exact pt_e (Nat.le_refl _), fun j h1 h2 => by omega⟩
theorem pt_Cs {n m e : Nat} {t : Nat → Nat} {fi ne : Nat → Int32} (he : e < m) (ht : t e < n) (h : pt_C n m t (e + 1) fi ne) : pt_C n m t e (upd fi (t e) (nI e)) (upd ne e (fi (t e))) := by
  refine ⟨fun v hv => ?_, fun j h1 h2 => ?_⟩
  · rcases Classical.em (v = t e) with z | z
    · subst z
      rw [pk_us]
      exact pt_y (P := fun j => t j = t e) (f := id) he rfl
    · rw [pk_un z]
      exact pt_n (fun c => z c.symm) (h.1 v hv)
  · rcases Classical.em (j = e) with z | z
    · subst z
      rw [pk_us]
      exact h.1 (t j) ht
    · rw [pk_un z]
      exact h.2 j (by omega) h2
end
section
/-! the immediate dominators -/
def se_H (R : Nat → Prop) (d p s vt : Nat → Nat) (v h : Nat) : Prop :=
  (h = vt (s v) ∧ ∀ u, R u → lt_A R d p u v → s v < d u → s v ≤ s u) ∨
  (R h ∧ lt_A R d p h v ∧ s v < d h ∧ s h < s v ∧ ∀ u, R u → lt_A R d p u v → s v < d u → s h ≤ s u)
def se_G (R : Nat → Prop) (d : Nat → Nat) (E : Nat → Nat → Prop) (w g : Nat) : Prop := R g ∧ d g < d w ∧ ∀ x, re_D E x w ↔ (x = w ∨ re_D E x g)
section
variable {R : Nat → Prop} {d p s vt : Nat → Nat} {E : Nat → Nat → Prop}
theorem se_live (T : lt_T R d p E) (h24 : ¬ R 24) {w : Nat} (hw : R w) : re_R E 24 w := lt_path T w hw (fun c => h24 c.1)
theorem se_D (T : lt_T R d p E) (S : ∀ w, R w → w ≠ 0 → lt_S1 R d p E s w) (h24 : ¬ R 24) {x w : Nat} (hw : R w) : re_D E x w ↔ (R x ∧ lt_D R d p s x w) :=
  ⟨fun h => lt_Dm T S hw h.2, fun h => ⟨se_live T h24 hw, lt_Dr T S h.1 hw h.2⟩⟩
theorem se_le (T : lt_T R d p E) (S : ∀ w, R w → w ≠ 0 → lt_S1 R d p E s w) {x w : Nat} (hw : R w) (h : re_D E x w) : d x ≤ d w := (lt_Dm T S hw h.2).2.1.1
theorem se_D0 (T : lt_T R d p E) (S : ∀ w, R w → w ≠ 0 → lt_S1 R d p E s w) (h24 : ¬ R 24) (x : Nat) : re_D E x 0 ↔ x = 0 := by
  constructor
  · intro h
    have a := lt_Dm T S T.1 h.2
    have := a.2.1.1
    have := T.2.1
    exact lt_inj T a.1 T.1 (by omega)
  · intro h
    subst h
    exact re_D0 (se_live T h24 T.1)
theorem se_A (T : lt_T R d p E) (S : ∀ w, R w → w ≠ 0 → lt_S1 R d p E s w) (h24 : ¬ R 24) (hv : ∀ v, R v → vt (d v) = v) {w : Nat} (hw : R w) (w0 : w ≠ 0) (h : se_H R d p s vt w (vt (s w))) : se_G R d E w (vt (s w)) := by
  obtain ⟨s1, ⟨q, q1, q2, q3⟩, s3, s4⟩ := S w hw w0
  have e : vt (s w) = q := by rw [← q2]; exact hv q q1
  have hm : ∀ u, R u → lt_A R d p u w → s w < d u → s w ≤ s u := by
    rcases h with h | h
    · exact h.2
    · rw [e] at h; omega
  rw [e]
  refine ⟨q1, by omega, fun x => ?_⟩
  rw [se_D T S h24 hw, se_D T S h24 q1]
  constructor
  · rintro ⟨h1, h2⟩
    rcases Classical.em (x = w) with z | z
    · exact Or.inl z
    · exact Or.inr ⟨h1, (lt_c1 q3 q2 s1 hw h1 hm T).mp ⟨h2, z⟩⟩
  · rintro (h1 | ⟨h1, h2⟩)
    · subst h1
      exact (se_D T S h24 hw).mp (re_Dr (se_live T h24 hw))
    · exact ⟨h1, ((lt_c1 q3 q2 s1 hw h1 hm T).mpr h2).1⟩
theorem se_B (T : lt_T R d p E) (S : ∀ w, R w → w ≠ 0 → lt_S1 R d p E s w) (h24 : ¬ R 24) {w h : Nat} (hw : R w) (w0 : w ≠ 0) (H : se_H R d p s vt w h) (hn : h ≠ vt (s w)) :
    R h ∧ h ≠ 0 ∧ d h < d w ∧ ∀ g, se_G R d E h g → se_G R d E w g := by
  obtain ⟨s1, _, s3, s4⟩ := S w hw w0
  rcases H with H | ⟨h1, h2, h3, h4, h5⟩
  · exact absurd H.1 hn
  · have hlt : d h < d w := by
      have := h2.1
      rcases Nat.lt_or_ge (d h) (d w) with z | z
      · exact z
      · have : h = w := lt_inj T h1 hw (by omega)
        rw [this] at h4; omega
    refine ⟨h1, lt_ne0 T (by omega), hlt, fun g hg => ⟨hg.1, by have := hg.2.1; omega, fun x => ?_⟩⟩
    have c2 : ∀ x, R x → ((lt_D R d p s x w ∧ x ≠ w) ↔ (lt_D R d p s x h ∧ x ≠ h)) := fun x hx => lt_c2 h2 h1 h4 h3 s1 hw hx h5 T
    have gx : re_D E x g → x ≠ h := fun a e => by
      have := se_le T S hg.1 a
      have := hg.2.1
      rw [e] at *; omega
    constructor
    · intro a
      rcases Classical.em (x = w) with z | z
      · exact Or.inl z
      · have b := (se_D T S h24 hw).mp a
        have c := (c2 x b.1).mp ⟨b.2, z⟩
        rcases (hg.2.2 x).mp ((se_D T S h24 h1).mpr ⟨b.1, c.1⟩) with y | y
        · exact absurd y c.2
        · exact Or.inr y
    · rintro (a | a)
      · subst a
        exact re_Dr (se_live T h24 hw)
      · have b := (se_D T S h24 h1).mp ((hg.2.2 x).mpr (Or.inr a))
        exact (se_D T S h24 hw).mpr ⟨b.1, ((c2 x b.1).mpr ⟨b.2, gx a⟩).1⟩
end
end
section
/-! the dominator tree g: levels, sizes, places -/
def la_G (n rc : Nat) (R : Nat → Prop) (d vt g : Nat → Nat) (M : Nat → Nat → Prop) : Prop :=
  (R 0 ∧ d 0 = 0) ∧ (∀ v, R v → v < n ∧ d v < rc ∧ vt (d v) = v) ∧ (∀ i, i < rc → R (vt i) ∧ d (vt i) = i) ∧
  (∀ w, R w → w ≠ 0 → R (g w) ∧ d (g w) < d w ∧ ∀ x, M x w ↔ (x = w ∨ M x (g w))) ∧ (∀ x, M x 0 ↔ x = 0) ∧ (∀ x w, M x w → R w)
noncomputable def la_Z (n : Nat) (M : Nat → Nat → Prop) (v : Nat) : Nat := ba_cn (fun x => M v x) n
noncomputable def la_L (n : Nat) (M : Nat → Nat → Prop) (v : Nat) : Nat := ba_cn (fun x => M x v) n
/-- what the number j adds to v's size -/
noncomputable def la_f (n : Nat) (vt g : Nat → Nat) (M : Nat → Nat → Prop) (v j : Nat) : Nat := ba_b (0 < j ∧ g (vt j) = v) * la_Z n M (vt j)
section
variable {n rc : Nat} {R : Nat → Prop} {d vt g : Nat → Nat} {M : Nat → Nat → Prop}
theorem la_inj (G : la_G n rc R d vt g M) {a b : Nat} (ha : R a) (hb : R b) (h : d a = d b) : a = b := by
  rw [← (G.2.1 a ha).2.2, ← (G.2.1 b hb).2.2, h]
theorem la_pos (G : la_G n rc R d vt g M) {v : Nat} (hv : R v) (h0 : v ≠ 0) : 0 < d v := by
  rcases Nat.eq_zero_or_pos (d v) with z | z
  · exact absurd (la_inj G hv G.1.1 (by rw [z, G.1.2])) h0
  · exact z
theorem la_le (G : la_G n rc R d vt g M) {x : Nat} : ∀ w, R w → M x w → d x ≤ d w ∧ R x := by
  intro w
  induction w using ba_meas d with
  | h w ih =>
    intro hw h
    rcases Nat.eq_zero_or_pos w with e | e
    · subst e
      rw [(G.2.2.2.2.1 x).mp h]
      exact ⟨Nat.le_refl _, hw⟩
    · obtain ⟨g1, g2, g3⟩ := G.2.2.2.1 w hw (by omega)
      rcases (g3 x).mp h with z | z
      · subst z; exact ⟨Nat.le_refl _, hw⟩
      · have := ih (g w) g2 g1 z
        exact ⟨by omega, this.2⟩
theorem la_r (G : la_G n rc R d vt g M) {w : Nat} (hw : R w) : M w w := by
  rcases Nat.eq_zero_or_pos w with e | e
  · subst e; exact (G.2.2.2.2.1 0).mpr rfl
  · exact ((G.2.2.2.1 w hw (by omega)).2.2 w).mpr (Or.inl rfl)
theorem la_0 (G : la_G n rc R d vt g M) : ∀ w, R w → M 0 w := by
  intro w
  induction w using ba_meas d with
  | h w ih =>
    intro hw
    rcases Nat.eq_zero_or_pos w with e | e
    · subst e; exact la_r G hw
    · obtain ⟨g1, g2, g3⟩ := G.2.2.2.1 w hw (by omega)
      exact (g3 0).mpr (Or.inr (ih (g w) g2 g1))
/-- the child of v towards x -/
theorem la_ch (G : la_G n rc R d vt g M) {v : Nat} : ∀ x, R x → M v x → x ≠ v → ∃ c, R c ∧ c ≠ 0 ∧ g c = v ∧ M c x := by
  intro x
  induction x using ba_meas d with
  | h x ih =>
    intro hx h hn
    have x0 : x ≠ 0 := fun e => by
      subst e
      exact hn ((G.2.2.2.2.1 v).mp h).symm
    obtain ⟨g1, g2, g3⟩ := G.2.2.2.1 x hx x0
    rcases Classical.em (g x = v) with z | z
    · exact ⟨x, hx, x0, z, la_r G hx⟩
    · rcases (g3 v).mp h with y | y
      · exact absurd y.symm hn
      · obtain ⟨c, c1, c2, c3, c4⟩ := ih (g x) g2 g1 y z
        exact ⟨c, c1, c2, c3, (g3 c).mpr (Or.inr c4)⟩
theorem la_un (G : la_G n rc R d vt g M) {a b : Nat} (ha : R a) (a0 : a ≠ 0) (hb : R b) (b0 : b ≠ 0) (hg : g a = g b) : ∀ x, R x → M a x → M b x → a = b := by
  intro x
  induction x using ba_meas d with
  | h x ih =>
    intro hx h1 h2
    have x0 : x ≠ 0 := fun e => by
      subst e
      exact a0 ((G.2.2.2.2.1 a).mp h1)
    obtain ⟨g1, g2, g3⟩ := G.2.2.2.1 x hx x0
    have no : ∀ c, R c → c ≠ 0 → ¬ M c (g c) := fun c hc c0 q => by
      have := (la_le G (g c) (G.2.2.2.1 c hc c0).1 q).1
      have := (G.2.2.2.1 c hc c0).2.1
      omega
    rcases (g3 a).mp h1 with y | y
    · rcases (g3 b).mp h2 with z | z
      · exact y.trans z.symm
      · rw [← y, hg] at z
        exact absurd z (no b hb b0)
    · rcases (g3 b).mp h2 with z | z
      · rw [← z, ← hg] at y
        exact absurd y (no a ha a0)
      · exact ih (g x) g2 g1 y z
theorem la_L0 (G : la_G n rc R d vt g M) : la_L n M 0 = 1 := by
  have hn := (G.2.1 0 G.1.1).1
  have e := ba_cn_or (P := fun _ => False) (Q := fun x => M x 0) hn (fun h => h) (fun j _ => by rw [G.2.2.2.2.1 j]; simp)
  have z : ba_cn (fun _ => False) n = 0 := ba_sm_z (fun j _ => ba_f (fun h => h))
  rw [z] at e
  exact e
theorem la_Ls (G : la_G n rc R d vt g M) {w : Nat} (hw : R w) (w0 : w ≠ 0) : la_L n M w = la_L n M (g w) + 1 := by
  obtain ⟨g1, g2, g3⟩ := G.2.2.2.1 w hw w0
  refine ba_cn_or (c := w) (G.2.1 w hw).1 (fun q => ?_) (fun j _ => g3 j)
  have := (la_le G (g w) g1 q).1
  omega
theorem la_Zs (G : la_G n rc R d vt g M) {v : Nat} (hv : R v) : la_Z n M v = 1 + ba_sm (la_f n vt g M v) rc := by
  have e1 : la_Z n M v = ba_cn (fun x => M v x ∧ x ≠ v) n + 1 := by
    refine ba_cn_or (c := v) (G.2.1 v hv).1 (fun q => q.2 rfl) (fun j _ => ?_)
    constructor
    · intro h
      rcases Classical.em (j = v) with z | z
      · exact Or.inl z
      · exact Or.inr ⟨h, z⟩
    · rintro (h | h)
      · subst h; exact la_r G hv
      · exact h.1
  have e2 : ba_sm (la_f n vt g M v) rc = ba_sm (fun j => ba_sm (fun x => ba_b (0 < j ∧ g (vt j) = v ∧ M (vt j) x)) n) rc := by
    apply ba_sm_congr
    intro j _
    show ba_b (0 < j ∧ g (vt j) = v) * ba_cn (fun x => M (vt j) x) n = _
    rcases Classical.em (0 < j ∧ g (vt j) = v) with z | z
    · rw [ba_t z, Nat.one_mul]
      exact ba_sm_congr (fun x _ => ba_congr ⟨fun h => ⟨z.1, z.2, h⟩, fun h => h.2.2⟩)
    · rw [ba_f z, Nat.zero_mul]
      exact (ba_sm_z (fun x _ => ba_f (fun h => z ⟨h.1, h.2.1⟩))).symm
  have e3 : ba_sm (fun x => ba_sm (fun j => ba_b (0 < j ∧ g (vt j) = v ∧ M (vt j) x)) rc) n = ba_cn (fun x => M v x ∧ x ≠ v) n := by
    apply ba_sm_congr
    intro x _
    show ba_sm (fun j => ba_b (0 < j ∧ g (vt j) = v ∧ M (vt j) x)) rc = ba_b (M v x ∧ x ≠ v)
    rcases Classical.em (M v x ∧ x ≠ v) with z | z
    · have hx := G.2.2.2.2.2 v x z.1
      obtain ⟨c, c1, c2, c3, c4⟩ := la_ch G x hx z.1 z.2
      have hc := G.2.1 c c1
      rw [ba_t z, ba_sm_1 (c := d c) hc.2.1]
      · exact ba_t ⟨la_pos G c1 c2, by rw [hc.2.2]; exact c3, by rw [hc.2.2]; exact c4⟩
      · intro j hj hn
        refine ba_f (fun q => hn ?_)
        have hj2 := G.2.2.1 j hj
        have j0 : vt j ≠ 0 := fun e => by
          have := hj2.2
          rw [e, G.1.2] at this
          have := q.1
          omega
        have := la_un G hj2.1 j0 c1 c2 (q.2.1.trans c3.symm) x hx q.2.2 c4
        rw [← this, hj2.2]
    · rw [ba_f z]
      refine ba_sm_z (fun j hj => ba_f (fun q => z ?_))
      have hj2 := G.2.2.1 j hj
      have j0 : vt j ≠ 0 := fun e => by
        have := hj2.2
        rw [e, G.1.2] at this
        have := q.1
        omega
      obtain ⟨g1, g2, g3⟩ := G.2.2.2.1 (vt j) hj2.1 j0
      have hx := G.2.2.2.2.2 _ x q.2.2
      -- M is transitive here
      have tr : ∀ y, R y → M (vt j) y → M v y := by
        intro y
        induction y using ba_meas d with
        | h y ih =>
          intro hy h
          have y0 : y ≠ 0 := fun e => by
            subst e
            exact j0 ((G.2.2.2.2.1 _).mp h)
          obtain ⟨k1, k2, k3⟩ := G.2.2.2.1 y hy y0
          rcases (k3 _).mp h with w | w
          · refine (k3 v).mpr (Or.inr ?_)
            rw [← w, q.2.1]
            exact la_r G (q.2.1 ▸ g1)
          · exact (k3 v).mpr (Or.inr (ih (g y) k2 k1 w))
      refine ⟨tr x hx q.2.2, fun e => ?_⟩
      have a := (la_le G x hx q.2.2).1
      rw [e, ← q.2.1] at a
      omega
  rw [e1, e2, ba_sm_swap, e3, Nat.add_comm]
/-- places -/
def la_E (n rc : Nat) (R : Nat → Prop) (d vt g : Nat → Nat) (M : Nat → Nat → Prop) (en : Nat → Nat) : Prop :=
  en 0 = 0 ∧ ∀ c, R c → c ≠ 0 → en c = en (g c) + (1 + ba_sm (la_f n vt g M (g c)) (d c))
theorem la_pre {f : Nat → Nat} : ∀ {k l : Nat}, k ≤ l → ba_sm f k ≤ ba_sm f l := by
  intro k l h
  induction l with
  | zero =>
    have : k = 0 := by omega
    subst this; exact Nat.le_refl _
  | succ l ih =>
    rcases Nat.lt_or_ge l k with z | z
    · have : k = l + 1 := by omega
      subst this; exact Nat.le_refl _
    · have := ih z
      rw [ba_sms]; omega
theorem la_fc (G : la_G n rc R d vt g M) {c : Nat} (hc : R c) (c0 : c ≠ 0) : la_f n vt g M (g c) (d c) = la_Z n M c := by
  unfold la_f
  rw [(G.2.1 c hc).2.2, ba_t ⟨la_pos G hc c0, rfl⟩, Nat.one_mul]
theorem la_nest (G : la_G n rc R d vt g M) {en : Nat → Nat} (N : la_E n rc R d vt g M en) {c : Nat} (hc : R c) (c0 : c ≠ 0) : en (g c) < en c ∧ en c + la_Z n M c ≤ en (g c) + la_Z n M (g c) := by
  obtain ⟨g1, g2, g3⟩ := G.2.2.2.1 c hc c0
  have a := N.2 c hc c0
  have b := la_Zs G g1
  have e := la_pre (f := la_f n vt g M (g c)) (show d c + 1 ≤ rc from (G.2.1 c hc).2.1)
  rw [ba_sms, la_fc G hc c0] at e
  omega
theorem la_sib (G : la_G n rc R d vt g M) {en : Nat → Nat} (N : la_E n rc R d vt g M en) {a b : Nat} (ha : R a) (a0 : a ≠ 0) (hb : R b) (b0 : b ≠ 0) (hg : g a = g b) (hl : d a < d b) : en a + la_Z n M a ≤ en b := by
  have x := N.2 a ha a0
  have y := N.2 b hb b0
  have e := la_pre (f := la_f n vt g M (g a)) (show d a + 1 ≤ d b from hl)
  rw [ba_sms, la_fc G ha a0] at e
  rw [← hg] at y
  omega
theorem la_in (G : la_G n rc R d vt g M) {en : Nat → Nat} (N : la_E n rc R d vt g M en) {u : Nat} : ∀ v, R v → M u v → en u ≤ en v ∧ en v + la_Z n M v ≤ en u + la_Z n M u := by
  intro v
  induction v using ba_meas d with
  | h v ih =>
    intro hv h
    rcases Classical.em (u = v) with z | z
    · subst z; exact ⟨Nat.le_refl _, Nat.le_refl _⟩
    · have v0 : v ≠ 0 := fun e => by
        subst e
        exact z ((G.2.2.2.2.1 u).mp h)
      obtain ⟨g1, g2, g3⟩ := G.2.2.2.1 v hv v0
      rcases (g3 u).mp h with y | y
      · exact absurd y z
      · have a := ih (g v) g2 g1 y
        have b := la_nest G N hv v0
        omega
theorem la_Zp (G : la_G n rc R d vt g M) {v : Nat} (hv : R v) : 0 < la_Z n M v := by
  rw [la_Zs G hv]; omega
theorem la_over (G : la_G n rc R d vt g M) {en : Nat → Nat} (N : la_E n rc R d vt g M en) : ∀ u, R u → ∀ v, R v → ((en u ≤ en v ∧ en v < en u + la_Z n M u) ↔ M u v) := by
  intro u
  induction u using ba_meas d with
  | h u ih =>
    intro hu v hv
    constructor
    · intro h
      rcases Nat.eq_zero_or_pos u with e | e
      · subst e; exact la_0 G v hv
      · obtain ⟨g1, g2, g3⟩ := G.2.2.2.1 u hu (by omega)
        have b := la_nest G N hu (by omega)
        have m := (ih (g u) g2 g1 v hv).mp (by omega)
        have ne : v ≠ g u := fun e => by
          rw [e] at h; omega
        obtain ⟨c, c1, c2, c3, c4⟩ := la_ch G v hv m ne
        have i := la_in G N v hv c4
        have zp := la_Zp G hv
        rcases Nat.lt_trichotomy (d u) (d c) with y | y | y
        · have := la_sib G N hu (by omega) c1 c2 c3.symm y
          omega
        · rw [la_inj G hu c1 y]; exact c4
        · have := la_sib G N c1 c2 hu (by omega) c3 y
          omega
    · intro h
      have i := la_in G N v hv h
      have zp := la_Zp G hv
      omega
theorem la_max (G : la_G n rc R d vt g M) {en : Nat → Nat} (N : la_E n rc R d vt g M en) {v : Nat} (hv : R v) : en v + la_Z n M v ≤ n := by
  have a := la_in G N v hv (la_0 G v hv)
  have b := ba_cn_le (fun x => M 0 x) n
  have c := N.1
  unfold la_Z at *
  omega
end
end
section
/-! breadth-first search -/
def bf_I (n m : Nat) (tl hd : Nat → Nat) (Q k c : Nat) (q fr : Nat → Nat) (F : Nat → Prop) : Prop :=
  (0 < Q ∧ q 0 = 0 ∧ fr 0 = 0) ∧ (∀ j, j < Q → q j < n ∧ F (q j)) ∧ (∀ i j, i < Q → j < Q → q i = q j → i = j) ∧
  (∀ w, F w → ∃ j, j < Q ∧ q j = w) ∧ (∀ j, 0 < j → j < Q → ∃ i, i < j ∧ fr (q j) = q i ∧ re_E m tl hd 60 (q i) (q j)) ∧
  (∀ j, j < k → j < Q → ∀ e, e < m → tl e = q j → F (hd e)) ∧ (k < Q → ∀ e, e < c → e < m → tl e = q k → F (hd e))
section
variable {n m Q k c : Nat} {tl hd q fr : Nat → Nat} {F : Nat → Prop}
theorem bf_0 (hn : 0 < n) (hq : q 0 = 0) (hf : fr 0 = 0) (hF : ∀ w, F w ↔ w = 0) : bf_I n m tl hd 1 0 0 q fr F := by
  refine ⟨⟨by omega, hq, hf⟩, ?_, ?_, ?_, ?_, ?_, ?_⟩
  · intro j hj
    have : j = 0 := by omega
    subst this
    rw [hq]; exact ⟨hn, (hF 0).mpr rfl⟩
  · intro i j hi hj _; omega
  · intro w hw; exact ⟨0, by omega, by rw [hq, (hF w).mp hw]⟩
  · intro j h1 h2; omega
  · intro j h1; omega
  · intro _ e he; omega
theorem bf_room {w : Nat} (H : bf_I n m tl hd Q k c q fr F) (hw : ¬ F w) (hwn : w < n) : Q < n := by
  obtain ⟨h1, h2, h3, h4, h5, h6, h7⟩ := H
  refine ba_pig (f := fo_u q Q w) (k := Q + 1) ?_ ?_
  · intro i hi
    rcases Nat.lt_or_ge i Q with z | z
    · rw [fo_un (by omega)]; exact (h2 i z).1
    · have : i = Q := by omega
      subst this; rw [fo_us]; exact hwn
  · intro i j hi hj e
    rcases Nat.lt_or_ge i Q with z | z <;> rcases Nat.lt_or_ge j Q with y | y
    · rw [fo_un (by omega), fo_un (by omega)] at e
      exact h3 i j z y e
    · have : j = Q := by omega
      subst this
      rw [fo_us, fo_un (by omega)] at e
      exact absurd (h2 i z).2 (by rw [e]; exact hw)
    · have : i = Q := by omega
      subst this
      rw [fo_us, fo_un (by omega)] at e
      exact absurd (h2 j y).2 (by rw [← e]; exact hw)
    · omega
theorem bf_le (H : bf_I n m tl hd Q k c q fr F) : Q ≤ n := ba_pig (f := q) (fun i hi => (H.2.1 i hi).1) H.2.2.1
theorem bf_old {e : Nat} (H : bf_I n m tl hd Q k c q fr F) (hn : ∀ e', c ≤ e' → e' < e → tl e' ≠ q k) (hF : F (hd e)) : bf_I n m tl hd Q k (e + 1) q fr F := by
  obtain ⟨h1, h2, h3, h4, h5, h6, h7⟩ := H
  refine ⟨h1, h2, h3, h4, h5, h6, fun hk e' he hm ht => ?_⟩
  rcases Nat.lt_or_ge e' c with z | z
  · exact h7 hk e' z hm ht
  · rcases Nat.lt_or_ge e' e with y | y
    · exact absurd ht (hn e' z y)
    · have : e' = e := by omega
      subst this; exact hF
theorem bf_new {e w : Nat} (hm : m ≤ 60) (H : bf_I n m tl hd Q k c q fr F) (hk : k < Q) (he : e < m) (ht : tl e = q k) (hn : ∀ e', c ≤ e' → e' < e → tl e' ≠ q k) (hF : ¬ F w) (hw : hd e = w) (hwn : w < n) :
    bf_I n m tl hd (Q + 1) k (e + 1) (fo_u q Q w) (fo_u fr w (q k)) (fun x => F x ∨ x = w) := by
  obtain ⟨h1, h2, h3, h4, h5, h6, h7⟩ := H
  have ne : ∀ j, j < Q → q j ≠ w := fun j hj e => hF (by rw [← e]; exact (h2 j hj).2)
  have w0 : w ≠ 0 := fun e => ne 0 h1.1 (by rw [h1.2.1, e])
  refine ⟨⟨by omega, by rw [fo_un (by omega)]; exact h1.2.1, by rw [fo_un (fun z => w0 z.symm)]; exact h1.2.2⟩, ?_, ?_, ?_, ?_, ?_, ?_⟩
  · intro j hj
    rcases Nat.lt_or_ge j Q with z | z
    · rw [fo_un (by omega)]; exact ⟨(h2 j z).1, Or.inl (h2 j z).2⟩
    · have : j = Q := by omega
      subst this; rw [fo_us]; exact ⟨hwn, Or.inr rfl⟩
  · intro i j hi hj e
    rcases Nat.lt_or_ge i Q with z | z <;> rcases Nat.lt_or_ge j Q with y | y
    · rw [fo_un (by omega), fo_un (by omega)] at e
      exact h3 i j z y e
    · have : j = Q := by omega
      subst this
      rw [fo_us, fo_un (by omega)] at e
      exact absurd e (ne i z)
    · have : i = Q := by omega
      subst this
      rw [fo_us, fo_un (by omega)] at e
      exact absurd e.symm (ne j y)
    · omega
  · rintro x (hx | hx)
    · obtain ⟨j, hj, e⟩ := h4 x hx
      exact ⟨j, by omega, by rw [fo_un (by omega)]; exact e⟩
    · exact ⟨Q, by omega, by rw [fo_us]; exact hx.symm⟩
  · intro j j0 hj
    rcases Nat.lt_or_ge j Q with z | z
    · obtain ⟨i, i1, i2, i3⟩ := h5 j j0 z
      refine ⟨i, i1, ?_⟩
      rw [fo_un (f := q) (by omega), fo_un (f := q) (by omega), fo_un (ne j z)]
      exact ⟨i2, i3⟩
    · have : j = Q := by omega
      subst this
      refine ⟨k, hk, ?_⟩
      rw [fo_us, fo_us, fo_un (by omega)]
      exact ⟨rfl, e, he, by omega, ht, hw⟩
  · intro j hj hQ e' he' ht'
    rcases Nat.lt_or_ge j Q with z | z
    · rw [fo_un (by omega)] at ht'
      exact Or.inl (h6 j hj z e' he' ht')
    · omega
  · intro _ e' he' hm' ht'
    rw [fo_un (by omega)] at ht'
    rcases Nat.lt_or_ge e' c with z | z
    · exact Or.inl (h7 hk e' z hm' ht')
    · rcases Nat.lt_or_ge e' e with y | y
      · exact absurd ht' (hn e' z y)
      · have : e' = e := by omega
        subst this; exact Or.inr hw
theorem bf_next (H : bf_I n m tl hd Q k c q fr F) (hk : k < Q) (hx : ∀ e, c ≤ e → e < m → tl e ≠ q k) : bf_I n m tl hd Q (k + 1) 0 q fr F := by
  obtain ⟨h1, h2, h3, h4, h5, h6, h7⟩ := H
  refine ⟨h1, h2, h3, h4, h5, ?_, fun _ e he => by omega⟩
  intro j hj hQ e he ht
  rcases Nat.lt_or_ge j k with z | z
  · exact h6 j z hQ e he ht
  · have : j = k := by omega
    subst this
    rcases Nat.lt_or_ge e c with y | y
    · exact h7 hk e y he ht
    · exact absurd ht (hx e y he)
theorem bf_all (H : bf_I n m tl hd Q k c q fr F) (hk : Q ≤ k) {v : Nat} (hv : re_R (re_E m tl hd 60) 24 v) : F v := by
  obtain ⟨h1, h2, h3, h4, h5, h6, h7⟩ := H
  refine hv F (fun _ => by have := (h2 0 h1.1).2; rw [h1.2.1] at this; exact this) ?_
  rintro a b ha ⟨e, e1, _, e2, e3⟩ _
  obtain ⟨j, hj, q⟩ := h4 a ha
  rw [← e3]
  exact h6 j (by omega) hj e e1 (e2.trans q.symm)
end
/-- iterates -/
def bf_it (f : Nat → Nat) (v : Nat) : Nat → Nat
  | 0 => v
  | i + 1 => f (bf_it f v i)
theorem bf_its {f : Nat → Nat} {v i : Nat} : bf_it f v (i + 1) = f (bf_it f v i) := rfl
/-- a simple path -/
def sw_Y (n m : Nat) (tl hd : Nat → Nat) (L : Nat) (y : Nat → Nat) : Prop :=
  y 0 = 0 ∧ (∀ i, i < L → re_E m tl hd 60 (y i) (y (i + 1))) ∧ (∀ i j, i ≤ L → j ≤ L → y i = y j → i = j) ∧ (∀ i, i ≤ L → y i < n)
section
variable {n m Q k c : Nat} {tl hd q fr : Nat → Nat} {F : Nat → Prop}
/-- going back along fr: the place in the queue falls -/
theorem bf_back (H : bf_I n m tl hd Q k c q fr F) {v : Nat} : ∀ i, ∀ j, j < Q → bf_it fr v i = q j → bf_it fr v i ≠ 0 → ∃ j', j' < j ∧ bf_it fr v (i + 1) = q j' ∧ re_E m tl hd 60 (bf_it fr v (i + 1)) (bf_it fr v i) := by
  intro i j hj e h0
  have j0 : 0 < j := by
    rcases Nat.eq_zero_or_pos j with z | z
    · subst z; exact absurd (e.trans H.1.2.1) h0
    · exact z
  obtain ⟨j', a, b, c⟩ := H.2.2.2.2.1 j j0 hj
  refine ⟨j', a, ?_, ?_⟩
  · rw [bf_its, e]; exact b
  · rw [bf_its, e, b]; exact c
/-- the first len steps back are not at 0: then places fall by len -/
theorem bf_pos (H : bf_I n m tl hd Q k c q fr F) {v j0 : Nat} (hj0 : j0 < Q) (hv : v = q j0) : ∀ len, (∀ i, i < len → bf_it fr v i ≠ 0) → ∃ j, j + len ≤ j0 ∧ bf_it fr v len = q j := by
  intro len
  induction len with
  | zero => intro _; exact ⟨j0, by omega, hv⟩
  | succ len ih =>
    intro h
    obtain ⟨j, a, b⟩ := ih (fun i hi => h i (by omega))
    obtain ⟨j', c, e, _⟩ := bf_back H len j (by omega) b (h len (by omega))
    exact ⟨j', by omega, e⟩
theorem bf_path (H : bf_I n m tl hd Q k c q fr F) {v : Nat} (hF : F v) {L : Nat} (hL : ∀ i, i < L → bf_it fr v i ≠ 0) (h0 : bf_it fr v L = 0) : sw_Y n m tl hd L (fun i => bf_it fr v (L - i)) := by
  obtain ⟨j0, hj0, hv⟩ := H.2.2.2.1 v hF
  have P : ∀ i, i ≤ L → ∃ j, j + i ≤ j0 ∧ bf_it fr v i = q j := fun i hi => bf_pos H hj0 hv.symm i (fun t ht => hL t (by omega))
  refine ⟨h0, ?_, ?_, ?_⟩
  · intro i hi
    obtain ⟨j, a, b⟩ := P (L - (i + 1)) (by omega)
    obtain ⟨j', c, e, f⟩ := bf_back H (L - (i + 1)) j (by omega) b (hL _ (by omega))
    have : L - (i + 1) + 1 = L - i := by omega
    rw [this] at f
    exact f
  · -- different places in the queue
    have ne : ∀ i t, i < t → t ≤ L → bf_it fr v i ≠ bf_it fr v t := by
      intro i t hit ht
      obtain ⟨j, a, b⟩ := P i (by omega)
      have key : ∀ x, i + x + 1 ≤ L → ∃ j', j' < j ∧ j' < Q ∧ bf_it fr v (i + x + 1) = q j' := by
        intro x
        induction x with
        | zero =>
          intro hx
          obtain ⟨j', c, e, _⟩ := bf_back H i j (by omega) b (hL i (by omega))
          exact ⟨j', c, by omega, e⟩
        | succ x ih =>
          intro hx
          obtain ⟨j', c, c', e⟩ := ih (by omega)
          obtain ⟨j'', f, g, _⟩ := bf_back H (i + x + 1) j' c' e (hL _ (by omega))
          exact ⟨j'', by omega, by omega, g⟩
      obtain ⟨j', c, c', e⟩ := key (t - i - 1) (by omega)
      have : i + (t - i - 1) + 1 = t := by omega
      rw [this] at e
      rw [b, e]
      intro h
      have := H.2.2.1 j j' (by omega) c' h
      omega
    intro i j hi hj e
    rcases Nat.lt_trichotomy i j with z | z | z
    · exact absurd e.symm (ne (L - j) (L - i) (by omega) (by omega))
    · exact z
    · exact absurd e (ne (L - i) (L - j) (by omega) (by omega))
  · intro i hi
    obtain ⟨j, a, b⟩ := P (L - i) (by omega)
    show bf_it fr v (L - i) < n
    rw [b]; exact (H.2.1 j (by omega)).1
end
/-- the edges of x below c lead to the path up to f, or to visited ones -/
def sw_c (m : Nat) (tl hd y : Nat → Nat) (f : Nat) (V : Nat → Prop) (c x : Nat) : Prop := ∀ e, e < c → e < m → tl e = x → (∃ j, j ≤ f ∧ hd e = y j) ∨ V (hd e)
theorem sw_cm {m : Nat} {tl hd y : Nat → Nat} {f f' : Nat} {V V' : Nat → Prop} {c x : Nat} (h : sw_c m tl hd y f V c x) (hf : f ≤ f') (hV : ∀ w, V w → V' w) : sw_c m tl hd y f' V' c x := by
  intro e he hm ht
  rcases h e he hm ht with ⟨j, a, b⟩ | a
  · exact Or.inl ⟨j, by omega, b⟩
  · exact Or.inr (hV _ a)
/-- stage k: what leaves the path before its vertex k is done -/
def sw_K (n m : Nat) (tl hd : Nat → Nat) (L : Nat) (y : Nat → Nat) (k f : Nat) (V : Nat → Prop) : Prop :=
  f ≤ L ∧ (∀ j, k < j → j < f → re_R (re_E m tl hd 60) (y j) (y f)) ∧
  (∀ w, V w → w < n ∧ (∀ j, j ≤ L → y j ≠ w) ∧ ∀ j, k < j → j ≤ L → re_R (re_E m tl hd 60) (y j) w) ∧
  (∀ i, i < k → sw_c m tl hd y f V m (y i))
def sw_I (n m : Nat) (tl hd : Nat → Nat) (L : Nat) (y : Nat → Nat) (k f : Nat) (V : Nat → Prop) (Q i c : Nat) (q : Nat → Nat) : Prop :=
  sw_K n m tl hd L y k f V ∧ (∀ w, V w → sw_c m tl hd y f V m w ∨ ∃ j, i ≤ j ∧ j < Q ∧ q j = w) ∧
  (0 < Q ∧ q 0 = y k) ∧ (∀ j, 0 < j → j < Q → V (q j)) ∧ (∀ a b, a < Q → b < Q → q a = q b → a = b) ∧
  (0 < i → sw_c m tl hd y f V m (y k)) ∧ (i < Q → sw_c m tl hd y f V c (q i))
section
variable {n m L k f Q i c : Nat} {tl hd y q : Nat → Nat} {V : Nat → Prop}
theorem sw_K0 (hV : ∀ w, ¬ V w) : sw_K n m tl hd L y 0 0 V :=
  ⟨Nat.zero_le _, fun j h1 h2 => by omega, fun w h => absurd h (hV w), fun i hi => by omega⟩
theorem sw_I0 (K : sw_K n m tl hd L y k f V) (hV : ∀ w, V w → sw_c m tl hd y f V m w) (hq : q 0 = y k) : sw_I n m tl hd L y k f V 1 0 0 q :=
  ⟨K, fun w h => Or.inl (hV w h), ⟨by omega, hq⟩, fun j h1 h2 => by omega, fun a b h1 h2 _ => by omega, fun h => by omega, fun _ e he => by omega⟩
/-- along the path, before the vertex j -/
theorem sw_pre (Y : sw_Y n m tl hd L y) {j : Nat} (hj : j ≤ L) : ∀ i, i < j → re_R (re_E m tl hd 60) (y j) (y i) := by
  have j0 : 0 < j → y j ≠ 0 := fun h e => by
    have := Y.2.2.1 j 0 hj (by omega) (e.trans Y.1.symm)
    omega
  intro i
  induction i with
  | zero => intro h; rw [Y.1]; exact re_0 (j0 h)
  | succ i ih =>
    intro h
    refine re_s (ih (by omega)) (Y.2.1 i (by omega)) (fun e => ?_)
    have := Y.2.2.1 (i + 1) j (by omega) hj e
    omega
/-- along the path, behind -/
theorem sw_post (Y : sw_Y n m tl hd L y) {j t : Nat} (hj : j < t) (h : re_R (re_E m tl hd 60) (y j) (y t)) : ∀ x, t + x ≤ L → re_R (re_E m tl hd 60) (y j) (y (t + x)) := by
  intro x
  induction x with
  | zero => intro _; exact h
  | succ x ih =>
    intro hx
    refine re_s (ih (by omega)) (Y.2.1 (t + x) (by omega)) (fun e => ?_)
    have := Y.2.2.1 (t + x + 1) j (by omega) (by omega) e
    omega
theorem sw_src (Y : sw_Y n m tl hd L y) (H : sw_I n m tl hd L y k f V Q i c q) (hi : i < Q) {j : Nat} (hk : k < j) (hj : j ≤ L) : re_R (re_E m tl hd 60) (y j) (q i) := by
  obtain ⟨K, h1, h2, h3, h4, h5, h6⟩ := H
  rcases Nat.eq_zero_or_pos i with z | z
  · subst z; rw [h2.2]; exact sw_pre Y hj k hk
  · exact (K.2.2.1 _ (h3 i z hi)).2.2 j hk hj
theorem sw_cs {x e : Nat} (h : sw_c m tl hd y f V c x) (hn : ∀ e', c ≤ e' → e' < e → tl e' ≠ x) (he : (∃ j, j ≤ f ∧ hd e = y j) ∨ V (hd e)) : sw_c m tl hd y f V (e + 1) x := by
  intro e' h1 hm ht
  rcases Nat.lt_or_ge e' c with z | z
  · exact h e' z hm ht
  · rcases Nat.lt_or_ge e' e with w | w
    · exact absurd ht (hn e' z w)
    · have : e' = e := by omega
      subst this; exact he
/-- an edge to a place on the path that is known, or to a visited one -/
theorem sw_old {e : Nat} (H : sw_I n m tl hd L y k f V Q i c q) (hn : ∀ e', c ≤ e' → e' < e → tl e' ≠ q i) (he : (∃ j, j ≤ f ∧ hd e = y j) ∨ V (hd e)) : sw_I n m tl hd L y k f V Q i (e + 1) q := by
  obtain ⟨K, h1, h2, h3, h4, h5, h6⟩ := H
  exact ⟨K, h1, h2, h3, h4, h5, fun hi => sw_cs (h6 hi) hn he⟩
/-- an edge to a farther place on the path -/
theorem sw_far {e j : Nat} (hm : m ≤ 60) (Y : sw_Y n m tl hd L y) (H : sw_I n m tl hd L y k f V Q i c q) (hi : i < Q) (he : e < m) (ht : tl e = q i) (hn : ∀ e', c ≤ e' → e' < e → tl e' ≠ q i) (hj : j ≤ L) (hfj : f < j) (hw : hd e = y j) :
    sw_I n m tl hd L y k j V Q i (e + 1) q := by
  have src := fun {t : Nat} (h1 : k < t) (h2 : t ≤ L) => sw_src Y H hi h1 h2
  obtain ⟨K, h1, h2, h3, h4, h5, h6⟩ := H
  have mo : ∀ {c x}, sw_c m tl hd y f V c x → sw_c m tl hd y j V c x := fun h => sw_cm h (by omega) (fun _ z => z)
  refine ⟨⟨hj, ?_, K.2.2.1, fun i hi => mo (K.2.2.2 i hi)⟩, fun w hw => (h1 w hw).imp mo id, h2, h3, h4, fun z => mo (h5 z), fun hi => sw_cs (mo (h6 hi)) hn (Or.inl ⟨j, Nat.le_refl _, hw⟩)⟩
  intro t a b
  refine re_s (src a (by omega)) ⟨e, he, by omega, ht, hw⟩ (fun z => ?_)
  have := Y.2.2.1 j t hj (by omega) z
  omega
theorem sw_room {w : Nat} (Y : sw_Y n m tl hd L y) (hk : k ≤ L) (H : sw_I n m tl hd L y k f V Q i c q) (hp : ∀ j, j ≤ L → y j ≠ w) (hV : ¬ V w) (hwn : w < n) : Q < n := by
  obtain ⟨K, h1, h2, h3, h4, h5, h6⟩ := H
  have ne : ∀ j, j < Q → q j ≠ w := by
    intro j hj e
    rcases Nat.eq_zero_or_pos j with z | z
    · subst z; exact hp k hk (h2.2.symm.trans e)
    · exact hV (by rw [← e]; exact h3 j z hj)
  have lt : ∀ j, j < Q → q j < n := by
    intro j hj
    rcases Nat.eq_zero_or_pos j with z | z
    · subst z; rw [h2.2]; exact Y.2.2.2 k hk
    · exact (K.2.2.1 _ (h3 j z hj)).1
  refine ba_pig (f := fo_u q Q w) (k := Q + 1) ?_ ?_
  · intro i hi
    rcases Nat.lt_or_ge i Q with z | z
    · rw [fo_un (by omega)]; exact lt i z
    · have : i = Q := by omega
      subst this; rw [fo_us]; exact hwn
  · intro i j hi hj e
    rcases Nat.lt_or_ge i Q with z | z <;> rcases Nat.lt_or_ge j Q with y | y
    · rw [fo_un (by omega), fo_un (by omega)] at e
      exact h4 i j z y e
    · have : j = Q := by omega
      subst this
      rw [fo_us, fo_un (by omega)] at e
      exact absurd e (ne i z)
    · have : i = Q := by omega
      subst this
      rw [fo_us, fo_un (by omega)] at e
      exact absurd e.symm (ne j y)
    · omega
theorem sw_new {e w : Nat} (hm : m ≤ 60) (Y : sw_Y n m tl hd L y) (hk : k ≤ L) (H : sw_I n m tl hd L y k f V Q i c q) (hi : i < Q) (he : e < m) (ht : tl e = q i) (hn : ∀ e', c ≤ e' → e' < e → tl e' ≠ q i) (hw : hd e = w)
    (hp : ∀ j, j ≤ L → y j ≠ w) (hV : ¬ V w) (hwn : w < n) : sw_I n m tl hd L y k f (fun x => V x ∨ x = w) (Q + 1) i (e + 1) (fo_u q Q w) := by
  have src := fun {t : Nat} (h1 : k < t) (h2 : t ≤ L) => sw_src Y H hi h1 h2
  obtain ⟨K, h1, h2, h3, h4, h5, h6⟩ := H
  have mo : ∀ {c x}, sw_c m tl hd y f V c x → sw_c m tl hd y f (fun x => V x ∨ x = w) c x := fun h => sw_cm h (Nat.le_refl _) (fun _ z => Or.inl z)
  have ne : ∀ j, j < Q → q j ≠ w := by
    intro j hj e
    rcases Nat.eq_zero_or_pos j with z | z
    · subst z; exact hp k hk (h2.2.symm.trans e)
    · exact hV (by rw [← e]; exact h3 j z hj)
  refine ⟨⟨K.1, K.2.1, ?_, fun i hi => mo (K.2.2.2 i hi)⟩, ?_, ⟨by omega, by rw [fo_un (by omega)]; exact h2.2⟩, ?_, ?_, fun z => mo (h5 z), ?_⟩
  · rintro x (hx | hx)
    · exact K.2.2.1 x hx
    · subst hx
      exact ⟨hwn, hp, fun j a b => re_s (src a b) ⟨e, he, by omega, ht, hw⟩ (fun z => hp j b z.symm)⟩
  · rintro x (hx | hx)
    · rcases h1 x hx with a | ⟨j, a, b, d⟩
      · exact Or.inl (mo a)
      · exact Or.inr ⟨j, a, by omega, by rw [fo_un (by omega)]; exact d⟩
    · exact Or.inr ⟨Q, by omega, by omega, by rw [fo_us]; exact hx.symm⟩
  · intro j a b
    rcases Nat.lt_or_ge j Q with z | z
    · rw [fo_un (by omega)]; exact Or.inl (h3 j a z)
    · have : j = Q := by omega
      subst this; rw [fo_us]; exact Or.inr rfl
  · intro i j hi hj e
    rcases Nat.lt_or_ge i Q with z | z <;> rcases Nat.lt_or_ge j Q with y | y
    · rw [fo_un (by omega), fo_un (by omega)] at e
      exact h4 i j z y e
    · have : j = Q := by omega
      subst this
      rw [fo_us, fo_un (by omega)] at e
      exact absurd e (ne i z)
    · have : i = Q := by omega
      subst this
      rw [fo_us, fo_un (by omega)] at e
      exact absurd e.symm (ne j y)
    · omega
  · intro _
    rw [fo_un (by omega)]
    exact sw_cs (mo (h6 hi)) hn (Or.inr (Or.inr hw))
theorem sw_next (H : sw_I n m tl hd L y k f V Q i c q) (hi : i < Q) (hx : ∀ e, c ≤ e → e < m → tl e ≠ q i) : sw_I n m tl hd L y k f V Q (i + 1) 0 q := by
  obtain ⟨K, h1, h2, h3, h4, h5, h6⟩ := H
  have cl : sw_c m tl hd y f V m (q i) := by
    intro e he hm ht
    rcases Nat.lt_or_ge e c with z | z
    · exact h6 hi e z hm ht
    · exact absurd ht (hx e z he)
  refine ⟨K, ?_, h2, h3, h4, ?_, fun _ e he => by omega⟩
  · intro w hw
    rcases h1 w hw with a | ⟨j, a, b, d⟩
    · exact Or.inl a
    · rcases Nat.lt_or_ge i j with z | z
      · exact Or.inr ⟨j, by omega, b, d⟩
      · have : j = i := by omega
        subst this
        rw [← d]; exact Or.inl cl
  · intro _
    rcases Nat.eq_zero_or_pos i with z | z
    · subst z; rw [← h2.2]; exact cl
    · exact h5 z
/-- a stage is over -/
theorem sw_over (hm : m ≤ 60) (Y : sw_Y n m tl hd L y) (H : sw_I n m tl hd L y k f V Q i c q) (hQ : Q ≤ i) (hk : k < L) :
    sw_K n m tl hd L y (k + 1) f V ∧ (∀ w, V w → sw_c m tl hd y f V m w) ∧ (f = k + 1 ↔ ¬ re_R (re_E m tl hd 60) (y (k + 1)) (y L)) := by
  obtain ⟨K, h1, h2, h3, h4, h5, h6⟩ := H
  have hV : ∀ w, V w → sw_c m tl hd y f V m w := fun w hw => (h1 w hw).elim id (fun ⟨j, a, b, _⟩ => by omega)
  have hyk := h5 (by omega)
  have hcl : ∀ i, i < k + 1 → sw_c m tl hd y f V m (y i) := by
    intro i hi
    rcases Nat.lt_or_ge i k with z | z
    · exact K.2.2.2 i z
    · have : i = k := by omega
      subst this; exact hyk
  have hf : k + 1 ≤ f := by
    obtain ⟨e, e1, _, e2, e3⟩ := Y.2.1 k hk
    rcases hyk e e1 e1 e2 with ⟨j, a, b⟩ | a
    · have := Y.2.2.1 (k + 1) j (by omega) (by have := K.1; omega) (e3.symm.trans b)
      omega
    · exact absurd e3.symm ((K.2.2.1 _ a).2.1 (k + 1) (by omega))
  refine ⟨⟨K.1, fun j a b => K.2.1 j (by omega) b, fun w hw => ⟨(K.2.2.1 w hw).1, (K.2.2.1 w hw).2.1, fun j a b => (K.2.2.1 w hw).2.2 j (by omega) b⟩, hcl⟩, hV, ?_⟩
  constructor
  · intro e r
    subst e
    have key := r (fun x => (∃ i, i < k + 1 ∧ x = y i) ∨ V x) (fun _ => Or.inl ⟨0, by omega, Y.1.symm⟩) ?_
    · rcases key with ⟨i, a, b⟩ | a
      · have := Y.2.2.1 L i (Nat.le_refl _) (by omega) b
        omega
      · exact (K.2.2.1 _ a).2.1 L (Nat.le_refl _) rfl
    · rintro a b ha ⟨e, e1, _, e2, e3⟩ hb
      have hc : sw_c m tl hd y (k + 1) V m a := by
        rcases ha with ⟨i, x, z⟩ | x
        · rw [z]; exact hcl i x
        · exact hV a x
      rcases hc e e1 e1 e2 with ⟨j, x, z⟩ | x
      · rw [← e3]
        refine Or.inl ⟨j, ?_, z⟩
        rcases Nat.lt_or_ge j (k + 1) with w | w
        · exact w
        · have : j = k + 1 := by omega
          subst this
          exact absurd (e3.symm.trans z) hb
      · rw [← e3]; exact Or.inr x
  · intro r
    refine Classical.byContradiction (fun ne => r ?_)
    have a := sw_post Y (j := k + 1) (t := f) (by omega) (K.2.1 (k + 1) (by omega) (by omega)) (L - f) (by have := K.1; omega)
    have : f + (L - f) = L := by have := K.1; omega
    rw [this] at a
    exact a
theorem sw_shift (g : Nat → Nat) : ∀ k, ba_sm g (k + 1) = g 0 + ba_sm (fun i => g (i + 1)) k
  | 0 => by rw [ba_sms, ba_sm0, ba_sm0]; omega
  | k + 1 => by rw [ba_sms, sw_shift g k, ba_sms]; omega
/-- the dominators of the path's end are on the path -/
theorem sw_cnt (Y : sw_Y n m tl hd L y) (hl : re_R (re_E m tl hd 60) 24 (y L)) : la_L n (re_D (re_E m tl hd 60)) (y L) = 1 + ba_cn (fun i => ¬ re_R (re_E m tl hd 60) (y (i + 1)) (y L)) L := by
  have on : ∀ x, re_D (re_E m tl hd 60) x (y L) → ∃ i, i < L + 1 ∧ y i = x := by
    intro x hx
    refine Classical.byContradiction (fun c => hx.2 ?_)
    have ne : ∀ i, i ≤ L → y i ≠ x := fun i hi e => c ⟨i, by omega, e⟩
    have key : ∀ i, i ≤ L → re_R (re_E m tl hd 60) x (y i) := by
      intro i
      induction i with
      | zero =>
        intro _
        rw [Y.1]
        exact re_0 (fun e => ne 0 (by omega) (by rw [Y.1, e]))
      | succ i ih => intro hi; exact re_s (ih (by omega)) (Y.2.1 i (by omega)) (ne (i + 1) hi)
    exact key L (Nat.le_refl _)
  have e1 : la_L n (re_D (re_E m tl hd 60)) (y L) = ba_sm (fun x => ba_sm (fun i => ba_b (y i = x ∧ re_D (re_E m tl hd 60) x (y L))) (L + 1)) n := by
    apply ba_sm_congr
    intro x _
    show ba_b (re_D (re_E m tl hd 60) x (y L)) = ba_sm (fun i => ba_b (y i = x ∧ re_D (re_E m tl hd 60) x (y L))) (L + 1)
    rcases Classical.em (re_D (re_E m tl hd 60) x (y L)) with z | z
    · obtain ⟨i, hi, e⟩ := on x z
      rw [ba_t z, ba_sm_1 hi (fun j hj hn => ba_f (fun w => hn (Y.2.2.1 j i (by omega) (by omega) (w.1.trans e.symm)))), ba_t ⟨e, z⟩]
    · rw [ba_f z, ba_sm_z (fun i _ => ba_f (fun w => z w.2))]
  have e2 : ba_sm (fun i => ba_sm (fun x => ba_b (y i = x ∧ re_D (re_E m tl hd 60) x (y L))) n) (L + 1) = ba_sm (fun i => ba_b (re_D (re_E m tl hd 60) (y i) (y L))) (L + 1) := by
    apply ba_sm_congr
    intro i hi
    show ba_sm (fun x => ba_b (y i = x ∧ re_D (re_E m tl hd 60) x (y L))) n = ba_b (re_D (re_E m tl hd 60) (y i) (y L))
    rw [ba_sm_1 (Y.2.2.2 i (by omega)) (fun j _ hn => ba_f (fun w => hn w.1.symm))]
    exact ba_congr ⟨fun w => w.2, fun w => ⟨rfl, w⟩⟩
  rw [e1, ba_sm_swap, e2, sw_shift]
  have e3 : ba_b (re_D (re_E m tl hd 60) (y 0) (y L)) = 1 := by
    rw [Y.1]; exact ba_t (re_D0 hl)
  rw [e3]
  congr 1
  exact ba_sm_congr (fun i _ => ba_congr ⟨fun w => w.2, fun w => ⟨hl, w⟩⟩)
end
end
section
/-! edges that are needed -/
def br_B (m : Nat) (tl hd : Nat → Nat) (R : Nat → Prop) (g : Nat → Nat) (i : Nat) : Prop :=
  hd i ≠ 0 ∧ R (hd i) ∧ g (hd i) = tl i ∧ ∀ e, e < m → hd e = hd i → e ≠ i → R (tl e) → re_D (re_E m tl hd 60) (hd i) (tl e)
section
variable {n m rc : Nat} {tl hd : Nat → Nat} {R : Nat → Prop} {d vt g : Nat → Nat}
theorem br_iff (hm : m ≤ 60) (hh : ∀ e, e < m → hd e < 24) (G : la_G n rc R d vt g (re_D (re_E m tl hd 60))) (hR : ∀ v, R v ↔ re_R (re_E m tl hd 60) 24 v) {i v : Nat} (hi : i < m) (hv : R v) :
    (¬ re_R (re_E m tl hd i) 24 v) ↔ (br_B m tl hd R g i ∧ re_D (re_E m tl hd 60) (hd i) v) := by
  have hE : ∀ a b, re_E m tl hd 60 a b → b < 24 := by
    rintro a b ⟨e, e1, _, _, e3⟩
    rw [← e3]; exact hh e e1
  constructor
  · intro h
    have mo : ∀ {x}, re_R (re_E m tl hd 60) (hd i) x → re_R (re_E m tl hd i) 24 x := by
      intro x hx
      refine re_mono hx (fun _ => by decide) ?_
      rintro a b ⟨e, e1, e0, e2, e3⟩ hb
      refine ⟨⟨e, e1, fun c => hb (by rw [← e3, c]), e2, e3⟩, ?_⟩
      have := hh e e1
      omega
    have nb : ¬ re_R (re_E m tl hd i) 24 (hd i) := by
      intro hb
      refine h ((hR v).mp hv (fun x => re_R (re_E m tl hd i) 24 x) (fun _ => re_0 (by decide)) ?_)
      rintro a b ha ⟨e, e1, e0, e2, e3⟩ hb'
      rcases Classical.em (e = i) with z | z
      · subst z; rw [← e3]; exact hb
      · exact re_s ha ⟨e, e1, z, e2, e3⟩ hb'
    have b0 : hd i ≠ 0 := fun e => nb (by rw [e]; exact re_0 (by decide))
    have hD : re_D (re_E m tl hd 60) (hd i) v := ⟨(hR v).mp hv, fun c => h (mo c)⟩
    have hbl := re_Dl hD
    have hRb := (hR _).mpr hbl
    have D1 : re_D (re_E m tl hd 60) (tl i) (hd i) := by
      refine ⟨hbl, fun c => nb (c (fun x => re_R (re_E m tl hd 60) (tl i) x ∧ re_R (re_E m tl hd i) 24 x) ?_ ?_).2⟩
      · intro hx; exact ⟨re_0 hx, re_0 (by decide)⟩
      · rintro a b ⟨ha1, ha2⟩ ⟨e, e1, e0, e2, e3⟩ hb'
        refine ⟨re_s ha1 ⟨e, e1, e0, e2, e3⟩ hb', re_s ha2 ⟨e, e1, fun c => ?_, e2, e3⟩ ?_⟩
        · rw [c] at e2; exact re_ne ha1 e2.symm
        · have := hh e e1; omega
    have ne : tl i ≠ hd i := by
      intro e
      refine nb (hbl (fun x => re_R (re_E m tl hd i) 24 x) (fun _ => re_0 (by decide)) ?_)
      rintro a b ha ⟨e', e1, e0, e2, e3⟩ hb'
      rcases Classical.em (e' = i) with z | z
      · subst z; rw [← e3, ← e, e2]; exact ha
      · exact re_s ha ⟨e', e1, z, e2, e3⟩ hb'
    obtain ⟨g1, g2, g3⟩ := G.2.2.2.1 (hd i) hRb b0
    have c1 : re_D (re_E m tl hd 60) (tl i) (g (hd i)) := ((g3 (tl i)).mp D1).elim (fun e => absurd e ne) id
    have D2 : re_D (re_E m tl hd 60) (g (hd i)) (hd i) := (g3 _).mpr (Or.inr (la_r G g1))
    have c2 : re_D (re_E m tl hd 60) (g (hd i)) (tl i) := by
      refine ⟨re_Dl D1, fun c => D2.2 (re_s c ⟨i, hi, by omega, rfl, rfl⟩ (fun e => ?_))⟩
      rw [← e] at g2; omega
    have hRt := (hR _).mpr (re_Dl D1)
    have i1 := (la_le G _ g1 c1).1
    have i2 := (la_le G _ hRt c2).1
    refine ⟨⟨b0, hRb, la_inj G g1 hRt (by omega), ?_⟩, hD⟩
    intro e he hb hne hRe
    refine ⟨(hR _).mp hRe, fun c => nb ?_⟩
    have := hh e he
    exact re_s (mo c) ⟨e, he, hne, rfl, hb⟩ (by omega)
  · rintro ⟨⟨b0, hRb, hg, hall⟩, hD⟩ h
    refine hD.2 (h (fun x => re_R (re_E m tl hd 60) (hd i) x) (fun _ => re_0 b0) ?_)
    rintro a b ha ⟨e, e1, e0, e2, e3⟩ _
    refine re_s ha ⟨e, e1, by omega, e2, e3⟩ (fun c => ?_)
    have hla : R (tl e) := (hR _).mpr (by rw [e2]; exact re_live hE ha)
    have := hall e e1 (e3.trans c) e0 hla
    rw [e2] at this
    exact this.2 ha
theorem br_ex (hm : m ≤ 60) (hh : ∀ e, e < m → hd e < 24) (G : la_G n rc R d vt g (re_D (re_E m tl hd 60))) (hR : ∀ v, R v ↔ re_R (re_E m tl hd 60) 24 v) {i : Nat} (hi : i < m) :
    (∃ v, v < n ∧ R v ∧ ¬ re_R (re_E m tl hd i) 24 v) ↔ br_B m tl hd R g i := by
  constructor
  · rintro ⟨v, _, hv, h⟩
    exact ((br_iff hm hh G hR hi hv).mp h).1
  · intro h
    exact ⟨hd i, (G.2.1 _ h.2.1).1, h.2.1, (br_iff hm hh G hR hi h.2.1).mpr ⟨h, la_r G h.2.1⟩⟩
/-- more dominators further down -/
theorem br_mon (G : la_G n rc R d vt g (re_D (re_E m tl hd 60))) {x t : Nat} (ht : R t) (h : re_D (re_E m tl hd 60) x t) (hn : x ≠ t) :
    la_L n (re_D (re_E m tl hd 60)) x < la_L n (re_D (re_E m tl hd 60)) t := by
  refine ba_cn_lt (c := t) (G.2.1 t ht).1 (fun c => hn ?_) (la_r G ht) (fun j _ q => re_Dt q h)
  have a := la_le G t ht h
  have b := la_le G x a.2 c
  exact la_inj G a.2 ht (by omega)
theorem br_Lp (G : la_G n rc R d vt g (re_D (re_E m tl hd 60))) {t : Nat} (ht : R t) : 0 < la_L n (re_D (re_E m tl hd 60)) t := ba_cn_pos (G.2.1 t ht).1 (la_r G ht)
end
end
section
/-! the graph, small facts for the walks, chain -/
def gr_G (n m : Nat) (tl hd : Nat → Nat) (a_tail a_head : Nat → Int32) : Prop :=
  2 ≤ n ∧ n ≤ 24 ∧ m ≤ 60 ∧ ∀ e, e < m → tl e < n ∧ hd e < n ∧ a_tail e = nI (tl e) ∧ a_head e = nI (hd e)
theorem wk_m (x : Int32) : x + (-1) = x - 1 := by rw [Int32.sub_eq_add_neg]
theorem wk_cl0 : (0 : Int32).toNatClampNeg = 0 := by decide
theorem wk_n0 : nI 0 - 1 < 0 := by decide
theorem wk_m1 : (-1 : Int32) < 0 := by decide
theorem wk_m1' : ¬ (0 : Int32) ≤ -1 := by decide
theorem wk_m1'' : (-1 : Int32) ≤ 0 := by decide
theorem wk_in0 {N : Nat} (h : 0 < N) (hN : N < 2 ^ 31) : vp_in 0 N := by
  have := vp_in_nI h hN
  rw [nI_0] at this
  exact this
theorem wk_nm1 {x : Int32} {a : Nat} (h : a < 2 ^ 31) (e : x = nI a) : ¬ x = -1 := by rw [e]; exact pt_nm1 h
section

variable {n m : Nat} {tl hd : Nat → Nat} {f_reached f_current f_queued f_farthest : Int32} {a_tail a_head a_outFirst a_outNext a_inFirst a_inNext a_cursor a_stack a_number a_atNumber a_parent a_semi a_label a_ancestor a_bucketFirst a_bucketNext a_idom a_level a_size a_enter a_pathIndex a_from a_queue a_visited : Nat → Int32}
theorem ch_37 {post : SX → Prop} (G : gr_G n m tl hd a_tail a_head)
    (K : ∀ oF oN iF iN : Nat → Int32, pt_C n m tl 0 oF oN → pt_C n m hd 0 iF iN → post ((nI n), (nI m), f_reached, f_current, f_queued, f_farthest, a_tail, a_head, oF, oN, iF, iN, a_cursor, a_stack, a_number, a_atNumber, a_parent, a_semi, a_label, a_ancestor, a_bucketFirst, a_bucketNext, a_idom, a_level, a_size, a_enter, a_pathIndex, a_from, a_queue, a_visited)) :
    ∀ e, e ≤ m → ∀ oF oN iF iN : Nat → Int32, pt_C n m tl e oF oN → pt_C n m hd e iF iN → ∀ N, e < N →
      wX_chain_37 post (nI n) (nI m) f_reached f_current f_queued f_farthest N (nI e - 1) a_tail a_head oF oN iF iN a_cursor a_stack a_number a_atNumber a_parent a_semi a_label a_ancestor a_bucketFirst a_bucketNext a_idom a_level a_size a_enter a_pathIndex a_from a_queue a_visited := by
  obtain ⟨g1, g2, g3, g4⟩ := G
  intro e
  induction e with
  | zero =>
    intro _ oF oN iF iN h1 h2 N hN
    cases N with
    | zero => omega
    | succ N => exact br_t wk_n0 (K oF oN iF iN h1 h2)
  | succ e ih =>
    intro he oF oN iF iN h1 h2 N hN
    cases N with
    | zero => omega
    | succ N =>
      obtain ⟨t1, t2, t3, t4⟩ := g4 e (by omega)
      have c1 : (nI e).toNatClampNeg = e := nI_clamp (by omega)
      have c2 : (nI (tl e)).toNatClampNeg = tl e := nI_clamp (by omega)
      have c3 : (nI (hd e)).toNatClampNeg = hd e := nI_clamp (by omega)
      have v1 : vp_in (nI e) 60 := vp_in_nI (by omega) (by decide)
      have v2 : vp_in (nI (tl e)) 24 := vp_in_nI (by omega) (by decide)
      have v3 : vp_in (nI (hd e)) 24 := vp_in_nI (by omega) (by decide)
      have n1 : ¬ nI e < 0 := nI_pos (by omega)
      rw [nI_pred]
      simp only [wX_chain_37, c1, t3, t4, c2, c3, v1, v2, v3, n1, wk_m, forall_eq, true_and, and_true, not_true_eq_false, not_false_eq_true, false_implies, true_implies, implies_true, forall_const]
      exact ih (by omega) _ _ _ _ (pt_Cs (by omega) t1 h1) (pt_Cs (by omega) t2 h2) N (by omega)
theorem ch_2 {post : SX → Prop} (G : gr_G n m tl hd a_tail a_head)
    (K : ∀ oF oN iF iN : Nat → Int32, pt_C n m tl 0 oF oN → pt_C n m hd 0 iF iN → post ((nI n), (nI m), f_reached, f_current, f_queued, f_farthest, a_tail, a_head, oF, oN, iF, iN, a_cursor, a_stack, a_number, a_atNumber, a_parent, a_semi, a_label, a_ancestor, a_bucketFirst, a_bucketNext, a_idom, a_level, a_size, a_enter, a_pathIndex, a_from, a_queue, a_visited)) :
    ∀ d i, i + d = n → ∀ oF iF : Nat → Int32, (∀ v, v < i → oF v = -1 ∧ iF v = -1) → ∀ N, d < N →
      wX_chain_2 post (nI n) (nI m) f_reached f_current f_queued f_farthest N (nI i) a_tail a_head oF a_outNext iF a_inNext a_cursor a_stack a_number a_atNumber a_parent a_semi a_label a_ancestor a_bucketFirst a_bucketNext a_idom a_level a_size a_enter a_pathIndex a_from a_queue a_visited := by
  have g := G
  obtain ⟨g1, g2, g3, g4⟩ := g
  intro d
  induction d with
  | zero =>
    intro i hi oF iF h N hN
    cases N with
    | zero => omega
    | succ N =>
      have e : i = n := by omega
      subst e
      refine br_t (nI_le (Nat.le_refl _) (by omega)) (nm_e ⟨m + 1, ?_⟩)
      exact ch_37 G K m (Nat.le_refl _) _ _ _ _ (pt_C0 (fun v hv => (h v hv).1)) (pt_C0 (fun v hv => (h v hv).2)) (m + 1) (by omega)
  | succ d ih =>
    intro i hi oF iF h N hN
    cases N with
    | zero => omega
    | succ N =>
      have c1 : (nI i).toNatClampNeg = i := nI_clamp (by omega)
      have v1 : vp_in (nI i) 24 := vp_in_nI (by omega) (by decide)
      have n1 : ¬ nI n ≤ nI i := nI_ge (by omega) (by omega)
      simp only [wX_chain_2, c1, v1, n1, nI_1, forall_eq, true_and, and_true, not_true_eq_false, not_false_eq_true, false_implies, true_implies, implies_true, forall_const]
      refine ih (i + 1) (by omega) _ _ (fun v hv => ?_) N (by omega)
      rcases Classical.em (v = i) with z | z
      · subst z; rw [pk_us, pk_us]; exact ⟨rfl, rfl⟩
      · rw [pk_un z, pk_un z]; exact h v (by omega)
theorem ch_ok {post : SX → Prop} (G : gr_G n m tl hd a_tail a_head)
    (K : ∀ oF oN iF iN : Nat → Int32, pt_C n m tl 0 oF oN → pt_C n m hd 0 iF iN → post ((nI n), (nI m), f_reached, f_current, f_queued, f_farthest, a_tail, a_head, oF, oN, iF, iN, a_cursor, a_stack, a_number, a_atNumber, a_parent, a_semi, a_label, a_ancestor, a_bucketFirst, a_bucketNext, a_idom, a_level, a_size, a_enter, a_pathIndex, a_from, a_queue, a_visited)) : wpX_chain post ((nI n), (nI m), f_reached, f_current, f_queued, f_farthest, a_tail, a_head, a_outFirst, a_outNext, a_inFirst, a_inNext, a_cursor, a_stack, a_number, a_atNumber, a_parent, a_semi, a_label, a_ancestor, a_bucketFirst, a_bucketNext, a_idom, a_level, a_size, a_enter, a_pathIndex, a_from, a_queue, a_visited) := by
  refine ⟨n + 1, ?_⟩
  exact ch_2 (post := post) G K n 0 (by omega) a_outFirst a_inFirst (fun v hv => by omega) (n + 1) (by omega)
end
end
section
/-! numberVertices -/
def nv_F (n m : Nat) (tl hd : Nat → Nat) (rc : Nat) (R : Nat → Prop) (d p vt : Nat → Nat) (num atn par : Nat → Int32) : Prop :=
  lt_T R d p (re_E m tl hd 60) ∧ (0 < rc ∧ rc ≤ n) ∧ (∀ v, R v → v < n ∧ d v < rc ∧ vt (d v) = v) ∧ (∀ i, i < rc → R (vt i) ∧ d (vt i) = i) ∧
  (∀ v, R v → num v = nI (d v)) ∧ (∀ v, v < n → ¬ R v → num v = -1) ∧ (∀ i, i < rc → atn i = nI (vt i)) ∧ (∀ v, R v → v ≠ 0 → par v = nI (p v))
def nv_I (n m : Nat) (tl hd : Nat → Nat) (step rc D : Nat) (R : Nat → Prop) (d p vt st c : Nat → Nat) (num atn par cur stk : Nat → Int32) : Prop :=
  df_I n m tl hd rc D R d p vt st c ∧ step + D ≤ ba_sm (fun e => ba_b (e < c (tl e))) m + rc ∧
  (∀ v, R v → num v = nI (d v)) ∧ (∀ v, v < n → ¬ R v → num v = -1) ∧ (∀ i, i < rc → atn i = nI (vt i)) ∧ (∀ v, R v → v ≠ 0 → par v = nI (p v)) ∧
  (∀ j, j < D → stk j = nI (st j)) ∧ (∀ v, v < n → pt_P (fun e => tl e = v) id (c v) m (cur v))
theorem nv_rc {n m rc D : Nat} {tl hd : Nat → Nat} {R : Nat → Prop} {d p vt st c : Nat → Nat} (H : df_I n m tl hd rc D R d p vt st c) : rc ≤ n :=
  ba_pig (f := vt) (fun i hi => (H.2.1 _ (H.2.2.1 i hi).1).1) (fun i j hi hj e => by
    rw [← (H.2.2.1 i hi).2, e, (H.2.2.1 j hj).2])
theorem nv_D {n m rc D : Nat} {tl hd : Nat → Nat} {R : Nat → Prop} {d p vt st c : Nat → Nat} (H : df_I n m tl hd rc D R d p vt st c) : D ≤ n :=
  ba_pig (f := st) (fun i hi => (H.2.1 _ (H.2.2.2.2.1 i hi).1).1) (fun i j hi hj e => by
    rcases Nat.lt_trichotomy i j with z | z | z
    · have := H.2.2.2.2.2.1 i j z hj
      rw [e] at this; omega
    · exact z
    · have := H.2.2.2.2.2.1 j i z hi
      rw [e] at this; omega)
theorem nv_sc {m v e : Nat} {tl c : Nat → Nat} (he : e < m) (ht : tl e = v) (hc : c v ≤ e) : ba_sm (fun e => ba_b (e < c (tl e))) m < ba_sm (fun x => ba_b (x < fo_u c v (e + 1) (tl x))) m := by
  refine ba_sm_lt (c := e) ?_ (fun j _ => ba_mono (fun hj => ?_)) he
  · show ba_b (e < c (tl e)) < ba_b (e < fo_u c v (e + 1) (tl e))
    rw [ht, fo_us, ba_f (by omega), ba_t (by omega)]
    exact Nat.zero_lt_one
  · rcases Classical.em (tl j = v) with z | z
    · rw [z] at hj ⊢; rw [fo_us]; omega
    · rw [fo_un z]; exact hj
section

variable {n m : Nat} {tl hd : Nat → Nat} {f_reached f_current f_queued f_farthest : Int32} {a_tail a_head a_outFirst a_outNext a_inFirst a_inNext a_cursor a_stack a_number a_atNumber a_parent a_semi a_label a_ancestor a_bucketFirst a_bucketNext a_idom a_level a_size a_enter a_pathIndex a_from a_queue a_visited : Nat → Int32}
theorem nv_57 {post : SX → Prop} (G : gr_G n m tl hd a_tail a_head) (CO : pt_C n m tl 0 a_outFirst a_outNext)
    (K : ∀ (rc : Nat) (R : Nat → Prop) (d p vt : Nat → Nat) (num atn par cur stk : Nat → Int32), nv_F n m tl hd rc R d p vt num atn par → post ((nI n), (nI m), (nI rc), f_current, f_queued, f_farthest, a_tail, a_head, a_outFirst, a_outNext, a_inFirst, a_inNext, cur, stk, num, atn, par, a_semi, a_label, a_ancestor, a_bucketFirst, a_bucketNext, a_idom, a_level, a_size, a_enter, a_pathIndex, a_from, a_queue, a_visited)) :
    ∀ t step, step + t = 120 → ∀ (rc D : Nat) (R : Nat → Prop) (d p vt st c : Nat → Nat) (num atn par cur stk : Nat → Int32), nv_I n m tl hd step rc D R d p vt st c num atn par cur stk → ∀ N, t < N →
      wX_numberVertices_57 post N (nI D - 1) (nI step) (nI n) (nI m) (nI rc) f_current f_queued f_farthest a_tail a_head a_outFirst a_outNext a_inFirst a_inNext cur stk num atn par a_semi a_label a_ancestor a_bucketFirst a_bucketNext a_idom a_level a_size a_enter a_pathIndex a_from a_queue a_visited := by
  obtain ⟨g1, g2, g3, g4⟩ := G
  have fin : ∀ (step rc : Nat) (R : Nat → Prop) (d p vt st c : Nat → Nat) (num atn par cur stk : Nat → Int32), nv_I n m tl hd step rc 0 R d p vt st c num atn par cur stk → post ((nI n), (nI m), (nI rc), f_current, f_queued, f_farthest, a_tail, a_head, a_outFirst, a_outNext, a_inFirst, a_inNext, cur, stk, num, atn, par, a_semi, a_label, a_ancestor, a_bucketFirst, a_bucketNext, a_idom, a_level, a_size, a_enter, a_pathIndex, a_from, a_queue, a_visited) := by
    intro step rc R d p vt st c num atn par cur stk H
    obtain ⟨H1, H2, H3, H4, H5, H6, H7, H8⟩ := H
    exact K rc R d p vt num atn par cur stk ⟨df_end g3 H1, ⟨H1.1.2.2, nv_rc H1⟩, H1.2.1, H1.2.2.1, H3, H4, H5, H6⟩
  intro t
  induction t with
  | zero =>
    intro step hs rc D R d p vt st c num atn par cur stk H N hN
    cases N with
    | zero => omega
    | succ N =>
      have D0 : D = 0 := by
        have a := nv_rc H.1
        have b := H.2.1
        have b2 : ba_sm (fun e => ba_b (e < c (tl e))) m ≤ m := ba_cn_le (fun e => e < c (tl e)) m
        omega
      subst D0
      exact br_t (nI_le (a := 120) (by omega) (by omega)) (fin step rc R d p vt st c num atn par cur stk H)
  | succ t ih =>
    intro step hs rc D R d p vt st c num atn par cur stk H N hN
    cases N with
    | zero => omega
    | succ N =>
      have n1 : ¬ (120 : Int32) ≤ nI step := nI_ge (b := 120) (by omega) (by decide)
      cases D with
      | zero => exact br_f n1 (br_t wk_n0 (fin step rc R d p vt st c num atn par cur stk H))
      | succ D =>
        obtain ⟨H1, H2, H3, H4, H5, H6, H7, H8⟩ := H
        have hD := nv_D H1
        have hrc := nv_rc H1
        obtain ⟨hR, _⟩ := H1.2.2.2.2.1 D (by omega)
        have hv := (H1.2.1 _ hR).1
        have c1 : (nI D).toNatClampNeg = D := nI_clamp (by omega)
        have c2 : (nI (st D)).toNatClampNeg = st D := nI_clamp (by omega)
        have v1 : vp_in (nI D) 25 := vp_in_nI (by omega) (by decide)
        have v2 : vp_in (nI (st D)) 24 := vp_in_nI (by omega) (by decide)
        have n2 : ¬ nI D < 0 := nI_pos (by omega)
        have s1 := H7 D (by omega)
        rw [nI_pred]
        rcases H8 (st D) hv with ⟨e1, e2⟩ | ⟨e, e1, e2, e3, e4, e5⟩
        · simp only [wX_numberVertices_57, n1, n2, c1, v1, s1, c2, v2, e1, wk_m, nI_1, forall_eq, true_and, and_true, not_true_eq_false, not_false_eq_true, false_implies, true_implies, implies_true, forall_const]
          refine ih (step + 1) (by omega) rc D R d p vt st c num atn par cur stk ⟨df_pop H1 (fun e he ht => ?_), by omega, H3, H4, H5, H6, fun j hj => H7 j (by omega), H8⟩ N (by omega)
          rcases Nat.lt_or_ge e (c (st D)) with z | z
          · exact z
          · exact absurd ht (e2 e z he)
        · have e4' : cur (st D) = nI e := e4
          obtain ⟨t1, t2, t3, t4⟩ := g4 e e2
          have e3' : tl e = st D := e3
          have c3 : (nI e).toNatClampNeg = e := nI_clamp (by omega)
          have c4 : (nI (hd e)).toNatClampNeg = hd e := nI_clamp (by omega)
          have v3 : vp_in (nI e) 60 := vp_in_nI (by omega) (by decide)
          have v4 : vp_in (nI (hd e)) 24 := vp_in_nI (by omega) (by decide)
          have n3 : ¬ nI e = -1 := pt_nm1 (by omega)
          have hcur : ∀ v, v < n → pt_P (fun x => tl x = v) id (fo_u c (st D) (e + 1) v) m (upd cur (st D) (a_outNext e) v) := by
            intro v hv
            rcases Classical.em (v = st D) with z | z
            · subst z
              rw [fo_us, pk_us]
              have := CO.2 e (by omega) e2
              rw [e3'] at this
              exact this
            · rw [fo_un z, pk_un z]; exact H8 v hv
          have hsc := nv_sc (c := c) e2 e3' e1
          rcases Classical.em (R (hd e)) with hw | hw
          · have n4 : (0 : Int32) ≤ num (hd e) := by
              rw [H3 _ hw]; exact nI_pos' (by have := (H1.2.1 _ hw).2.1; omega)
            simp only [wX_numberVertices_57, n1, n2, c1, v1, s1, c2, v2, e4', n3, c3, v3, t4, c4, v4, n4, nI_1, forall_eq, true_and, and_true, not_true_eq_false, not_false_eq_true, false_implies, true_implies, implies_true, forall_const]
            rw [← nI_pred D]
            exact ih (step + 1) (by omega) rc (D + 1) R d p vt st _ num atn par _ stk ⟨df_old H1 e2 e3' e1 (fun x a b => e5 x a b) hw, by omega, H3, H4, H5, H6, H7, hcur⟩ N (by omega)
          · have n4 : ¬ (0 : Int32) ≤ num (hd e) := by
              rw [H4 _ t2 hw]; exact wk_m1'
            have H' := df_new H1 e2 e3' e1 (fun x a b => e5 x a b) hw rfl t2
            have hrc' := nv_rc H'
            have hD' := nv_D H'
            have c5 : (nI rc).toNatClampNeg = rc := nI_clamp (by omega)
            have v5 : vp_in (nI rc) 24 := vp_in_nI (by omega) (by decide)
            have c6 : (nI (D + 1)).toNatClampNeg = D + 1 := nI_clamp (by omega)
            have v6 : vp_in (nI (D + 1)) 25 := vp_in_nI (by omega) (by decide)
            simp only [wX_numberVertices_57, wpX_arrive, n1, n2, c1, v1, s1, c2, v2, e4', n3, c3, v3, t4, c4, v4, n4, c5, v5, nI_1, c6, v6, forall_eq, true_and, and_true, not_true_eq_false, not_false_eq_true, false_implies, true_implies, implies_true, forall_const]
            rw [← nI_pred (D + 1)]
            refine ih (step + 1) (by omega) (rc + 1) (D + 2) _ _ _ _ _ _ _ _ _ _ _ ⟨H', by omega, ?_, ?_, ?_, ?_, ?_, hcur⟩ N (by omega)
            · rintro v (hv | hv)
              · have ne : v ≠ hd e := fun z => hw (z ▸ hv)
                rw [pk_un ne, fo_un ne]; exact H3 v hv
              · subst hv; rw [pk_us, fo_us]
            · intro v hv hn
              rw [pk_un (fun z => hn (Or.inr z))]
              exact H4 v hv (fun z => hn (Or.inl z))
            · intro i hi
              rcases Nat.lt_or_ge i rc with z | z
              · rw [pk_un (by omega), fo_un (by omega)]; exact H5 i z
              · have : i = rc := by omega
                subst this; rw [pk_us, fo_us]
            · rintro v (hv | hv) v0
              · have ne : v ≠ hd e := fun z => hw (z ▸ hv)
                rw [pk_un ne, fo_un ne]; exact H6 v hv v0
              · subst hv; rw [pk_us, fo_us]
            · intro j hj
              rcases Nat.lt_or_ge j (D + 1) with z | z
              · rw [pk_un (by omega), fo_un (by omega)]; exact H7 j z
              · have : j = D + 1 := by omega
                subst this; rw [pk_us, fo_us]
theorem nv_2 {post : SX → Prop} (G : gr_G n m tl hd a_tail a_head) (CO : pt_C n m tl 0 a_outFirst a_outNext)
    (K : ∀ (rc : Nat) (R : Nat → Prop) (d p vt : Nat → Nat) (num atn par cur stk : Nat → Int32), nv_F n m tl hd rc R d p vt num atn par → post ((nI n), (nI m), (nI rc), f_current, f_queued, f_farthest, a_tail, a_head, a_outFirst, a_outNext, a_inFirst, a_inNext, cur, stk, num, atn, par, a_semi, a_label, a_ancestor, a_bucketFirst, a_bucketNext, a_idom, a_level, a_size, a_enter, a_pathIndex, a_from, a_queue, a_visited)) :
    ∀ t i, i + t = n → ∀ num cur : Nat → Int32, (∀ v, v < i → num v = -1 ∧ cur v = a_outFirst v) → ∀ N, t < N →
      wX_numberVertices_2 post (nI n) (nI m) f_reached f_current f_queued f_farthest N (nI i) a_tail a_head a_outFirst a_outNext a_inFirst a_inNext cur a_stack num a_atNumber a_parent a_semi a_label a_ancestor a_bucketFirst a_bucketNext a_idom a_level a_size a_enter a_pathIndex a_from a_queue a_visited := by
  have g := G
  obtain ⟨g1, g2, g3, g4⟩ := g
  intro t
  induction t with
  | zero =>
    intro i hi num cur h N hN
    cases N with
    | zero => omega
    | succ N =>
      have e : i = n := by omega
      subst e
      have n1 : nI i ≤ nI i := nI_le (Nat.le_refl _) (by omega)
      have v1 : vp_in 0 24 := wk_in0 (by decide) (by decide)
      have a1 : (0 : Int32) + 1 = nI 1 := by decide
      simp only [wX_numberVertices_2, wpX_arrive, n1, v1, wk_cl0, a1, forall_eq, true_and, and_true, not_true_eq_false, not_false_eq_true, false_implies, true_implies, implies_true, forall_const]
      refine ⟨121, ?_⟩
      refine nv_57 G CO K 120 0 (by omega) 1 1 (fun x => x = 0) (fun _ => 0) (fun _ => 0) (fun _ => 0) (fun _ => 0) (fun _ => 0) _ _ _ _ _ ⟨df_0 (by omega) (fun v => Iff.rfl) rfl rfl rfl (fun _ => rfl), by omega, ?_, ?_, ?_, ?_, ?_, ?_⟩ 121 (by omega)
      · intro v hv
        have hv : v = 0 := hv
        subst hv; rw [pk_us]; rfl
      · intro v hv hn
        rw [pk_un hn]; exact (h v hv).1
      · intro j hj
        have : j = 0 := by omega
        subst this; rw [pk_us]; rfl
      · intro v hv h0; exact absurd hv h0
      · intro j hj
        have : j = 0 := by omega
        subst this; rw [pk_us]; rfl
      · intro v hv
        rw [(h v hv).2]; exact CO.1 v hv
  | succ t ih =>
    intro i hi num cur h N hN
    cases N with
    | zero => omega
    | succ N =>
      have c1 : (nI i).toNatClampNeg = i := nI_clamp (by omega)
      have v1 : vp_in (nI i) 24 := vp_in_nI (by omega) (by decide)
      have n1 : ¬ nI n ≤ nI i := nI_ge (by omega) (by omega)
      simp only [wX_numberVertices_2, c1, v1, n1, nI_1, forall_eq, true_and, and_true, not_true_eq_false, not_false_eq_true, false_implies, true_implies, implies_true, forall_const]
      refine ih (i + 1) (by omega) _ _ (fun v hv => ?_) N (by omega)
      rcases Classical.em (v = i) with z | z
      · subst z; rw [pk_us, pk_us]; exact ⟨rfl, rfl⟩
      · rw [pk_un z, pk_un z]; exact h v (by omega)
theorem nv_ok {post : SX → Prop} (G : gr_G n m tl hd a_tail a_head) (CO : pt_C n m tl 0 a_outFirst a_outNext)
    (K : ∀ (rc : Nat) (R : Nat → Prop) (d p vt : Nat → Nat) (num atn par cur stk : Nat → Int32), nv_F n m tl hd rc R d p vt num atn par → post ((nI n), (nI m), (nI rc), f_current, f_queued, f_farthest, a_tail, a_head, a_outFirst, a_outNext, a_inFirst, a_inNext, cur, stk, num, atn, par, a_semi, a_label, a_ancestor, a_bucketFirst, a_bucketNext, a_idom, a_level, a_size, a_enter, a_pathIndex, a_from, a_queue, a_visited)) :
    wpX_numberVertices post ((nI n), (nI m), f_reached, f_current, f_queued, f_farthest, a_tail, a_head, a_outFirst, a_outNext, a_inFirst, a_inNext, a_cursor, a_stack, a_number, a_atNumber, a_parent, a_semi, a_label, a_ancestor, a_bucketFirst, a_bucketNext, a_idom, a_level, a_size, a_enter, a_pathIndex, a_from, a_queue, a_visited) := by
  refine ⟨n + 1, ?_⟩
  exact nv_2 (post := post) G CO K n 0 (by omega) a_number a_cursor (fun v hv => by omega) (n + 1) (by omega)
end
end
section
/-! lowest -/
def lo_S (R : Nat → Prop) (d p s : Nat → Nat) (k : Nat) (an lb : Nat → Nat) (anc lab semi : Nat → Int32) : Prop :=
  fo_I R d p s k an lb ∧ (∀ v, R v → k ≤ d v → anc v = nI (an v) ∧ lab v = nI (lb v)) ∧ (∀ v, R v → d v < k → anc v = -1) ∧ (∀ v, R v → semi v = nI (s v) ∧ s v ≤ d v)
section

variable {n k : Nat} {R : Nat → Prop} {d p s : Nat → Nat} {f_edgeCount f_reached f_current f_queued f_farthest : Int32} {a_tail a_head a_outFirst a_outNext a_inFirst a_inNext a_cursor a_stack a_number a_atNumber a_parent a_semi a_label a_ancestor a_bucketFirst a_bucketNext a_idom a_level a_size a_enter a_pathIndex a_from a_queue a_visited : Nat → Int32}
theorem lo_71 {post : Int32 → SX → Prop} (hn : n ≤ 24) (hR : ∀ v, R v → v < n ∧ d v < n) {v J : Nat} (hv : R v) {xs : Nat → Nat} (hx0 : xs 0 = v) (hne : ∀ i i', i < i' → i' ≤ J → xs i ≠ xs i')
    (K : ∀ (r : Nat) (an lb : Nat → Nat) (anc lab : Nat → Int32), lo_S R d p s k an lb anc lab a_semi → fo_V R d p s k v r → (∀ u, R u → d u < k → lab u = a_label u) → post (nI r) ((nI n), f_edgeCount, f_reached, f_current, f_queued, f_farthest, a_tail, a_head, a_outFirst, a_outNext, a_inFirst, a_inNext, a_cursor, a_stack, a_number, a_atNumber, a_parent, a_semi, lab, anc, a_bucketFirst, a_bucketNext, a_idom, a_level, a_size, a_enter, a_pathIndex, a_from, a_queue, a_visited)) :
    ∀ j, j ≤ J → j ≤ n → (∀ i, i < j → a_stack i = nI (xs i)) → ∀ (an lb : Nat → Nat) (anc lab : Nat → Int32), lo_S R d p s k an lb anc lab a_semi → (∀ i, i ≤ j → R (xs i) ∧ k ≤ d (xs i)) →
      (∀ i, i < j → an (xs i) = xs (i + 1)) → d (an (xs j)) < k → (∀ u, R u → d u < k → lab u = a_label u) → ∀ N, j < N →
      wX_lowest_71 post (nI v) (nI n) f_edgeCount f_reached f_current f_queued f_farthest N (nI j - 1) a_tail a_head a_outFirst a_outNext a_inFirst a_inNext a_cursor a_stack a_number a_atNumber a_parent a_semi lab anc a_bucketFirst a_bucketNext a_idom a_level a_size a_enter a_pathIndex a_from a_queue a_visited := by
  have cv : (nI v).toNatClampNeg = v := nI_clamp (by have := hR v hv; omega)
  have vv : vp_in (nI v) 24 := vp_in_nI (by have := hR v hv; omega) (by decide)
  intro j
  induction j with
  | zero =>
    intro _ _ _ an lb anc lab H hx _ hr hl N hN
    cases N with
    | zero => omega
    | succ N =>
      refine br_t wk_n0 ⟨vv, ?_⟩
      have hk := (hx 0 (by omega)).2
      rw [hx0] at hk hr
      rw [cv, (H.2.1 v hv hk).2]
      exact K (lb v) an lb anc lab H (fo_val H.1 hv hk hr) hl
  | succ j ih =>
    intro hJ hjn hst an lb anc lab H hx ha hr hl N hN
    cases N with
    | zero => omega
    | succ N =>
      have H' := H
      obtain ⟨H1, H2, H3, H4⟩ := H'
      obtain ⟨x1, x2⟩ := hx j (by omega)
      obtain ⟨y1, y2⟩ := hx (j + 1) (by omega)
      have e1 := ha j (by omega)
      have s1 := hst j (by omega)
      obtain ⟨a1, a2⟩ := H2 _ x1 x2
      obtain ⟨b1, b2⟩ := H2 _ y1 y2
      rw [e1] at a1
      have lx := (H1 _ x1 x2).2.2.2.1
      have ly := (H1 _ y1 y2).2.2.2.1
      have ry := (H1 _ y1 y2).1
      have hX := hR _ x1
      have hY := hR _ y1
      have hLX := hR _ lx
      have hLY := hR _ ly
      have sx := H4 _ lx
      have sy := H4 _ ly
      have c1 : (nI j).toNatClampNeg = j := nI_clamp (by omega)
      have v1 : vp_in (nI j) 25 := vp_in_nI (by omega) (by decide)
      have c2 : (nI (xs j)).toNatClampNeg = xs j := nI_clamp (by omega)
      have v2 : vp_in (nI (xs j)) 24 := vp_in_nI (by omega) (by decide)
      have c3 : (nI (xs (j + 1))).toNatClampNeg = xs (j + 1) := nI_clamp (by omega)
      have v3 : vp_in (nI (xs (j + 1))) 24 := vp_in_nI (by omega) (by decide)
      have c4 : (nI (lb (xs j))).toNatClampNeg = lb (xs j) := nI_clamp (by omega)
      have v4 : vp_in (nI (lb (xs j))) 24 := vp_in_nI (by omega) (by decide)
      have c5 : (nI (lb (xs (j + 1)))).toNatClampNeg = lb (xs (j + 1)) := nI_clamp (by omega)
      have v5 : vp_in (nI (lb (xs (j + 1)))) 24 := vp_in_nI (by omega) (by decide)
      have n1 : ¬ nI j < 0 := nI_pos (by omega)
      have hnx : ∀ u, R u → d u < k → u ≠ xs j := fun u _ h e => by rw [e] at h; omega
      have nxt : ∀ y : Nat, (y = lb (an (xs j)) ∨ y = lb (xs j)) ∧ s y ≤ s (lb (an (xs j))) ∧ s y ≤ s (lb (xs j)) →
          wX_lowest_71 post (nI v) (nI n) f_edgeCount f_reached f_current f_queued f_farthest N (nI j - 1) a_tail a_head a_outFirst a_outNext a_inFirst a_inNext a_cursor a_stack a_number a_atNumber a_parent a_semi (upd lab (xs j) (nI y)) (upd anc (xs j) (anc (xs (j + 1)))) a_bucketFirst a_bucketNext a_idom a_level a_size a_enter a_pathIndex a_from a_queue a_visited := by
        intro y hy
        refine ih (by omega) (by omega) (fun i hi => hst i (by omega)) (fo_u an (xs j) (an (an (xs j)))) (fo_u lb (xs j) y) _ _ ⟨fo_comp H1 x1 x2 (by rw [e1]; exact y2) hy, ?_, ?_, H4⟩ (fun i hi => hx i (by omega)) ?_ ?_ ?_ N (by omega)
        · intro u hu hku
          rcases Classical.em (u = xs j) with z | z
          · subst z
            rw [pk_us, pk_us, fo_us, fo_us, e1]
            exact ⟨b1, rfl⟩
          · rw [pk_un z, pk_un z, fo_un z, fo_un z]
            exact H2 u hu hku
        · intro u hu hku
          rw [pk_un (hnx u hu hku)]; exact H3 u hu hku
        · intro i hi
          rw [fo_un (hne i j hi (by omega))]; exact ha i (by omega)
        · rw [fo_us, e1]; exact hr
        · intro u hu hku
          rw [pk_un (hnx u hu hku)]; exact hl u hu hku
      have keep : upd lab (xs j) (nI (lb (xs j))) = lab := by
        funext u
        rcases Classical.em (u = xs j) with z | z
        · subst z; rw [pk_us, a2]
        · rw [pk_un z]
      rw [nI_pred]
      rcases Nat.lt_or_ge (s (lb (xs (j + 1)))) (s (lb (xs j))) with z | z
      · have n2 : ¬ nI (s (lb (xs j))) ≤ nI (s (lb (xs (j + 1)))) := nI_ge z (by omega)
        simp only [wX_lowest_71, wX_lowest_135, n1, c1, v1, s1, c2, v2, a1, c3, v3, b2, c5, v5, a2, c4, v4, sx.1, sy.1, n2, wk_m, forall_eq, true_and, and_true, not_true_eq_false, not_false_eq_true, false_implies, true_implies, implies_true, forall_const]
        exact nxt _ ⟨Or.inl (by rw [e1]), by rw [e1]; exact Nat.le_refl _, by omega⟩
      · have n2 : nI (s (lb (xs j))) ≤ nI (s (lb (xs (j + 1)))) := nI_le z (by omega)
        simp only [wX_lowest_71, wX_lowest_135, n1, c1, v1, s1, c2, v2, a1, c3, v3, b2, c5, v5, a2, c4, v4, sx.1, sy.1, n2, wk_m, forall_eq, true_and, and_true, not_true_eq_false, not_false_eq_true, false_implies, true_implies, implies_true, forall_const]
        have := nxt (lb (xs j)) ⟨Or.inr rfl, by rw [e1]; exact z, Nat.le_refl _⟩
        rw [keep] at this
        exact this
theorem lo_dec {an lb : Nat → Nat} (H : fo_I R d p s k an lb) {v : Nat} : ∀ J, (∀ i, i ≤ J → R (bf_it an v i) ∧ k ≤ d (bf_it an v i)) → ∀ i i', i < i' → i' ≤ J → d (bf_it an v i') < d (bf_it an v i) := by
  intro J hx i i' h1 h2
  induction i' with
  | zero => omega
  | succ t ih =>
    have a := (H _ (hx t (by omega)).1 (hx t (by omega)).2).2.1
    rcases Nat.lt_or_ge i t with z | z
    · have b := ih z (by omega)
      rw [bf_its]; omega
    · have : i = t := by omega
      subst this
      rw [bf_its]; exact a
theorem lo_19 {post : Int32 → SX → Prop} (hn : n ≤ 24) (hR : ∀ v, R v → v < n ∧ d v < n) {v : Nat} (hv : R v) {an lb : Nat → Nat} (H : lo_S R d p s k an lb a_ancestor a_label a_semi)
    (K : ∀ (r : Nat) (an lb : Nat → Nat) (anc lab stk : Nat → Int32), lo_S R d p s k an lb anc lab a_semi → fo_V R d p s k v r → (∀ u, R u → d u < k → lab u = a_label u) → post (nI r) ((nI n), f_edgeCount, f_reached, f_current, f_queued, f_farthest, a_tail, a_head, a_outFirst, a_outNext, a_inFirst, a_inNext, a_cursor, stk, a_number, a_atNumber, a_parent, a_semi, lab, anc, a_bucketFirst, a_bucketNext, a_idom, a_level, a_size, a_enter, a_pathIndex, a_from, a_queue, a_visited)) :
    ∀ t j, j + t = n → ∀ stk : Nat → Int32, (∀ i, i < j → stk i = nI (bf_it an v i)) → (∀ i, i ≤ j → R (bf_it an v i) ∧ k ≤ d (bf_it an v i)) → j + d (bf_it an v j) ≤ d v → ∀ N, t < N →
      wX_lowest_19 post (nI v) (nI n) f_edgeCount f_reached f_current f_queued f_farthest N (nI j) (nI (bf_it an v j)) (nI j) a_tail a_head a_outFirst a_outNext a_inFirst a_inNext a_cursor stk a_number a_atNumber a_parent a_semi a_label a_ancestor a_bucketFirst a_bucketNext a_idom a_level a_size a_enter a_pathIndex a_from a_queue a_visited := by
  have hv' := hR v hv
  intro t
  induction t with
  | zero => intro j hj stk hs hx hb; omega
  | succ t ih =>
    intro j hj stk hs hx hb N hN
    cases N with
    | zero => omega
    | succ N =>
      have H' := H
      obtain ⟨H1, H2, H3, H4⟩ := H'
      obtain ⟨x1, x2⟩ := hx j (by omega)
      obtain ⟨a1, a2⟩ := H2 _ x1 x2
      have hw := hR _ x1
      have q := H1 _ x1 x2
      have ra := hR _ q.1
      have c1 : (nI j).toNatClampNeg = j := nI_clamp (by omega)
      have v1 : vp_in (nI j) 25 := vp_in_nI (by omega) (by decide)
      have c2 : (nI (bf_it an v j)).toNatClampNeg = bf_it an v j := nI_clamp (by omega)
      have v2 : vp_in (nI (bf_it an v j)) 24 := vp_in_nI (by omega) (by decide)
      have c3 : (nI (an (bf_it an v j))).toNatClampNeg = an (bf_it an v j) := nI_clamp (by omega)
      have v3 : vp_in (nI (an (bf_it an v j))) 24 := vp_in_nI (by omega) (by decide)
      have n1 : ¬ nI n ≤ nI j := nI_ge (by omega) (by omega)
      rcases Nat.lt_or_ge (d (an (bf_it an v j))) k with z | z
      · have e1 := H3 _ q.1 z
        simp only [wX_lowest_19, n1, c2, v2, a1, c3, v3, e1, forall_eq, true_and, and_true, not_true_eq_false, not_false_eq_true, false_implies, true_implies, implies_true, forall_const]
        refine ⟨j + 1, ?_⟩
        exact lo_71 hn hR hv (J := j) (xs := bf_it an v) rfl (fun i i' h1 h2 e => by have := lo_dec H1 j hx i i' h1 h2; rw [e] at this; omega)
          (fun r an lb anc lab A B C => K r an lb anc lab stk A B C) j (Nat.le_refl _) (by omega) hs an lb _ _ H hx (fun i _ => rfl) z (fun _ _ _ => rfl) (j + 1) (by omega)
      · have e1 : ¬ a_ancestor (an (bf_it an v j)) = -1 := by
          rw [(H2 _ q.1 z).1]
          exact pt_nm1 (by have := hR _ (H1 _ q.1 z).1; omega)
        simp only [wX_lowest_19, n1, c1, v1, c2, v2, a1, c3, v3, e1, nI_1, forall_eq, true_and, and_true, not_true_eq_false, not_false_eq_true, false_implies, true_implies, implies_true, forall_const]
        refine ih (j + 1) (by omega) (upd stk j (nI (bf_it an v j))) ?_ ?_ ?_ N (by omega)
        · intro i hi
          rcases Nat.lt_or_ge i j with y | y
          · rw [pk_un (by omega)]; exact hs i y
          · have : i = j := by omega
            subst this; rw [pk_us]
        · intro i hi
          rcases Nat.lt_or_ge i (j + 1) with y | y
          · exact hx i (by omega)
          · have : i = j + 1 := by omega
            subst this; exact ⟨q.1, z⟩
        · have := q.2.1
          show j + 1 + d (an (bf_it an v j)) ≤ d v
          omega
theorem lo_ok {post : Int32 → SX → Prop} (hn : n ≤ 24) (hR : ∀ v, R v → v < n ∧ d v < n) {v : Nat} (hv : R v) {an lb : Nat → Nat} (H : lo_S R d p s k an lb a_ancestor a_label a_semi)
    (K : ∀ (r : Nat) (an lb : Nat → Nat) (anc lab stk : Nat → Int32), lo_S R d p s k an lb anc lab a_semi → fo_V R d p s k v r → (∀ u, R u → d u < k → lab u = a_label u) → post (nI r) ((nI n), f_edgeCount, f_reached, f_current, f_queued, f_farthest, a_tail, a_head, a_outFirst, a_outNext, a_inFirst, a_inNext, a_cursor, stk, a_number, a_atNumber, a_parent, a_semi, lab, anc, a_bucketFirst, a_bucketNext, a_idom, a_level, a_size, a_enter, a_pathIndex, a_from, a_queue, a_visited)) :
    wpX_lowest post ((nI n), f_edgeCount, f_reached, f_current, f_queued, f_farthest, a_tail, a_head, a_outFirst, a_outNext, a_inFirst, a_inNext, a_cursor, a_stack, a_number, a_atNumber, a_parent, a_semi, a_label, a_ancestor, a_bucketFirst, a_bucketNext, a_idom, a_level, a_size, a_enter, a_pathIndex, a_from, a_queue, a_visited) (nI v) := by
  have hv' := hR v hv
  have c2 : (nI v).toNatClampNeg = v := nI_clamp (by omega)
  have v2 : vp_in (nI v) 24 := vp_in_nI (by omega) (by decide)
  rcases Nat.lt_or_ge (d v) k with z | z
  · have e1 := H.2.2.1 v hv z
    simp only [wpX_lowest, v2, c2, e1, forall_eq, true_and, and_true, not_true_eq_false, not_false_eq_true, false_implies, true_implies, implies_true, forall_const]
    exact K v an lb _ _ _ H ⟨hv, fun _ => rfl, fun h => by omega⟩ (fun _ _ _ => rfl)
  · have q := H.1 v hv z
    have e1 : ¬ a_ancestor v = -1 := by
      rw [(H.2.1 v hv z).1]
      exact pt_nm1 (by have := hR _ q.1; omega)
    simp only [wpX_lowest, v2, c2, e1, forall_eq, true_and, and_true, not_true_eq_false, not_false_eq_true, false_implies, true_implies, implies_true, forall_const]
    refine ⟨n + 1, ?_⟩
    exact lo_19 (post := post) hn hR hv H K n 0 (by omega) a_stack (fun i hi => by omega) (fun i hi => by
      have : i = 0 := by omega
      subst this; exact ⟨hv, z⟩) (by show 0 + d v ≤ d v; omega) (n + 1) (by omega)
end
end
section
/-! lowerBySources -/
def ls_I (R : Nat → Prop) (d p : Nat → Nat) (E : Nat → Nat → Prop) (m : Nat) (tl hd : Nat → Nat) (w c : Nat) (s : Nat → Nat) : Prop :=
  (∀ u, R u → d u < d w → s u = d u) ∧ (∀ u, R u → d w < d u → lt_S1 R d p E s u) ∧ s w ≤ d w ∧
  (∃ q, R q ∧ d q = s w ∧ lt_A R d p q w) ∧ (∀ z, R z → s w < d z → d z < d w → re_R E z w) ∧
  (∀ e, e < c → e < m → hd e = w → R (tl e) → (d (tl e) < d w → s w ≤ d (tl e)) ∧ (∀ u, R u → lt_A R d p u (tl e) → d w < d u → s w ≤ s u))
section
variable {R : Nat → Prop} {d p s : Nat → Nat} {E : Nat → Nat → Prop} {m w c : Nat} {tl hd : Nat → Nat}
theorem ls_S1 {s' : Nat → Nat} {u : Nat} (hu : R u) (h : lt_S1 R d p E s u) (e : ∀ x, R x → d u ≤ d x → s' x = s x) : lt_S1 R d p E s' u := by
  obtain ⟨h1, h2, h3, h4⟩ := h
  have e0 := e u hu (Nat.le_refl _)
  refine ⟨by rw [e0]; exact h1, by rw [e0]; exact h2, by rw [e0]; exact h3, fun a ha hE => ⟨by rw [e0]; exact (h4 a ha hE).1, fun x hx hA hl => ?_⟩⟩
  rw [e0, e x hx (by omega)]
  exact (h4 a ha hE).2 x hx hA hl
theorem ls_0 (hw : R w) (h1 : ∀ u, R u → d u ≤ d w → s u = d u) (h2 : ∀ u, R u → d w < d u → lt_S1 R d p E s u) : ls_I R d p E m tl hd w 0 s := by
  have e := h1 w hw (Nat.le_refl _)
  exact ⟨fun u hu hl => h1 u hu (by omega), h2, by omega, ⟨w, hw, by omega, lt_refl w⟩, fun z _ a b => by omega, fun e he => by omega⟩
theorem ls_end (hm : m ≤ 60) (T : lt_T R d p (re_E m tl hd 60)) (hw : R w) (w0 : w ≠ 0) (H : ls_I R d p (re_E m tl hd 60) m tl hd w c s) (hx : ∀ e, c ≤ e → e < m → hd e ≠ w) : lt_S1 R d p (re_E m tl hd 60) s w := by
  obtain ⟨h1, h2, h3, h4, h5, h6⟩ := H
  have all : ∀ e, e < m → hd e = w → e < c := fun e he hh => by
    rcases Nat.lt_or_ge e c with z | z
    · exact z
    · exact absurd hh (hx e z he)
  refine ⟨?_, h4, h5, ?_⟩
  · obtain ⟨p1, p2, ⟨e, e1, _, e2, e3⟩, p4⟩ := T.2.2.2.1 w hw w0
    have := (h6 e (all e e1 e3) e1 e3 (by rw [e2]; exact p1)).1 (by rw [e2]; exact p2)
    rw [e2] at this; omega
  · rintro a ha ⟨e, e1, _, e2, e3⟩
    subst e2
    exact h6 e (all e e1 e3) e1 e3 ha
theorem ls_skip {e : Nat} (H : ls_I R d p E m tl hd w c s) (hn : ∀ e', c ≤ e' → e' < e → hd e' ≠ w) (hR : ¬ R (tl e)) : ls_I R d p E m tl hd w (e + 1) s := by
  obtain ⟨h1, h2, h3, h4, h5, h6⟩ := H
  refine ⟨h1, h2, h3, h4, h5, fun e' a b hh hr => ?_⟩
  rcases Nat.lt_or_ge e' c with z | z
  · exact h6 e' z b hh hr
  · rcases Nat.lt_or_ge e' e with y | y
    · exact absurd hh (hn e' z y)
    · have : e' = e := by omega
      subst this; exact absurd hr hR
/-- what the answer u for the source v says -/
theorem ls_u (T : lt_T R d p E) (hw : R w) (h1 : ∀ u, R u → d u < d w → s u = d u) {v u : Nat} (hv : R v) (hu : fo_V R d p s (d w + 1) v u) {x : Nat} (hx : x ≤ s u) :
    (d v < d w → x ≤ d v) ∧ (∀ y, R y → lt_A R d p y v → d w < d y → x ≤ s y) := by
  obtain ⟨u1, u2, u3⟩ := hu
  constructor
  · intro h
    have e := u2 (by omega)
    rw [e, h1 v hv h] at hx
    exact hx
  · intro y hy hA hl
    have := hA.1
    have := (u3 (by omega)).2.2 y hy hA (by omega)
    omega
theorem ls_eq {e u : Nat} (T : lt_T R d p E) (hw : R w) (H : ls_I R d p E m tl hd w c s) (hn : ∀ e', c ≤ e' → e' < e → hd e' ≠ w) (hv : R (tl e)) (hu : fo_V R d p s (d w + 1) (tl e) u) (hs : s w ≤ s u) :
    ls_I R d p E m tl hd w (e + 1) s := by
  obtain ⟨h1, h2, h3, h4, h5, h6⟩ := H
  refine ⟨h1, h2, h3, h4, h5, fun e' a b hh hr => ?_⟩
  rcases Nat.lt_or_ge e' c with z | z
  · exact h6 e' z b hh hr
  · rcases Nat.lt_or_ge e' e with y | y
    · exact absurd hh (hn e' z y)
    · have : e' = e := by omega
      subst this
      exact ls_u T hw h1 hv hu hs
theorem ls_lt {e u : Nat} (T : lt_T R d p E) (hE : E (tl e) w) (hw : R w) (H : ls_I R d p E m tl hd w c s) (hn : ∀ e', c ≤ e' → e' < e → hd e' ≠ w) (hv : R (tl e)) (hu : fo_V R d p s (d w + 1) (tl e) u) (hs : s u < s w) :
    ls_I R d p E m tl hd w (e + 1) (fo_u s w (s u)) := by
  obtain ⟨h1, h2, h3, h4, h5, h6⟩ := H
  have ne : ∀ x, R x → d w ≠ d x → fo_u s w (s u) x = s x := fun x hx h => fo_un (fun z => h (by rw [z]))
  have key := ls_u T hw h1 hv hu (Nat.le_refl _)
  obtain ⟨u1, u2, u3⟩ := hu
  have base : (∃ q, R q ∧ d q = s u ∧ lt_A R d p q w) ∧ (∀ z, R z → s u < d z → d z < d w → re_R E z w) := by
    rcases Nat.lt_trichotomy (d (tl e)) (d w) with z | z | z
    · have e1 := u2 (by omega)
      have e2 := h1 _ hv z
      rw [e1, e2]
      refine ⟨⟨tl e, hv, rfl, T.2.2.2.2.2 _ _ hv hE z⟩, fun x hx a b => ?_⟩
      refine re_s (lt_path T _ hv (fun q => by have := q.2.1; omega)) hE (fun q => ?_)
      rw [q] at b; omega
    · have e1 := u2 (by omega)
      rw [e1, lt_inj T hv hw z] at hs
      omega
    · obtain ⟨a1, a2, a3⟩ := u3 (by omega)
      obtain ⟨b1, ⟨q, q1, q2, q3⟩, b3, b4⟩ := h2 u u1 (by omega)
      refine ⟨⟨q, q1, q2, lt_conv q3 (by omega) (by omega)⟩, fun x hx i j => ?_⟩
      refine re_s (lt_down T u1 (b3 x hx i (by omega)) (by omega) _ hv a1) hE (fun q => ?_)
      rw [q] at j; omega
  refine ⟨fun x hx hl => ?_, fun x hx hl => ?_, by rw [fo_us]; omega, by rw [fo_us]; exact base.1, by rw [fo_us]; exact base.2, fun e' a b hh hr => ?_⟩
  · rw [ne x hx (by omega)]; exact h1 x hx hl
  · exact ls_S1 hx (h2 x hx hl) (fun y hy hl2 => ne y hy (by omega))
  · rw [fo_us]
    have conv : (d (tl e') < d w → s u ≤ d (tl e')) ∧ (∀ y, R y → lt_A R d p y (tl e') → d w < d y → s u ≤ s y) := by
      rcases Nat.lt_or_ge e' c with z | z
      · have k := h6 e' z b hh hr
        exact ⟨fun h => by have := k.1 h; omega, fun y hy hA hl => by have := k.2 y hy hA hl; omega⟩
      · rcases Nat.lt_or_ge e' e with y | y
        · exact absurd hh (hn e' z y)
        · have : e' = e := by omega
          subst this; exact key
    refine ⟨conv.1, fun y hy hA hl => ?_⟩
    rw [ne y hy (by omega)]
    exact conv.2 y hy hA hl
end
section

variable {n m : Nat} {tl hd : Nat → Nat} {R : Nat → Prop} {d p : Nat → Nat} {w : Nat} {f_reached f_current f_queued f_farthest : Int32} {a_tail a_head a_outFirst a_outNext a_inFirst a_inNext a_cursor a_stack a_number a_atNumber a_parent a_semi a_label a_ancestor a_bucketFirst a_bucketNext a_idom a_level a_size a_enter a_pathIndex a_from a_queue a_visited : Nat → Int32}
theorem ls_9 {post : SX → Prop} (G : gr_G n m tl hd a_tail a_head) (CI : pt_C n m hd 0 a_inFirst a_inNext) (T : lt_T R d p (re_E m tl hd 60)) (hR : ∀ v, R v → v < n ∧ d v < n)
    (hnum : ∀ v, R v → a_number v = nI (d v)) (hnum' : ∀ v, v < n → ¬ R v → a_number v = -1) (hw : R w) (w0 : w ≠ 0)
    (K : ∀ (s an lb : Nat → Nat) (semi anc lab stk : Nat → Int32), lo_S R d p s (d w + 1) an lb anc lab semi → (∀ u, R u → d u < d w → s u = d u) → (∀ u, R u → d w ≤ d u → lt_S1 R d p (re_E m tl hd 60) s u) → (∀ u, R u → d u ≤ d w → lab u = nI u) →
      (∀ u, R u → d w < d u → semi u = a_semi u) → post ((nI n), (nI m), f_reached, f_current, f_queued, f_farthest, a_tail, a_head, a_outFirst, a_outNext, a_inFirst, a_inNext, a_cursor, stk, a_number, a_atNumber, a_parent, semi, lab, anc, a_bucketFirst, a_bucketNext, a_idom, a_level, a_size, a_enter, a_pathIndex, a_from, a_queue, a_visited)) :
    ∀ t k, k + t = 60 → ∀ (c : Nat) (x : Int32) (s an lb : Nat → Nat) (semi anc lab stk : Nat → Int32), k ≤ c → pt_P (fun e => hd e = w) id c m x → lo_S R d p s (d w + 1) an lb anc lab semi →
      ls_I R d p (re_E m tl hd 60) m tl hd w c s → (∀ u, R u → d u ≤ d w → lab u = nI u) → (∀ u, R u → d w < d u → semi u = a_semi u) → ∀ N, t < N →
      wX_lowerBySources_9 post (nI w) N x (nI k) (nI n) (nI m) f_reached f_current f_queued f_farthest a_tail a_head a_outFirst a_outNext a_inFirst a_inNext a_cursor stk a_number a_atNumber a_parent semi lab anc a_bucketFirst a_bucketNext a_idom a_level a_size a_enter a_pathIndex a_from a_queue a_visited := by
  obtain ⟨g1, g2, g3, g4⟩ := G
  have hw' := hR w hw
  have cw : (nI w).toNatClampNeg = w := nI_clamp (by omega)
  have vw : vp_in (nI w) 24 := vp_in_nI (by omega) (by decide)
  have fin : ∀ (c : Nat) (s an lb : Nat → Nat) (semi anc lab stk : Nat → Int32), lo_S R d p s (d w + 1) an lb anc lab semi →
      ls_I R d p (re_E m tl hd 60) m tl hd w c s → (∀ u, R u → d u ≤ d w → lab u = nI u) → (∀ u, R u → d w < d u → semi u = a_semi u) → (∀ e, c ≤ e → e < m → hd e ≠ w) → post ((nI n), (nI m), f_reached, f_current, f_queued, f_farthest, a_tail, a_head, a_outFirst, a_outNext, a_inFirst, a_inNext, a_cursor, stk, a_number, a_atNumber, a_parent, semi, lab, anc, a_bucketFirst, a_bucketNext, a_idom, a_level, a_size, a_enter, a_pathIndex, a_from, a_queue, a_visited) := by
    intro c s an lb semi anc lab stk h1 h2 h3 h4 h5
    refine K s an lb semi anc lab stk h1 h2.1 (fun u hu hl => ?_) h3 h4
    rcases Nat.lt_or_ge (d w) (d u) with z | z
    · exact h2.2.1 u hu z
    · have : u = w := lt_inj T hu hw (by omega)
      subst this
      exact ls_end g3 T hw w0 h2 h5
  intro t
  induction t with
  | zero =>
    intro k hk c x s an lb semi anc lab stk hc hx h1 h2 h3 h4 N hN
    cases N with
    | zero => omega
    | succ N => exact br_t (nI_le (a := 60) (by omega) (by omega)) (fin c s an lb semi anc lab stk h1 h2 h3 h4 (fun e he => by omega))
  | succ t ih =>
    intro k hk c x s an lb semi anc lab stk hc hx h1 h2 h3 h4 N hN
    cases N with
    | zero => omega
    | succ N =>
      have n1 : ¬ (60 : Int32) ≤ nI k := nI_ge (b := 60) (by omega) (by decide)
      rcases hx with ⟨e1, e2⟩ | ⟨e, e1, e2, e3, e4, e5⟩
      · exact br_f n1 (br_t e1 (fin c s an lb semi anc lab stk h1 h2 h3 h4 e2))
      · have e4' : x = nI e := e4
        subst e4'
        have e3' : hd e = w := e3
        obtain ⟨t1, t2, t3, t4⟩ := g4 e e2
        have n2 : ¬ nI e = -1 := pt_nm1 (by omega)
        have c1 : (nI e).toNatClampNeg = e := nI_clamp (by omega)
        have v1 : vp_in (nI e) 60 := vp_in_nI (by omega) (by decide)
        have c2 : (nI (tl e)).toNatClampNeg = tl e := nI_clamp (by omega)
        have v2 : vp_in (nI (tl e)) 24 := vp_in_nI (by omega) (by decide)
        have nx : pt_P (fun e => hd e = w) id (e + 1) m (a_inNext e) := by
          have := CI.2 e (by omega) e2
          rw [e3'] at this
          exact this
        have hE : re_E m tl hd 60 (tl e) w := ⟨e, e2, by omega, rfl, e3'⟩
        rcases Classical.em (R (tl e)) with hv | hv
        · have n3 : ¬ a_number (tl e) < 0 := by
            rw [hnum _ hv]; exact nI_pos (by have := hR _ hv; omega)
          simp only [wX_lowerBySources_9, n1, n2, c1, v1, t3, c2, v2, n3, nI_1, forall_eq, true_and, and_true, not_true_eq_false, not_false_eq_true, false_implies, true_implies, implies_true, forall_const]
          refine lo_ok g2 hR hv h1 (fun r an' lb' anc' lab' stk' A B C => ?_)
          have hr := hR r B.1
          have cr : (nI r).toNatClampNeg = r := nI_clamp (by omega)
          have vr : vp_in (nI r) 24 := vp_in_nI (by omega) (by decide)
          have s1 := A.2.2.2 r B.1
          have s2 := A.2.2.2 w hw
          have h3' : ∀ u, R u → d u ≤ d w → lab' u = nI u := fun u hu hl => by rw [C u hu (by omega)]; exact h3 u hu hl
          rcases Nat.lt_or_ge (s r) (s w) with z | z
          · have n4 : ¬ nI (s w) ≤ nI (s r) := nI_ge z (by omega)
            simp only [cr, vr, cw, vw, s1.1, s2.1, n4, c1, v1, nI_1, forall_eq, true_and, and_true, not_true_eq_false, not_false_eq_true, false_implies, true_implies, implies_true, forall_const]
            have hI := ls_lt T hE hw h2 (fun e' a b => e5 e' a b) hv B z
            refine ih (k + 1) (by omega) (e + 1) _ (fo_u s w (s r)) an' lb' _ _ _ _ (by omega) nx ⟨fo_congr A.1 (fun u hu hl => fo_un (fun q => by rw [q] at hl; omega)), A.2.1, A.2.2.1, ?_⟩ hI h3' ?_ N (by omega)
            · intro u hu
              rcases Classical.em (u = w) with y | y
              · subst y; rw [pk_us, fo_us]; exact ⟨rfl, by omega⟩
              · rw [pk_un y, fo_un y]; exact A.2.2.2 u hu
            · intro u hu hl
              rw [pk_un (fun q => by rw [q] at hl; omega)]; exact h4 u hu hl
          · have n4 : nI (s w) ≤ nI (s r) := nI_le z (by omega)
            simp only [cr, vr, cw, vw, s1.1, s2.1, n4, c1, v1, nI_1, forall_eq, true_and, and_true, not_true_eq_false, not_false_eq_true, false_implies, true_implies, implies_true, forall_const]
            exact ih (k + 1) (by omega) (e + 1) _ s an' lb' _ _ _ _ (by omega) nx A (ls_eq T hw h2 (fun e' a b => e5 e' a b) hv B z) h3' h4 N (by omega)
        · have n3 : a_number (tl e) < 0 := by
            rw [hnum' _ t1 hv]; exact wk_m1
          simp only [wX_lowerBySources_9, n1, n2, c1, v1, t3, c2, v2, n3, nI_1, forall_eq, true_and, and_true, not_true_eq_false, not_false_eq_true, false_implies, true_implies, implies_true, forall_const]
          exact ih (k + 1) (by omega) (e + 1) _ s an lb _ _ _ _ (by omega) nx h1 (ls_skip h2 (fun e' a b => e5 e' a b) hv) h3 h4 N (by omega)
theorem ls_ok {post : SX → Prop} (G : gr_G n m tl hd a_tail a_head) (CI : pt_C n m hd 0 a_inFirst a_inNext) (T : lt_T R d p (re_E m tl hd 60)) (hR : ∀ v, R v → v < n ∧ d v < n)
    (hnum : ∀ v, R v → a_number v = nI (d v)) (hnum' : ∀ v, v < n → ¬ R v → a_number v = -1) (hw : R w) (w0 : w ≠ 0) {s an lb : Nat → Nat}
    (h1 : lo_S R d p s (d w + 1) an lb a_ancestor a_label a_semi) (h2 : ∀ u, R u → d u ≤ d w → s u = d u) (h2' : ∀ u, R u → d w < d u → lt_S1 R d p (re_E m tl hd 60) s u) (h3 : ∀ u, R u → d u ≤ d w → a_label u = nI u)
    (K : ∀ (s an lb : Nat → Nat) (semi anc lab stk : Nat → Int32), lo_S R d p s (d w + 1) an lb anc lab semi → (∀ u, R u → d u < d w → s u = d u) → (∀ u, R u → d w ≤ d u → lt_S1 R d p (re_E m tl hd 60) s u) → (∀ u, R u → d u ≤ d w → lab u = nI u) →
      (∀ u, R u → d w < d u → semi u = a_semi u) → post ((nI n), (nI m), f_reached, f_current, f_queued, f_farthest, a_tail, a_head, a_outFirst, a_outNext, a_inFirst, a_inNext, a_cursor, stk, a_number, a_atNumber, a_parent, semi, lab, anc, a_bucketFirst, a_bucketNext, a_idom, a_level, a_size, a_enter, a_pathIndex, a_from, a_queue, a_visited)) :
    wpX_lowerBySources post ((nI n), (nI m), f_reached, f_current, f_queued, f_farthest, a_tail, a_head, a_outFirst, a_outNext, a_inFirst, a_inNext, a_cursor, a_stack, a_number, a_atNumber, a_parent, a_semi, a_label, a_ancestor, a_bucketFirst, a_bucketNext, a_idom, a_level, a_size, a_enter, a_pathIndex, a_from, a_queue, a_visited) (nI w) := by
  have hw' := hR w hw
  have g2 := G.2.1
  have cw : (nI w).toNatClampNeg = w := nI_clamp (by omega)
  have vw : vp_in (nI w) 24 := vp_in_nI (by omega) (by decide)
  simp only [wpX_lowerBySources, cw, vw, forall_eq, true_and, and_true, not_true_eq_false, not_false_eq_true, false_implies, true_implies, implies_true, forall_const]
  refine ⟨61, ?_⟩
  exact ls_9 (post := post) G CI T hR hnum hnum' hw w0 K 60 0 (by omega) 0 (a_inFirst w) s an lb a_semi a_ancestor a_label a_stack (by omega) (CI.1 w hw'.1) h1 (ls_0 hw h2 h2') h3 (fun _ _ _ => rfl) 61 (by omega)
end
end
section
/-! emptyBucket -/
section
variable {R : Nat → Prop} {d p s vt : Nat → Nat} {E : Nat → Nat → Prop}
theorem eb_ge (T : lt_T R d p E) {w v x : Nat} (hw : R w) (hA : lt_A R d p w v) (hx : lt_A R d p x v) (hl : d (p w) < d x) : d w ≤ d x := by
  rcases Nat.lt_or_ge (d x) (d w) with z | z
  · have a := lt_conv hx (by omega : d x ≤ d w) hA.1
    have := (lt_par T hw a z).1
    omega
  · exact z
theorem eb_H (T : lt_T R d p E) (hvt : ∀ v, R v → vt (d v) = v) {w v u : Nat} (hw : R w) (w0 : w ≠ 0) (hA : lt_A R d p w v) (hs : s v = d (p w)) (hu : fo_V R d p s (d w) v u) :
    (s u < s v → se_H R d p s vt v u) ∧ (s v ≤ s u → se_H R d p s vt v (p w)) := by
  obtain ⟨p1, p2, p3, p4⟩ := T.2.2.2.1 w hw w0
  obtain ⟨u1, u2, u3⟩ := hu
  obtain ⟨a1, a2, a3⟩ := u3 hA.1
  have mn : ∀ x, R x → lt_A R d p x v → s v < d x → s u ≤ s x := fun x hx hxA hl => a3 x hx hxA (eb_ge T hw hA hxA (by omega))
  constructor
  · intro h
    exact Or.inr ⟨u1, a1, by omega, h, mn⟩
  · intro h
    refine Or.inl ⟨by rw [hs]; exact (hvt _ p1).symm, fun x hx hxA hl => ?_⟩
    have := mn x hx hxA hl
    omega
end
section

variable {n rc l : Nat} {R : Nat → Prop} {d p s vt : Nat → Nat} {E : Nat → Nat → Prop} {w : Nat} {f_edgeCount f_reached f_current f_queued f_farthest : Int32} {a_tail a_head a_outFirst a_outNext a_inFirst a_inNext a_cursor a_stack a_number a_atNumber a_parent a_semi a_label a_ancestor a_bucketFirst a_bucketNext a_idom a_level a_size a_enter a_pathIndex a_from a_queue a_visited : Nat → Int32}
theorem eb_9 {post : SX → Prop} (hn : n ≤ 24) (T : lt_T R d p E) (hR : ∀ v, R v → v < n ∧ d v < n) (hvt : ∀ v, R v → vt (d v) = v) (hvt' : ∀ i, i < l → R (vt i) ∧ d (vt i) = i) (hl : l ≤ n)
    (hw : R w) (w0 : w ≠ 0) (hW : ∀ j, d w ≤ j → j < l → s (vt j) = d (p w) → lt_A R d p w (vt j))
    (hB : ∀ j, d w ≤ j → j < l → s (vt j) = d (p w) → pt_P (fun i => s (vt i) = d (p w)) vt (j + 1) l (a_bucketNext (vt j)))
    (K : ∀ (an lb : Nat → Nat) (anc lab stk idm : Nat → Int32), lo_S R d p s (d w) an lb anc lab a_semi → (∀ u, R u → d u < d w → lab u = a_label u) →
      (∀ j, d w ≤ j → j < l → s (vt j) = d (p w) → ∃ h, idm (vt j) = nI h ∧ se_H R d p s vt (vt j) h) → (∀ u, R u → ¬ (d w ≤ d u ∧ d u < l ∧ s u = d (p w)) → idm u = a_idom u) →
      post ((nI n), f_edgeCount, f_reached, f_current, f_queued, f_farthest, a_tail, a_head, a_outFirst, a_outNext, a_inFirst, a_inNext, a_cursor, stk, a_number, a_atNumber, a_parent, a_semi, lab, anc, (upd a_bucketFirst (p w) (-1)), a_bucketNext, idm, a_level, a_size, a_enter, a_pathIndex, a_from, a_queue, a_visited)) :
    ∀ t k, k + t = n → ∀ (c : Nat) (x : Int32) (an lb : Nat → Nat) (anc lab stk idm : Nat → Int32), k ≤ c → d w ≤ c → pt_P (fun i => s (vt i) = d (p w)) vt c l x → lo_S R d p s (d w) an lb anc lab a_semi → (∀ u, R u → d u < d w → lab u = a_label u) →
      (∀ j, d w ≤ j → j < c → j < l → s (vt j) = d (p w) → ∃ h, idm (vt j) = nI h ∧ se_H R d p s vt (vt j) h) → (∀ u, R u → ¬ (d w ≤ d u ∧ d u < l ∧ s u = d (p w)) → idm u = a_idom u) → ∀ N, t < N →
      wX_emptyBucket_9 post (nI (p w)) N x (nI k) (nI n) f_edgeCount f_reached f_current f_queued f_farthest a_tail a_head a_outFirst a_outNext a_inFirst a_inNext a_cursor stk a_number a_atNumber a_parent a_semi lab anc a_bucketFirst a_bucketNext idm a_level a_size a_enter a_pathIndex a_from a_queue a_visited := by
  obtain ⟨p1, p2, p3, p4⟩ := T.2.2.2.1 w hw w0
  have hp := hR _ p1
  have cp : (nI (p w)).toNatClampNeg = p w := nI_clamp (by omega)
  have vp : vp_in (nI (p w)) 24 := vp_in_nI (by omega) (by decide)
  intro t
  induction t with
  | zero =>
    intro k hk c x an lb anc lab stk idm hc hc2 hx h1 h2 h3 h4 N hN
    cases N with
    | zero => omega
    | succ N =>
      have n1 : nI n ≤ nI k := nI_le (by omega) (by omega)
      simp only [wX_emptyBucket_9, n1, cp, vp, forall_eq, true_and, and_true, not_true_eq_false, not_false_eq_true, false_implies, true_implies, implies_true, forall_const]
      exact K an lb anc lab stk idm h1 h2 (fun j a b => h3 j a (by omega) b) h4
  | succ t ih =>
    intro k hk c x an lb anc lab stk idm hc hc2 hx h1 h2 h3 h4 N hN
    cases N with
    | zero => omega
    | succ N =>
      have n1 : ¬ nI n ≤ nI k := nI_ge (by omega) (by omega)
      rcases hx with ⟨e1, e2⟩ | ⟨j, e1, e2, e3, e4, e5⟩
      · simp only [wX_emptyBucket_9, n1, e1, cp, vp, forall_eq, true_and, and_true, not_true_eq_false, not_false_eq_true, false_implies, true_implies, implies_true, forall_const]
        refine K an lb anc lab stk idm h1 h2 (fun j a b q => ?_) h4
        rcases Nat.lt_or_ge j c with z | z
        · exact h3 j a z b q
        · exact absurd q (e2 j z b)
      · subst e4
        obtain ⟨r1, r2⟩ := hvt' j e2
        have hv := hR _ r1
        have e3' : s (vt j) = d (p w) := e3
        have n2 : ¬ nI (vt j) = -1 := pt_nm1 (by omega)
        have c1 : (nI (vt j)).toNatClampNeg = vt j := nI_clamp (by omega)
        have v1 : vp_in (nI (vt j)) 24 := vp_in_nI (by omega) (by decide)
        simp only [wX_emptyBucket_9, n1, n2, forall_eq, true_and, and_true, not_true_eq_false, not_false_eq_true, false_implies, true_implies, implies_true, forall_const]
        refine lo_ok hn hR r1 h1 (fun r an' lb' anc' lab' stk' A B C => ?_)
        have hr := hR r B.1
        have cr : (nI r).toNatClampNeg = r := nI_clamp (by omega)
        have vr : vp_in (nI r) 24 := vp_in_nI (by omega) (by decide)
        have s1 := A.2.2.2 r B.1
        have s2 := A.2.2.2 _ r1
        have HH := eb_H T hvt hw w0 (hW j (by omega) e2 e3') e3' B
        have h2' : ∀ u, R u → d u < d w → lab' u = a_label u := fun u hu hl => by rw [C u hu hl]; exact h2 u hu hl
        have nxt : ∀ h : Nat, se_H R d p s vt (vt j) h → wX_emptyBucket_9 post (nI (p w)) N (a_bucketNext (vt j)) (nI (k + 1)) (nI n) f_edgeCount f_reached f_current f_queued f_farthest a_tail a_head a_outFirst a_outNext a_inFirst a_inNext a_cursor stk' a_number a_atNumber a_parent a_semi lab' anc' a_bucketFirst a_bucketNext (upd idm (vt j) (nI h)) a_level a_size a_enter a_pathIndex a_from a_queue a_visited := by
          intro h hh
          refine ih (k + 1) (by omega) (j + 1) _ an' lb' _ _ _ _ (by omega) (by omega) (hB j (by omega) e2 e3') A h2' ?_ ?_ N (by omega)
          · intro i a b b2 q
            rcases Classical.em (i = j) with z | z
            · subst z; exact ⟨h, pk_us, hh⟩
            · have ne : vt i ≠ vt j := fun y => z (by rw [← (hvt' i b2).2, y, r2])
              rw [pk_un ne]
              rcases Nat.lt_or_ge i c with y | y
              · exact h3 i a y b2 q
              · exact absurd q (e5 i y (by omega))
          · intro u hu hn
            rw [pk_un (fun y => hn (by rw [y, r2]; exact ⟨by omega, e2, e3'⟩))]
            exact h4 u hu hn
        rcases Nat.lt_or_ge (s r) (s (vt j)) with z | z
        · have n4 : ¬ nI (s (vt j)) ≤ nI (s r) := nI_ge z (by omega)
          simp only [wX_emptyBucket_56, cr, vr, c1, v1, s1.1, s2.1, n4, nI_1, forall_eq, true_and, and_true, not_true_eq_false, not_false_eq_true, false_implies, true_implies, implies_true, forall_const]
          exact nxt r (HH.1 z)
        · have n4 : nI (s (vt j)) ≤ nI (s r) := nI_le z (by omega)
          simp only [wX_emptyBucket_56, cr, vr, c1, v1, s1.1, s2.1, n4, nI_1, forall_eq, true_and, and_true, not_true_eq_false, not_false_eq_true, false_implies, true_implies, implies_true, forall_const]
          exact nxt (p w) (HH.2 z)
theorem eb_ok {post : SX → Prop} (hn : n ≤ 24) (T : lt_T R d p E) (hR : ∀ v, R v → v < n ∧ d v < n) (hvt : ∀ v, R v → vt (d v) = v) (hvt' : ∀ i, i < l → R (vt i) ∧ d (vt i) = i) (hl : l ≤ n)
    (hw : R w) (w0 : w ≠ 0) (hW : ∀ j, d w ≤ j → j < l → s (vt j) = d (p w) → lt_A R d p w (vt j))
    (hB : ∀ j, d w ≤ j → j < l → s (vt j) = d (p w) → pt_P (fun i => s (vt i) = d (p w)) vt (j + 1) l (a_bucketNext (vt j)))
    (hF : pt_P (fun i => s (vt i) = d (p w)) vt (d w) l (a_bucketFirst (p w))) {an lb : Nat → Nat} (h1 : lo_S R d p s (d w) an lb a_ancestor a_label a_semi)
    (K : ∀ (an lb : Nat → Nat) (anc lab stk idm : Nat → Int32), lo_S R d p s (d w) an lb anc lab a_semi → (∀ u, R u → d u < d w → lab u = a_label u) →
      (∀ j, d w ≤ j → j < l → s (vt j) = d (p w) → ∃ h, idm (vt j) = nI h ∧ se_H R d p s vt (vt j) h) → (∀ u, R u → ¬ (d w ≤ d u ∧ d u < l ∧ s u = d (p w)) → idm u = a_idom u) →
      post ((nI n), f_edgeCount, f_reached, f_current, f_queued, f_farthest, a_tail, a_head, a_outFirst, a_outNext, a_inFirst, a_inNext, a_cursor, stk, a_number, a_atNumber, a_parent, a_semi, lab, anc, (upd a_bucketFirst (p w) (-1)), a_bucketNext, idm, a_level, a_size, a_enter, a_pathIndex, a_from, a_queue, a_visited)) :
    wpX_emptyBucket post ((nI n), f_edgeCount, f_reached, f_current, f_queued, f_farthest, a_tail, a_head, a_outFirst, a_outNext, a_inFirst, a_inNext, a_cursor, a_stack, a_number, a_atNumber, a_parent, a_semi, a_label, a_ancestor, a_bucketFirst, a_bucketNext, a_idom, a_level, a_size, a_enter, a_pathIndex, a_from, a_queue, a_visited) (nI (p w)) := by
  obtain ⟨p1, p2, p3, p4⟩ := T.2.2.2.1 w hw w0
  have hp := hR _ p1
  have cp : (nI (p w)).toNatClampNeg = p w := nI_clamp (by omega)
  have vp : vp_in (nI (p w)) 24 := vp_in_nI (by omega) (by decide)
  simp only [wpX_emptyBucket, cp, vp, forall_eq, true_and, and_true, not_true_eq_false, not_false_eq_true, false_implies, true_implies, implies_true, forall_const]
  refine ⟨n + 1, ?_⟩
  exact eb_9 (post := post) hn T hR hvt hvt' hl hw w0 hW hB K n 0 (by omega) (d w) (a_bucketFirst (p w)) an lb a_ancestor a_label a_stack a_idom (by omega) (by omega) hF h1 (fun _ _ _ => rfl) (fun j a b => by omega) (fun _ _ _ => rfl) (n + 1) (by omega)
end
end
section
/-! findSemi -/
def fs_I (rc : Nat) (R : Nat → Prop) (d p vt : Nat → Nat) (E : Nat → Nat → Prop) (i : Nat) (s an lb lim : Nat → Nat) (anc lab semi bF bN idm : Nat → Int32) : Prop :=
  lo_S R d p s (i + 1) an lb anc lab semi ∧ (∀ u, R u → d u ≤ i → s u = d u) ∧ (∀ u, R u → i < d u → lt_S1 R d p E s u) ∧ (∀ u, R u → d u ≤ i → lab u = nI u) ∧
  (∀ q, R q → i < lim q ∧ lim q ≤ rc ∧ pt_P (fun j => s (vt j) = d q) vt (i + 1) (lim q) (bF q)) ∧
  (∀ v, R v → i < d v → d v < lim (vt (s v)) → pt_P (fun j => s (vt j) = s v) vt (d v + 1) (lim (vt (s v))) (bN v)) ∧
  (∀ w, R w → w ≠ 0 → i < d w → lim (p w) ≤ d w) ∧
  (∀ v, R v → i < d v → lim (vt (s v)) ≤ d v → (∃ h, idm v = nI h ∧ se_H R d p s vt v h) ∧ ∀ u, R u → lt_A R d p u v → s v < d u → i < d u)
def fs_F (R : Nat → Prop) (d p vt : Nat → Nat) (E : Nat → Nat → Prop) (s : Nat → Nat) (semi idm : Nat → Int32) : Prop :=
  (∀ u, R u → u ≠ 0 → lt_S1 R d p E s u) ∧ (∀ u, R u → semi u = nI (s u) ∧ s u ≤ d u) ∧ (∀ v, R v → v ≠ 0 → ∃ h, idm v = nI h ∧ se_H R d p s vt v h)
section
variable {R : Nat → Prop} {d p vt s : Nat → Nat} {E : Nat → Nat → Prop} {rc : Nat}
/-- the child of q towards v -/
theorem fs_ch (T : lt_T R d p E) {q v : Nat} (hq : R q) (hv : R v) (hA : lt_A R d p q v) (hl : d q < d v) : ∃ t, R t ∧ t ≠ 0 ∧ lt_A R d p t v ∧ d q < d t ∧ p t = q := by
  obtain ⟨t, t1, t2, t3, t4⟩ := lt_top T (b := q) v hv hl
  have t0 := lt_ne0 T (v := t) (by omega)
  have a := lt_par T t1 (lt_conv hA (by omega : d q ≤ d t) t2.1) t3
  have := a.1
  exact ⟨t, t1, t0, t2, t3, lt_inj T (T.2.2.2.1 t t1 t0).1 hq (by omega)⟩
theorem fs_end (T : lt_T R d p E) (hvt : ∀ v, R v → vt (d v) = v) {an lb lim : Nat → Nat} {anc lab semi bF bN idm : Nat → Int32} (H : fs_I rc R d p vt E 0 s an lb lim anc lab semi bF bN idm) : fs_F R d p vt E s semi idm := by
  obtain ⟨h1, h2, h3, h4, h5, h6, h7, h8⟩ := H
  have pos : ∀ u, R u → u ≠ 0 → 0 < d u := fun u hu u0 => by
    rcases Nat.eq_zero_or_pos (d u) with z | z
    · exact absurd (lt_inj T hu T.1 (by rw [z, T.2.1])) u0
    · exact z
  refine ⟨fun u hu u0 => h3 u hu (pos u hu u0), h1.2.2.2, fun v hv v0 => ?_⟩
  obtain ⟨a1, ⟨q, q1, q2, q3⟩, a3, a4⟩ := h3 v hv (pos v hv v0)
  obtain ⟨t, t1, t2, t3, t4, t5⟩ := fs_ch T q1 hv q3 (by omega)
  have e : vt (s v) = q := by rw [← q2]; exact hvt q q1
  have b := h7 t t1 t2 (by omega)
  have := t3.1
  rw [t5] at b
  exact (h8 v hv (pos v hv v0) (by rw [e]; omega)).1
theorem fs_Hc {s' : Nat → Nat} {i v h : Nat} (H : se_H R d p s vt v h) (hi : ∀ u, R u → lt_A R d p u v → s v < d u → i < d u) (ev : s' v = s v) (e : ∀ u, R u → i < d u → s' u = s u) : se_H R d p s' vt v h := by
  rcases H with ⟨a, b⟩ | ⟨a, b, c, f, g⟩
  · refine Or.inl ⟨by rw [ev]; exact a, fun u hu hA hl => ?_⟩
    rw [ev] at hl ⊢
    rw [e u hu (hi u hu hA hl)]
    exact b u hu hA hl
  · refine Or.inr ⟨a, b, by rw [ev]; exact c, by rw [ev, e h a (hi h a b c)]; exact f, fun u hu hA hl => ?_⟩
    rw [ev] at hl
    rw [e h a (hi h a b c), e u hu (hi u hu hA hl)]
    exact g u hu hA hl
/-- a turn of the loop -/
theorem fs_st (T : lt_T R d p E) (hvt : ∀ v, R v → vt (d v) = v) (hrc : ∀ v, R v → d v < rc) (hvt' : ∀ i, i < rc → R (vt i) ∧ d (vt i) = i) {i w q : Nat} (hw : R w) (w0 : w ≠ 0) (hdw : d w = i + 1)
    {an lb lim : Nat → Nat} {anc lab semi bF bN idm : Nat → Int32} (H : fs_I rc R d p vt E (i + 1) s an lb lim anc lab semi bF bN idm)
    {s' : Nat → Nat} (hs : ∀ u, R u → d w < d u → s' u = s u) (hs0 : ∀ u, R u → d u < d w → s' u = d u) (hS : ∀ u, R u → d w ≤ d u → lt_S1 R d p E s' u) (hq : R q) (hqs : d q = s' w) :
    (∀ j, d w ≤ j → j < lim (p w) → s' (vt j) = d (p w) → lt_A R d p w (vt j)) ∧
    (∀ j, d w ≤ j → j < lim (p w) → s' (vt j) = d (p w) → pt_P (fun i => s' (vt i) = d (p w)) vt (j + 1) (lim (p w)) (upd bN w (bF q) (vt j))) ∧
    pt_P (fun i => s' (vt i) = d (p w)) vt (d w) (lim (p w)) (upd bF q (nI w) (p w)) ∧
    (∀ (an' lb' : Nat → Nat) (anc' lab' semi' idm' : Nat → Int32), lo_S R d p s' (i + 1) an' lb' anc' lab' semi' → (∀ u, R u → d u ≤ i → lab' u = nI u) →
      (∀ j, d w ≤ j → j < lim (p w) → s' (vt j) = d (p w) → ∃ h, idm' (vt j) = nI h ∧ se_H R d p s' vt (vt j) h) → (∀ u, R u → ¬ (d w ≤ d u ∧ d u < lim (p w) ∧ s' u = d (p w)) → idm' u = idm u) →
      fs_I rc R d p vt E i s' an' lb' (fo_u lim (p w) (i + 1)) anc' lab' semi' (upd (upd bF q (nI w)) (p w) (-1)) (upd bN w (bF q)) idm') := by
  obtain ⟨h1, h2, h3, h4, h5, h6, h7, h8⟩ := H
  obtain ⟨p1, p2, p3, p4⟩ := T.2.2.2.1 w hw w0
  have vw : vt (i + 1) = w := by rw [← hdw]; exact hvt w hw
  have sj : ∀ l j, i + 2 ≤ j → j < l → l ≤ rc → s' (vt j) = s (vt j) := fun l j a b c => hs _ (hvt' j (by omega)).1 (by rw [(hvt' j (by omega)).2]; omega)
  -- the pointers with the new semis
  have F5 : ∀ q', R q' → pt_P (fun j => s' (vt j) = d q') vt (i + 2) (lim q') (bF q') := fun q' hq' =>
    pt_congr (fun j a b => ⟨by rw [sj _ j a b (h5 q' hq').2.1], rfl⟩) (h5 q' hq').2.2
  have W : ∀ j, d w ≤ j → j < lim (p w) → s' (vt j) = d (p w) → lt_A R d p w (vt j) := by
    intro j a b c
    obtain ⟨r1, r2⟩ := hvt' j (by have := (h5 _ p1).2.1; omega)
    obtain ⟨b1, ⟨x, x1, x2, x3⟩, b3, b4⟩ := hS (vt j) r1 (by omega)
    have ex : x = p w := lt_inj T x1 p1 (by omega)
    subst ex
    obtain ⟨t, t1, t2, t3, t4, t5⟩ := fs_ch T p1 r1 x3 (by omega)
    have t6 := t3.1
    have le : d t ≤ d w := by
      rcases Nat.lt_or_ge (d w) (d t) with z | z
      · have := h7 t t1 t2 (by omega)
        rw [t5] at this; omega
      · exact z
    have tw := lt_conv t3 le (by omega : d w ≤ d (vt j))
    rcases Nat.lt_or_ge (d t) (d w) with z | z
    · have := (lt_par T hw tw z).1; omega
    · have : t = w := lt_inj T t1 hw (by omega)
      rw [← this]; exact t3
  have B : ∀ v, R v → i < d v → d v < lim (vt (s' v)) → pt_P (fun j => s' (vt j) = s' v) vt (d v + 1) (lim (vt (s' v))) (upd bN w (bF q) v) := by
    intro v hv hi hl
    rcases Classical.em (v = w) with z | z
    · subst z
      have e : vt (s' v) = q := by rw [← hqs]; exact hvt q hq
      rw [pk_us, e, hdw, ← hqs]
      exact F5 q hq
    · have hne : d v ≠ d w := fun c => z (lt_inj T hv hw c)
      have ev := hs v hv (by omega)
      rw [pk_un z]
      rw [ev] at hl ⊢
      have hl2 : lim (vt (s v)) ≤ rc := by
        obtain ⟨_, ⟨x, x1, x2, _⟩, _⟩ := h3 v hv (by omega)
        rw [← x2, hvt x x1]; exact (h5 x x1).2.1
      exact pt_congr (fun j a b => ⟨by rw [sj _ j (by omega) b hl2], rfl⟩) (h6 v hv (by omega) hl)
  refine ⟨W, ?_, ?_, ?_⟩
  · intro j a b c
    obtain ⟨r1, r2⟩ := hvt' j (by have := (h5 _ p1).2.1; omega)
    have e : vt (s' (vt j)) = p w := by rw [c]; exact hvt _ p1
    have := B (vt j) r1 (by omega) (by rw [e, r2]; exact b)
    rw [e, r2, c] at this
    exact this
  · rw [hdw]
    rcases Classical.em (p w = q) with z | z
    · rw [z, pk_us, ← vw]
      exact pt_y (P := fun j => s' (vt j) = d q) (f := vt) (h5 q hq).1 (by show s' (vt (i + 1)) = d q; rw [vw, hqs])
    · rw [pk_un z]
      refine pt_n (fun c => z ?_) (F5 _ p1)
      rw [vw, ← hqs] at c
      exact lt_inj T p1 hq c.symm
  · intro an' lb' anc' lab' semi' idm' k1 k2 k3 k4
    refine ⟨k1, fun u hu hl => hs0 u hu (by omega), fun u hu hl => hS u hu (by omega), k2, ?_, ?_, ?_, ?_⟩
    · intro q' hq'
      rcases Classical.em (q' = p w) with z | z
      · subst z
        rw [fo_us, pk_us]
        have := h5 _ hq'
        exact ⟨by omega, by omega, pt_e (Nat.le_refl _)⟩
      · rw [fo_un z, pk_un z]
        have := h5 _ hq'
        refine ⟨by omega, by omega, ?_⟩
        rcases Classical.em (q' = q) with y | y
        · subst y
          rw [pk_us, ← vw]
          exact pt_y (P := fun j => s' (vt j) = d q') (f := vt) this.1 (by show s' (vt (i + 1)) = d q'; rw [vw, hqs])
        · rw [pk_un y]
          refine pt_n (fun c => y ?_) (F5 _ hq')
          rw [vw, ← hqs] at c
          exact lt_inj T hq' hq c.symm
    · intro v hv hi hl
      have ne : vt (s' v) ≠ p w := fun c => by
        rw [c, fo_us] at hl; omega
      rw [fo_un ne] at hl ⊢
      exact B v hv hi hl
    · intro u hu u0 hi
      rcases Classical.em (p u = p w) with z | z
      · rw [z, fo_us]; omega
      · rw [fo_un z]
        have hne : d u ≠ d w := fun c => z (by rw [lt_inj T hu hw c])
        exact h7 u hu u0 (by omega)
    · intro v hv hi hl
      obtain ⟨_, ⟨x, x1, x2, _⟩, _⟩ := hS v hv (by omega)
      have ex : vt (s' v) = x := by rw [← x2]; exact hvt x x1
      rw [ex] at hl
      -- settled before
      have old : lim x ≤ d v → (∃ h, idm v = nI h ∧ se_H R d p s' vt v h) ∧ ∀ u, R u → lt_A R d p u v → s' v < d u → i < d u := by
        intro ho
        have := (h5 x x1).1
        have ev := hs v hv (by omega)
        have r := h8 v hv (by omega) (by rw [← ev, ex]; exact ho)
        obtain ⟨⟨h, r1, r2⟩, r3⟩ := r
        exact ⟨⟨h, r1, fs_Hc r2 r3 ev (fun u hu hlu => hs u hu (by omega))⟩, fun u hu hA hlu => by have := r3 u hu hA (by rw [← ev]; exact hlu); omega⟩
      rcases Classical.em (x = p w) with z | z
      · rw [z] at x2 old
        rcases Nat.lt_or_ge (d v) (lim (p w)) with y | y
        · have e1 : vt (d v) = v := hvt v hv
          have a1 := W (d v) (by omega) y (by rw [e1]; exact x2.symm)
          have a2 := k3 (d v) (by omega) y (by rw [e1]; exact x2.symm)
          rw [e1] at a1 a2
          exact ⟨a2, fun u hu hA hlu => by have := eb_ge T hw a1 hA (by omega); omega⟩
        · have r := old y
          obtain ⟨⟨h, r1, r2⟩, r3⟩ := r
          exact ⟨⟨h, by rw [k4 v hv (fun c => by omega)]; exact r1, r2⟩, r3⟩
      · rw [fo_un z] at hl
        obtain ⟨⟨h, r1, r2⟩, r3⟩ := old hl
        exact ⟨⟨h, by rw [k4 v hv (fun c => z (lt_inj T x1 p1 (by omega)))]; exact r1, r2⟩, r3⟩
end
section

variable {n m rc : Nat} {tl hd : Nat → Nat} {R : Nat → Prop} {d p vt : Nat → Nat} {f_reached f_current f_queued f_farthest : Int32} {a_tail a_head a_outFirst a_outNext a_inFirst a_inNext a_cursor a_stack a_number a_atNumber a_parent a_semi a_label a_ancestor a_bucketFirst a_bucketNext a_idom a_level a_size a_enter a_pathIndex a_from a_queue a_visited : Nat → Int32}
theorem fs_63 {post : SX → Prop} (G : gr_G n m tl hd a_tail a_head) (CI : pt_C n m hd 0 a_inFirst a_inNext) (F : nv_F n m tl hd rc R d p vt a_number a_atNumber a_parent)
    (K : ∀ (s : Nat → Nat) (semi lab anc bF bN idm stk : Nat → Int32), fs_F R d p vt (re_E m tl hd 60) s semi idm → post ((nI n), (nI m), f_reached, f_current, f_queued, f_farthest, a_tail, a_head, a_outFirst, a_outNext, a_inFirst, a_inNext, a_cursor, stk, a_number, a_atNumber, a_parent, semi, lab, anc, bF, bN, idm, a_level, a_size, a_enter, a_pathIndex, a_from, a_queue, a_visited)) :
    ∀ i, i < rc → ∀ (s an lb lim : Nat → Nat) (semi lab anc bF bN idm stk : Nat → Int32), fs_I rc R d p vt (re_E m tl hd 60) i s an lb lim anc lab semi bF bN idm → ∀ N, i < N →
      wX_findSemi_63 post N (nI i) (nI n) (nI m) f_reached f_current f_queued f_farthest a_tail a_head a_outFirst a_outNext a_inFirst a_inNext a_cursor stk a_number a_atNumber a_parent semi lab anc bF bN idm a_level a_size a_enter a_pathIndex a_from a_queue a_visited := by
  have g2 := G.2.1
  obtain ⟨T, F1, F2, F3, F4, F5, F6, F7⟩ := F
  have hR : ∀ v, R v → v < n ∧ d v < n := fun v hv => by have := F2 v hv; omega
  have hvt : ∀ v, R v → vt (d v) = v := fun v hv => (F2 v hv).2.2
  intro i
  induction i with
  | zero =>
    intro _ s an lb lim semi lab anc bF bN idm stk H N hN
    cases N with
    | zero => omega
    | succ N => exact br_t (by decide) (K s semi lab anc bF bN idm stk (fs_end T hvt H))
  | succ i ih =>
    intro hi s an lb lim semi lab anc bF bN idm stk H N hN
    cases N with
    | zero => omega
    | succ N =>
      obtain ⟨hw, hdw⟩ := F3 (i + 1) hi
      have w0 : vt (i + 1) ≠ 0 := lt_ne0 T (by omega)
      have a1 := F6 (i + 1) hi
      generalize vt (i + 1) = w at hw hdw w0 a1
      have hwn := hR w hw
      have n1 : ¬ nI (i + 1) ≤ 0 := nI_nle (by omega) (by omega)
      have c1 : (nI (i + 1)).toNatClampNeg = i + 1 := nI_clamp (by omega)
      have v1 : vp_in (nI (i + 1)) 24 := vp_in_nI (by omega) (by decide)
      have cw : (nI w).toNatClampNeg = w := nI_clamp (by omega)
      have vw : vp_in (nI w) 24 := vp_in_nI (by omega) (by decide)
      have pw := F7 w hw w0
      simp only [wX_findSemi_63, n1, c1, v1, a1, forall_eq, true_and, and_true, not_true_eq_false, not_false_eq_true, false_implies, true_implies, implies_true, forall_const]
      have H' := H
      obtain ⟨h1, h2, h3, h4, h5, h6, h7, h8⟩ := H'
      rw [← hdw] at h1 h2 h3 h4
      refine ls_ok G CI T hR F4 F5 hw w0 h1 h2 h3 h4 (fun s' an' lb' semi' anc' lab' stk' A B C D D2 => ?_)
      obtain ⟨b1, ⟨q, q1, q2, q3⟩, b3, b4⟩ := C w hw (Nat.le_refl _)
      have hqn := F2 q q1
      have hs : ∀ u, R u → d w < d u → s' u = s u := fun u hu hl => by
        have x := (A.2.2.2 u hu)
        have y := (h1.2.2.2 u hu)
        have z := D2 u hu hl
        have := hR u hu
        rw [x.1, y.1] at z
        exact (nI_eq (by omega) (by omega)).mp z
      obtain ⟨r1, r2, r3, r4⟩ := fs_st T hvt (fun v hv => (F2 v hv).2.1) F3 hw w0 hdw H hs B C q1 q2
      have sw := (A.2.2.2 w hw).1
      have cs : (nI (s' w)).toNatClampNeg = s' w := nI_clamp (by omega)
      have vs : vp_in (nI (s' w)) 24 := vp_in_nI (by omega) (by decide)
      have aq : a_atNumber (s' w) = nI q := by rw [F6 (s' w) (by omega), ← q2, hvt q q1]
      have cq : (nI q).toNatClampNeg = q := nI_clamp (by omega)
      have vq : vp_in (nI q) 24 := vp_in_nI (by omega) (by decide)
      simp only [cw, vw, sw, cs, vs, aq, cq, vq, pw, forall_eq, true_and, and_true, not_true_eq_false, not_false_eq_true, false_implies, true_implies, implies_true, forall_const]
      obtain ⟨p1, p2, p3, p4⟩ := T.2.2.2.1 w hw w0
      have L : lo_S R d p s' (d w) (fo_u an' w (p w)) (fo_u lb' w w) (upd anc' w (nI (p w))) lab' semi' := by
        refine ⟨fo_link T A.1 hw w0 rfl, ?_, ?_, A.2.2.2⟩
        · intro u hu hl
          rcases Classical.em (u = w) with z | z
          · subst z
            rw [pk_us, fo_us, fo_us]
            exact ⟨rfl, D u hu (Nat.le_refl _)⟩
          · rw [pk_un z, fo_un z, fo_un z]
            have : d u ≠ d w := fun c => z (lt_inj T hu hw c)
            exact A.2.1 u hu (by omega)
        · intro u hu hl
          rw [pk_un (fun z => by rw [z] at hl; omega)]
          exact A.2.2.1 u hu (by omega)
      have ll := (h5 _ p1).2.1
      refine eb_ok g2 T hR hvt (l := lim (p w)) (fun j hj => F3 j (by omega)) (by omega) hw w0 r1 r2 r3 L (fun an'' lb'' anc'' lab'' stk'' idm'' A2 B2 C2 D3 => ?_)
      simp only [pk_m1, forall_eq, true_and, and_true, not_true_eq_false, not_false_eq_true, false_implies, true_implies, implies_true, forall_const]
      rw [hdw] at A2 B2
      refine ih (by omega) s' an'' lb'' _ _ _ _ _ _ _ _ (r4 an'' lb'' anc'' lab'' semi' idm'' A2 (fun u hu hl => ?_) C2 D3) N (by omega)
      rw [B2 u hu (by omega)]
      exact D u hu (by omega)
theorem fs_2 {post : SX → Prop} (G : gr_G n m tl hd a_tail a_head) (CI : pt_C n m hd 0 a_inFirst a_inNext) (F : nv_F n m tl hd rc R d p vt a_number a_atNumber a_parent)
    (K : ∀ (s : Nat → Nat) (semi lab anc bF bN idm stk : Nat → Int32), fs_F R d p vt (re_E m tl hd 60) s semi idm → post ((nI n), (nI m), (nI rc), f_current, f_queued, f_farthest, a_tail, a_head, a_outFirst, a_outNext, a_inFirst, a_inNext, a_cursor, stk, a_number, a_atNumber, a_parent, semi, lab, anc, bF, bN, idm, a_level, a_size, a_enter, a_pathIndex, a_from, a_queue, a_visited)) :
    ∀ t i, i + t = n → ∀ (semi lab anc bF idm : Nat → Int32), (∀ v, v < i → semi v = a_number v ∧ lab v = nI v ∧ anc v = -1 ∧ bF v = -1) → ∀ N, t < N →
      wX_findSemi_2 post (nI n) (nI m) (nI rc) f_current f_queued f_farthest N (nI i) a_tail a_head a_outFirst a_outNext a_inFirst a_inNext a_cursor a_stack a_number a_atNumber a_parent semi lab anc bF a_bucketNext idm a_level a_size a_enter a_pathIndex a_from a_queue a_visited := by
  have g := G
  obtain ⟨g1, g2, g3, g4⟩ := g
  have F' := F
  obtain ⟨T, F1, F2, F3, F4, F5, F6, F7⟩ := F'
  intro t
  induction t with
  | zero =>
    intro i hi semi lab anc bF idm h N hN
    cases N with
    | zero => omega
    | succ N =>
      have e : i = n := by omega
      subst e
      have n1 : nI i ≤ nI i := nI_le (Nat.le_refl _) (by omega)
      have e1 : nI rc - 1 = nI (rc - 1) := pk_sub (b := 1) (by omega)
      simp only [wX_findSemi_2, n1, e1, forall_eq, true_and, and_true, not_true_eq_false, not_false_eq_true, false_implies, true_implies, implies_true, forall_const]
      refine ⟨rc, ?_⟩
      refine fs_63 G CI F K (rc - 1) (by omega) d (fun _ => 0) (fun x => x) (fun _ => rc) _ _ _ _ _ _ _ ⟨⟨?_, ?_, ?_, ?_⟩, ?_, ?_, ?_, ?_, ?_, ?_, ?_⟩ rc (by omega)
      · intro v hv hl; have := (F2 v hv).2.1; omega
      · intro v hv hl; have := (F2 v hv).2.1; omega
      · intro v hv _; exact (h v (F2 v hv).1).2.2.1
      · intro v hv; exact ⟨by rw [(h v (F2 v hv).1).1, F4 v hv], Nat.le_refl _⟩
      · intro u _ _; rfl
      · intro u hu hl; have := (F2 u hu).2.1; omega
      · intro u hu _; exact (h u (F2 u hu).1).2.1
      · intro q hq
        rw [(h q (F2 q hq).1).2.2.2]
        exact ⟨show rc - 1 < rc by omega, Nat.le_refl _, pt_e (show rc ≤ rc - 1 + 1 by omega)⟩
      · intro u hu hl; have := (F2 u hu).2.1; omega
      · intro u hu _ hl; have := (F2 u hu).2.1; omega
      · intro u hu hl; have := (F2 u hu).2.1; omega
  | succ t ih =>
    intro i hi semi lab anc bF idm h N hN
    cases N with
    | zero => omega
    | succ N =>
      have c1 : (nI i).toNatClampNeg = i := nI_clamp (by omega)
      have v1 : vp_in (nI i) 24 := vp_in_nI (by omega) (by decide)
      have n1 : ¬ nI n ≤ nI i := nI_ge (by omega) (by omega)
      simp only [wX_findSemi_2, c1, v1, n1, nI_1, forall_eq, true_and, and_true, not_true_eq_false, not_false_eq_true, false_implies, true_implies, implies_true, forall_const]
      refine ih (i + 1) (by omega) _ _ _ _ _ (fun v hv => ?_) N (by omega)
      rcases Classical.em (v = i) with z | z
      · subst z; rw [pk_us, pk_us, pk_us, pk_us]; exact ⟨rfl, rfl, rfl, rfl⟩
      · rw [pk_un z, pk_un z, pk_un z, pk_un z]; exact h v (by omega)
theorem fs_ok {post : SX → Prop} (G : gr_G n m tl hd a_tail a_head) (CI : pt_C n m hd 0 a_inFirst a_inNext) (F : nv_F n m tl hd rc R d p vt a_number a_atNumber a_parent)
    (K : ∀ (s : Nat → Nat) (semi lab anc bF bN idm stk : Nat → Int32), fs_F R d p vt (re_E m tl hd 60) s semi idm → post ((nI n), (nI m), (nI rc), f_current, f_queued, f_farthest, a_tail, a_head, a_outFirst, a_outNext, a_inFirst, a_inNext, a_cursor, stk, a_number, a_atNumber, a_parent, semi, lab, anc, bF, bN, idm, a_level, a_size, a_enter, a_pathIndex, a_from, a_queue, a_visited)) :
    wpX_findSemi post ((nI n), (nI m), (nI rc), f_current, f_queued, f_farthest, a_tail, a_head, a_outFirst, a_outNext, a_inFirst, a_inNext, a_cursor, a_stack, a_number, a_atNumber, a_parent, a_semi, a_label, a_ancestor, a_bucketFirst, a_bucketNext, a_idom, a_level, a_size, a_enter, a_pathIndex, a_from, a_queue, a_visited) := by
  refine ⟨n + 1, ?_⟩
  exact fs_2 (post := post) G CI F K n 0 (by omega) a_semi a_label a_ancestor a_bucketFirst a_idom (fun v hv => by omega) (n + 1) (by omega)
end
end
section
/-! settle -/
section

variable {n m rc : Nat} {tl hd : Nat → Nat} {R : Nat → Prop} {d p vt s : Nat → Nat} {f_current f_queued f_farthest : Int32} {a_tail a_head a_outFirst a_outNext a_inFirst a_inNext a_cursor a_stack a_number a_atNumber a_parent a_semi a_label a_ancestor a_bucketFirst a_bucketNext a_idom a_level a_size a_enter a_pathIndex a_from a_queue a_visited : Nat → Int32}
theorem sx_2 {post : SX → Prop} (G : gr_G n m tl hd a_tail a_head) (F : nv_F n m tl hd rc R d p vt a_number a_atNumber a_parent)
    (S1 : ∀ u, R u → u ≠ 0 → lt_S1 R d p (re_E m tl hd 60) s u) (S2 : ∀ u, R u → a_semi u = nI (s u) ∧ s u ≤ d u)
    (K : ∀ (g : Nat → Nat) (idm : Nat → Int32), (∀ v, R v → v ≠ 0 → idm v = nI (g v) ∧ se_G R d (re_E m tl hd 60) v (g v)) → post ((nI n), (nI m), (nI rc), f_current, f_queued, f_farthest, a_tail, a_head, a_outFirst, a_outNext, a_inFirst, a_inNext, a_cursor, a_stack, a_number, a_atNumber, a_parent, a_semi, a_label, a_ancestor, a_bucketFirst, a_bucketNext, idm, a_level, a_size, a_enter, a_pathIndex, a_from, a_queue, a_visited)) :
    ∀ t i, 0 < i → i + t = rc → ∀ (g : Nat → Nat) (idm : Nat → Int32), (∀ v, R v → v ≠ 0 → idm v = nI (g v) ∧ (d v < i → se_G R d (re_E m tl hd 60) v (g v)) ∧ (i ≤ d v → se_H R d p s vt v (g v))) → ∀ N, t < N →
      wX_settle_2 post (nI n) (nI m) (nI rc) f_current f_queued f_farthest N (nI i) a_tail a_head a_outFirst a_outNext a_inFirst a_inNext a_cursor a_stack a_number a_atNumber a_parent a_semi a_label a_ancestor a_bucketFirst a_bucketNext idm a_level a_size a_enter a_pathIndex a_from a_queue a_visited := by
  have g := G
  obtain ⟨g1, g2, g3, g4⟩ := g
  have F' := F
  obtain ⟨T, F1, F2, F3, F4, F5, F6, F7⟩ := F'
  have h24 : ¬ R 24 := fun h => by have := (F2 24 h).1; omega
  intro t
  induction t with
  | zero =>
    intro i i0 hi g idm h N hN
    cases N with
    | zero => omega
    | succ N =>
      have n1 : nI rc ≤ nI i := nI_le (by omega) (by omega)
      simp only [wX_settle_2, n1, wk_cl0, forall_eq, true_and, and_true, not_true_eq_false, not_false_eq_true, false_implies, true_implies, implies_true, forall_const]
      refine K g _ (fun v hv v0 => ?_)
      have a := h v hv v0
      rw [pk_un v0]
      exact ⟨a.1, a.2.1 (by have := (F2 v hv).2.1; omega)⟩
  | succ t ih =>
    intro i i0 hi g idm h N hN
    cases N with
    | zero => omega
    | succ N =>
      obtain ⟨hw, hdw⟩ := F3 i (by omega)
      have w0 : vt i ≠ 0 := lt_ne0 T (by omega)
      have a1 := F6 i (by omega)
      generalize vt i = w at hw hdw w0 a1
      have hwn := F2 w hw
      have n1 : ¬ nI rc ≤ nI i := nI_ge (by omega) (by omega)
      have c1 : (nI i).toNatClampNeg = i := nI_clamp (by omega)
      have v1 : vp_in (nI i) 24 := vp_in_nI (by omega) (by decide)
      have cw : (nI w).toNatClampNeg = w := nI_clamp (by omega)
      have vw : vp_in (nI w) 24 := vp_in_nI (by omega) (by decide)
      obtain ⟨b1, ⟨q, q1, q2, q3⟩, b3, b4⟩ := S1 w hw w0
      have hqn := F2 q q1
      have sw := (S2 w hw).1
      have cs : (nI (s w)).toNatClampNeg = s w := nI_clamp (by omega)
      have vs : vp_in (nI (s w)) 24 := vp_in_nI (by omega) (by decide)
      have aq : a_atNumber (s w) = nI (vt (s w)) := F6 (s w) (by omega)
      have eq : vt (s w) = q := by rw [← q2]; exact hqn.2.2
      obtain ⟨k1, k2, k3⟩ := h w hw w0
      have k3 := k3 (by omega)
      rcases Classical.em (g w = vt (s w)) with z | z
      · have n2 : nI (g w) = nI (vt (s w)) := by rw [z]
        simp only [wX_settle_2, n1, c1, v1, a1, cw, vw, sw, cs, vs, aq, k1, n2, nI_1, forall_eq, true_and, and_true, not_true_eq_false, not_false_eq_true, false_implies, true_implies, implies_true, forall_const]
        refine ih (i + 1) (by omega) (by omega) g idm (fun v hv v0 => ?_) N (by omega)
        obtain ⟨j1, j2, j3⟩ := h v hv v0
        refine ⟨j1, fun hl => ?_, fun hl => j3 (by omega)⟩
        rcases Nat.lt_or_ge (d v) i with y | y
        · exact j2 y
        · have : v = w := lt_inj T hv hw (by omega)
          subst this
          rw [z]
          exact se_A T S1 h24 (fun v hv => (F2 v hv).2.2) hv v0 (z ▸ k3)
      · obtain ⟨u1, u2, u3, u4⟩ := se_B T S1 h24 hw w0 k3 z
        have hun := F2 _ u1
        have n2 : ¬ nI (g w) = nI (vt (s w)) := fun c => z ((nI_eq (by omega) (by rw [eq]; omega)).mp c)
        have cu : (nI (g w)).toNatClampNeg = g w := nI_clamp (by omega)
        have vu : vp_in (nI (g w)) 24 := vp_in_nI (by omega) (by decide)
        obtain ⟨l1, l2, l3⟩ := h _ u1 u2
        simp only [wX_settle_2, n1, c1, v1, a1, cw, vw, sw, cs, vs, aq, k1, n2, cu, vu, l1, nI_1, forall_eq, true_and, and_true, not_true_eq_false, not_false_eq_true, false_implies, true_implies, implies_true, forall_const]
        refine ih (i + 1) (by omega) (by omega) (fo_u g w (g (g w))) _ (fun v hv v0 => ?_) N (by omega)
        rcases Classical.em (v = w) with y | y
        · subst y
          rw [pk_us, fo_us]
          exact ⟨rfl, fun _ => u4 _ (l2 (by omega)), fun hl => by omega⟩
        · rw [pk_un y, fo_un y]
          have hne : d v ≠ d w := fun c => y (lt_inj T hv hw c)
          obtain ⟨j1, j2, j3⟩ := h v hv v0
          exact ⟨j1, fun hl => j2 (by omega), fun hl => j3 (by omega)⟩
theorem sx_ok {post : SX → Prop} (G : gr_G n m tl hd a_tail a_head) (F : nv_F n m tl hd rc R d p vt a_number a_atNumber a_parent) (H : fs_F R d p vt (re_E m tl hd 60) s a_semi a_idom)
    (K : ∀ (g : Nat → Nat) (idm : Nat → Int32), (∀ v, R v → v ≠ 0 → idm v = nI (g v)) → la_G n rc R d vt g (re_D (re_E m tl hd 60)) → post ((nI n), (nI m), (nI rc), f_current, f_queued, f_farthest, a_tail, a_head, a_outFirst, a_outNext, a_inFirst, a_inNext, a_cursor, a_stack, a_number, a_atNumber, a_parent, a_semi, a_label, a_ancestor, a_bucketFirst, a_bucketNext, idm, a_level, a_size, a_enter, a_pathIndex, a_from, a_queue, a_visited)) :
    wpX_settle post ((nI n), (nI m), (nI rc), f_current, f_queued, f_farthest, a_tail, a_head, a_outFirst, a_outNext, a_inFirst, a_inNext, a_cursor, a_stack, a_number, a_atNumber, a_parent, a_semi, a_label, a_ancestor, a_bucketFirst, a_bucketNext, a_idom, a_level, a_size, a_enter, a_pathIndex, a_from, a_queue, a_visited) := by
  obtain ⟨H1, H2, H3⟩ := H
  have F' := F
  obtain ⟨T, F1, F2, F3, F4, F5, F6, F7⟩ := F'
  have h24 : ¬ R 24 := fun h => by have := (F2 24 h).1; have := G.2.1; omega
  refine ⟨rc, ?_⟩
  have ex : ∃ g : Nat → Nat, ∀ v, R v → v ≠ 0 → a_idom v = nI (g v) ∧ se_H R d p s vt v (g v) := by
    refine ⟨fun v => (a_idom v).toNatClampNeg, fun v hv v0 => ?_⟩
    obtain ⟨h, h1, h2⟩ := H3 v hv v0
    have hb : h < 2 ^ 31 := by
      have := G.2.1
      rcases h2 with ⟨e, _⟩ | ⟨e, _⟩
      · obtain ⟨b1, ⟨q, q1, q2, q3⟩, b3, b4⟩ := H1 v hv v0
        rw [← q2, (F2 q q1).2.2] at e
        have := (F2 q q1).1
        omega
      · have := (F2 h e).1
        omega
    have e : (a_idom v).toNatClampNeg = h := by rw [h1]; exact nI_clamp hb
    show a_idom v = nI (a_idom v).toNatClampNeg ∧ se_H R d p s vt v (a_idom v).toNatClampNeg
    rw [e]
    exact ⟨h1, h2⟩
  obtain ⟨g, hg⟩ := ex
  refine sx_2 (post := post) (s := s) G F H1 H2 (fun g idm h => K g idm (fun v hv v0 => (h v hv v0).1) ⟨⟨T.1, T.2.1⟩, F2, F3, fun w hw w0 => (h w hw w0).2, se_D0 T H1 h24, fun x w q => lt_R T q.1⟩) (rc - 1) 1 (by omega) (by omega) g a_idom (fun v hv v0 => ?_) rc (by omega)
  refine ⟨(hg v hv v0).1, fun hl => ?_, fun _ => (hg v hv v0).2⟩
  exact absurd (lt_inj T hv T.1 (by have := T.2.1; omega)) v0
end
end
section
/-! layOut -/
section
variable {n rc : Nat} {R : Nat → Prop} {d vt g : Nat → Nat} {M : Nat → Nat → Prop}
theorem ly_f0 (v : Nat) : ba_sm (la_f n vt g M v) 1 = 0 := by
  rw [ba_sms, ba_sm0]
  unfold la_f
  rw [ba_f (fun h => by omega), Nat.zero_mul]
theorem ly_fn {u i w : Nat} (hw : vt i = w) (h : u ≠ g w) : la_f n vt g M u i = 0 := by
  unfold la_f
  rw [ba_f (fun q => h (by rw [← q.2, hw])), Nat.zero_mul]
theorem ly_fs (G : la_G n rc R d vt g M) {i w : Nat} (hw : R w) (hd : d w = i) : ∀ k, k ≤ i + 1 → ba_sm (la_f n vt g M w) k = 0 := by
  intro k hk
  refine ba_sm_z (fun j hj => ?_)
  unfold la_f
  rw [ba_f, Nat.zero_mul]
  rintro ⟨j0, e⟩
  have hr := (G.2.1 w hw).2.1
  obtain ⟨a, b⟩ := G.2.2.1 j (by omega)
  have v0 : vt j ≠ 0 := fun c => by rw [c, G.1.2] at b; omega
  have := (G.2.2.2.1 _ a v0).2.1
  rw [e] at this
  omega
end
section

variable {n rc : Nat} {R : Nat → Prop} {d vt g : Nat → Nat} {M : Nat → Nat → Prop} {f_edgeCount f_current f_queued f_farthest : Int32} {a_tail a_head a_outFirst a_outNext a_inFirst a_inNext a_cursor a_stack a_number a_atNumber a_parent a_semi a_label a_ancestor a_bucketFirst a_bucketNext a_idom a_level a_size a_enter a_pathIndex a_from a_queue a_visited : Nat → Int32}
theorem ly_148 {post : SX → Prop} (hn : n ≤ 24) (hrc : rc ≤ n) (G : la_G n rc R d vt g M) (hid : ∀ v, R v → v ≠ 0 → a_idom v = nI (g v)) (hat : ∀ i, i < rc → a_atNumber i = nI (vt i)) (hsz : ∀ v, R v → a_size v = nI (la_Z n M v))
    (K : ∀ (en : Nat → Nat) (ent cur : Nat → Int32), (∀ v, R v → ent v = nI (en v)) → la_E n rc R d vt g M en → post ((nI n), f_edgeCount, (nI rc), f_current, f_queued, f_farthest, a_tail, a_head, a_outFirst, a_outNext, a_inFirst, a_inNext, cur, a_stack, a_number, a_atNumber, a_parent, a_semi, a_label, a_ancestor, a_bucketFirst, a_bucketNext, a_idom, a_level, a_size, ent, a_pathIndex, a_from, a_queue, a_visited)) :
    ∀ t i, 0 < i → i + t = rc → ∀ (en : Nat → Nat) (ent cur : Nat → Int32), en 0 = 0 → (∀ v, R v → d v < i → ent v = nI (en v) ∧ (v ≠ 0 → en v = en (g v) + (1 + ba_sm (la_f n vt g M (g v)) (d v)))) →
      (∀ v, R v → cur v = nI (1 + ba_sm (la_f n vt g M v) i)) → ∀ N, t < N → wX_layOut_148 post (nI n) f_edgeCount (nI rc) f_current f_queued f_farthest N (nI i) a_tail a_head a_outFirst a_outNext a_inFirst a_inNext cur a_stack a_number a_atNumber a_parent a_semi a_label a_ancestor a_bucketFirst a_bucketNext a_idom a_level a_size ent a_pathIndex a_from a_queue a_visited := by
  intro t
  induction t with
  | zero =>
    intro i i0 hi en ent cur h0 h1 h2 N hN
    cases N with
    | zero => omega
    | succ N =>
      refine br_t (nI_le (by omega) (by omega)) (K en ent cur (fun v hv => (h1 v hv (by have := (G.2.1 v hv).2.1; omega)).1) ⟨h0, fun c hc c0 => (h1 c hc (by have := (G.2.1 c hc).2.1; omega)).2 c0⟩)
  | succ t ih =>
    intro i i0 hi en ent cur h0 h1 h2 N hN
    cases N with
    | zero => omega
    | succ N =>
      obtain ⟨hw, hdw⟩ := G.2.2.1 i (by omega)
      have w0 : vt i ≠ 0 := fun c => by rw [c, G.1.2] at hdw; omega
      have a1 := hat i (by omega)
      have ew : vt i = vt i := rfl
      generalize hww : vt i = w at hw hdw w0 a1
      have hwn := (G.2.1 w hw).1
      obtain ⟨p1, p2, p3⟩ := G.2.2.2.1 w hw w0
      have hpn := (G.2.1 _ p1).1
      have n1 : ¬ nI rc ≤ nI i := nI_ge (by omega) (by omega)
      have c1 : (nI i).toNatClampNeg = i := nI_clamp (by omega)
      have v1 : vp_in (nI i) 24 := vp_in_nI (by omega) (by decide)
      have cw : (nI w).toNatClampNeg = w := nI_clamp (by omega)
      have vw : vp_in (nI w) 24 := vp_in_nI (by omega) (by decide)
      have iw := hid w hw w0
      have cp : (nI (g w)).toNatClampNeg = g w := nI_clamp (by omega)
      have vp : vp_in (nI (g w)) 24 := vp_in_nI (by omega) (by decide)
      have e1 := (h1 _ p1 (by omega)).1
      have e2 := h2 _ p1
      have e3 := hsz w hw
      simp only [wX_layOut_148, n1, c1, v1, a1, cw, vw, iw, cp, vp, e1, e2, e3, nI_add, nI_1, forall_eq, true_and, and_true, not_true_eq_false, not_false_eq_true, false_implies, true_implies, implies_true, forall_const]
      have gw : g w ≠ w := fun c => by rw [c] at p2; omega
      refine ih (i + 1) (by omega) (by omega) (fo_u en w (en (g w) + (1 + ba_sm (la_f n vt g M (g w)) i))) _ _ (by rw [fo_un (fun c => w0 c.symm)]; exact h0) ?_ ?_ N (by omega)
      · intro v hv hl
        rcases Classical.em (v = w) with z | z
        · subst z
          rw [pk_us, fo_us, fo_un gw, hdw]
          exact ⟨rfl, fun _ => rfl⟩
        · have hne : d v ≠ d w := fun c => z (la_inj G hv hw c)
          obtain ⟨k1, k2⟩ := h1 v hv (by omega)
          rw [pk_un z, fo_un z]
          refine ⟨k1, fun v0 => ?_⟩
          have q := G.2.2.2.1 v hv v0
          rw [fo_un (fun c => by rw [c] at q; omega)]
          exact k2 v0
      · intro v hv
        rcases Classical.em (v = g w) with z | z
        · subst z
          have := la_fc G hw w0
          rw [hdw] at this
          rw [pk_us, ba_sms, this, Nat.add_assoc]
        · rw [pk_un z, ba_sms, ly_fn hww z, Nat.add_zero]
          exact h2 v hv
theorem ly_125 {post : SX → Prop} (hn : n ≤ 24) (hrc : rc ≤ n) (h0rc : 0 < rc) (G : la_G n rc R d vt g M) (hid : ∀ v, R v → v ≠ 0 → a_idom v = nI (g v)) (hat : ∀ i, i < rc → a_atNumber i = nI (vt i)) (hsz : ∀ v, R v → a_size v = nI (la_Z n M v)) (hen : a_enter 0 = 0)
    (K : ∀ (en : Nat → Nat) (ent cur : Nat → Int32), (∀ v, R v → ent v = nI (en v)) → la_E n rc R d vt g M en → post ((nI n), f_edgeCount, (nI rc), f_current, f_queued, f_farthest, a_tail, a_head, a_outFirst, a_outNext, a_inFirst, a_inNext, cur, a_stack, a_number, a_atNumber, a_parent, a_semi, a_label, a_ancestor, a_bucketFirst, a_bucketNext, a_idom, a_level, a_size, ent, a_pathIndex, a_from, a_queue, a_visited)) :
    ∀ t i, i + t = n → ∀ (cur : Nat → Int32), (∀ v, v < i → cur v = 1) → ∀ N, t < N → wX_layOut_125 post (nI n) f_edgeCount (nI rc) f_current f_queued f_farthest N (nI i) a_tail a_head a_outFirst a_outNext a_inFirst a_inNext cur a_stack a_number a_atNumber a_parent a_semi a_label a_ancestor a_bucketFirst a_bucketNext a_idom a_level a_size a_enter a_pathIndex a_from a_queue a_visited := by
  intro t
  induction t with
  | zero =>
    intro i hi cur h N hN
    cases N with
    | zero => omega
    | succ N =>
      refine br_t (nI_le (by omega) (by omega)) ⟨rc, ?_⟩
      refine ly_148 hn hrc G hid hat hsz K (rc - 1) 1 (by omega) (by omega) (fun _ => 0) _ _ rfl ?_ ?_ rc (by omega)
      · intro v hv hl
        have : v = 0 := la_inj G hv G.1.1 (by have := G.1.2; omega)
        subst this
        exact ⟨hen, fun c => absurd rfl c⟩
      · intro v hv
        rw [ly_f0]
        exact h v (by have := (G.2.1 v hv).1; omega)
  | succ t ih =>
    intro i hi cur h N hN
    cases N with
    | zero => omega
    | succ N =>
      have c1 : (nI i).toNatClampNeg = i := nI_clamp (by omega)
      have v1 : vp_in (nI i) 24 := vp_in_nI (by omega) (by decide)
      have n1 : ¬ nI n ≤ nI i := nI_ge (by omega) (by omega)
      simp only [wX_layOut_125, c1, v1, n1, nI_1, forall_eq, true_and, and_true, not_true_eq_false, not_false_eq_true, false_implies, true_implies, implies_true, forall_const]
      refine ih (i + 1) (by omega) _ (fun v hv => ?_) N (by omega)
      rcases Classical.em (v = i) with z | z
      · subst z; rw [pk_us]
      · rw [pk_un z]; exact h v (by omega)
theorem ly_79 {post : SX → Prop} (hn : n ≤ 24) (hrc : rc ≤ n) (h0rc : 0 < rc) (G : la_G n rc R d vt g M) (hid : ∀ v, R v → v ≠ 0 → a_idom v = nI (g v)) (hat : ∀ i, i < rc → a_atNumber i = nI (vt i))
    (K : ∀ (en : Nat → Nat) (siz ent cur : Nat → Int32), (∀ v, R v → siz v = nI (la_Z n M v)) → (∀ v, R v → ent v = nI (en v)) → la_E n rc R d vt g M en → post ((nI n), f_edgeCount, (nI rc), f_current, f_queued, f_farthest, a_tail, a_head, a_outFirst, a_outNext, a_inFirst, a_inNext, cur, a_stack, a_number, a_atNumber, a_parent, a_semi, a_label, a_ancestor, a_bucketFirst, a_bucketNext, a_idom, a_level, siz, ent, a_pathIndex, a_from, a_queue, a_visited)) :
    ∀ i, i < rc → ∀ (z : Nat → Nat) (siz : Nat → Int32), (∀ v, R v → siz v = nI (z v) ∧ z v + ba_sm (la_f n vt g M v) (i + 1) = la_Z n M v) → ∀ N, i < N → wX_layOut_79 post (nI n) f_edgeCount (nI rc) f_current f_queued f_farthest N (nI i) a_tail a_head a_outFirst a_outNext a_inFirst a_inNext a_cursor a_stack a_number a_atNumber a_parent a_semi a_label a_ancestor a_bucketFirst a_bucketNext a_idom a_level siz a_enter a_pathIndex a_from a_queue a_visited := by
  intro i
  induction i with
  | zero =>
    intro _ z siz h N hN
    cases N with
    | zero => omega
    | succ N =>
      have n1 : nI 0 ≤ 0 := by decide
      simp only [wX_layOut_79, n1, wk_cl0, forall_eq, true_and, and_true, not_true_eq_false, not_false_eq_true, false_implies, true_implies, implies_true, forall_const]
      refine ⟨n + 1, ?_⟩
      have hs : ∀ v, R v → siz v = nI (la_Z n M v) := fun v hv => by
        have := (h v hv).2
        rw [ly_f0, Nat.add_zero] at this
        rw [← this]; exact (h v hv).1
      exact ly_125 hn hrc h0rc G hid hat hs pk_us (fun en ent cur a b => K en siz ent cur hs a b) n 0 (by omega) a_cursor (fun v hv => by omega) (n + 1) (by omega)
  | succ i ih =>
    intro hi z siz h N hN
    cases N with
    | zero => omega
    | succ N =>
      obtain ⟨hw, hdw⟩ := G.2.2.1 (i + 1) (by omega)
      have w0 : vt (i + 1) ≠ 0 := fun c => by rw [c, G.1.2] at hdw; omega
      have a1 := hat (i + 1) (by omega)
      generalize hww : vt (i + 1) = w at hw hdw w0 a1
      have hwn := (G.2.1 w hw).1
      obtain ⟨p1, p2, p3⟩ := G.2.2.2.1 w hw w0
      have hpn := (G.2.1 _ p1).1
      have n1 : ¬ nI (i + 1) ≤ 0 := nI_nle (by omega) (by omega)
      have c1 : (nI (i + 1)).toNatClampNeg = i + 1 := nI_clamp (by omega)
      have v1 : vp_in (nI (i + 1)) 24 := vp_in_nI (by omega) (by decide)
      have cw : (nI w).toNatClampNeg = w := nI_clamp (by omega)
      have vw : vp_in (nI w) 24 := vp_in_nI (by omega) (by decide)
      have iw := hid w hw w0
      have cp : (nI (g w)).toNatClampNeg = g w := nI_clamp (by omega)
      have vp : vp_in (nI (g w)) 24 := vp_in_nI (by omega) (by decide)
      have e1 := h _ p1
      have e2 := h _ hw
      have ez : z w = la_Z n M w := by
        have := e2.2
        rw [ly_fs G hw hdw _ (by omega)] at this
        omega
      simp only [wX_layOut_79, n1, c1, v1, a1, cw, vw, iw, cp, vp, e1.1, e2.1, nI_add, pk_m1, forall_eq, true_and, and_true, not_true_eq_false, not_false_eq_true, false_implies, true_implies, implies_true, forall_const]
      refine ih (by omega) (fo_u z (g w) (z (g w) + z w)) _ (fun v hv => ?_) N (by omega)
      rcases Classical.em (v = g w) with y | y
      · subst y
        have f := la_fc G hw w0
        rw [hdw] at f
        have q := e1.2
        rw [ba_sms, f] at q
        rw [pk_us, fo_us]
        exact ⟨rfl, by omega⟩
      · rw [pk_un y, fo_un y]
        have q := (h v hv).2
        rw [ba_sms, ly_fn hww y, Nat.add_zero] at q
        exact ⟨(h v hv).1, q⟩
theorem ly_32 {post : SX → Prop} (hn : n ≤ 24) (hrc : rc ≤ n) (h0rc : 0 < rc) (G : la_G n rc R d vt g M) (hid : ∀ v, R v → v ≠ 0 → a_idom v = nI (g v)) (hat : ∀ i, i < rc → a_atNumber i = nI (vt i)) (hsz : ∀ v, v < n → a_size v = 1)
    (K : ∀ (en : Nat → Nat) (lev siz ent cur : Nat → Int32), (∀ v, R v → lev v = nI (la_L n M v)) → (∀ v, R v → siz v = nI (la_Z n M v)) → (∀ v, R v → ent v = nI (en v)) → la_E n rc R d vt g M en → post ((nI n), f_edgeCount, (nI rc), f_current, f_queued, f_farthest, a_tail, a_head, a_outFirst, a_outNext, a_inFirst, a_inNext, cur, a_stack, a_number, a_atNumber, a_parent, a_semi, a_label, a_ancestor, a_bucketFirst, a_bucketNext, a_idom, lev, siz, ent, a_pathIndex, a_from, a_queue, a_visited)) :
    ∀ t i, 0 < i → i + t = rc → ∀ (lev : Nat → Int32), (∀ v, R v → d v < i → lev v = nI (la_L n M v)) → ∀ N, t < N → wX_layOut_32 post (nI n) f_edgeCount (nI rc) f_current f_queued f_farthest N (nI i) a_tail a_head a_outFirst a_outNext a_inFirst a_inNext a_cursor a_stack a_number a_atNumber a_parent a_semi a_label a_ancestor a_bucketFirst a_bucketNext a_idom lev a_size a_enter a_pathIndex a_from a_queue a_visited := by
  intro t
  induction t with
  | zero =>
    intro i i0 hi lev h N hN
    cases N with
    | zero => omega
    | succ N =>
      have n1 : nI rc ≤ nI i := nI_le (by omega) (by omega)
      have e1 : nI rc - 1 = nI (rc - 1) := pk_sub (b := 1) (by omega)
      simp only [wX_layOut_32, n1, e1, forall_eq, true_and, and_true, not_true_eq_false, not_false_eq_true, false_implies, true_implies, implies_true, forall_const]
      refine ⟨rc, ?_⟩
      refine ly_79 hn hrc h0rc G hid hat (fun en siz ent cur a b c => K en lev siz ent cur (fun v hv => h v hv (by have := (G.2.1 v hv).2.1; omega)) a b c) (rc - 1) (by omega) (fun _ => 1) a_size (fun v hv => ?_) rc (by omega)
      have e : rc - 1 + 1 = rc := by omega
      rw [e, la_Zs G hv]
      exact ⟨hsz v (G.2.1 v hv).1, rfl⟩
  | succ t ih =>
    intro i i0 hi lev h N hN
    cases N with
    | zero => omega
    | succ N =>
      obtain ⟨hw, hdw⟩ := G.2.2.1 i (by omega)
      have w0 : vt i ≠ 0 := fun c => by rw [c, G.1.2] at hdw; omega
      have a1 := hat i (by omega)
      generalize vt i = w at hw hdw w0 a1
      have hwn := (G.2.1 w hw).1
      obtain ⟨p1, p2, p3⟩ := G.2.2.2.1 w hw w0
      have hpn := (G.2.1 _ p1).1
      have n1 : ¬ nI rc ≤ nI i := nI_ge (by omega) (by omega)
      have c1 : (nI i).toNatClampNeg = i := nI_clamp (by omega)
      have v1 : vp_in (nI i) 24 := vp_in_nI (by omega) (by decide)
      have cw : (nI w).toNatClampNeg = w := nI_clamp (by omega)
      have vw : vp_in (nI w) 24 := vp_in_nI (by omega) (by decide)
      have iw := hid w hw w0
      have cp : (nI (g w)).toNatClampNeg = g w := nI_clamp (by omega)
      have vp : vp_in (nI (g w)) 24 := vp_in_nI (by omega) (by decide)
      have e1 := h _ p1 (by omega)
      simp only [wX_layOut_32, n1, c1, v1, a1, cw, vw, iw, cp, vp, e1, nI_1, forall_eq, true_and, and_true, not_true_eq_false, not_false_eq_true, false_implies, true_implies, implies_true, forall_const]
      refine ih (i + 1) (by omega) (by omega) _ (fun v hv hl => ?_) N (by omega)
      rcases Classical.em (v = w) with y | y
      · subst y
        rw [pk_us, la_Ls G hv w0]
      · rw [pk_un y]
        have hne : d v ≠ d w := fun c => y (la_inj G hv hw c)
        exact h v hv (by omega)
theorem ly_9 {post : SX → Prop} (hn : n ≤ 24) (hrc : rc ≤ n) (h0rc : 0 < rc) (G : la_G n rc R d vt g M) (hid : ∀ v, R v → v ≠ 0 → a_idom v = nI (g v)) (hat : ∀ i, i < rc → a_atNumber i = nI (vt i)) (hl0 : a_level 0 = 1)
    (K : ∀ (en : Nat → Nat) (lev siz ent cur : Nat → Int32), (∀ v, R v → lev v = nI (la_L n M v)) → (∀ v, R v → siz v = nI (la_Z n M v)) → (∀ v, R v → ent v = nI (en v)) → la_E n rc R d vt g M en → post ((nI n), f_edgeCount, (nI rc), f_current, f_queued, f_farthest, a_tail, a_head, a_outFirst, a_outNext, a_inFirst, a_inNext, cur, a_stack, a_number, a_atNumber, a_parent, a_semi, a_label, a_ancestor, a_bucketFirst, a_bucketNext, a_idom, lev, siz, ent, a_pathIndex, a_from, a_queue, a_visited)) :
    ∀ t i, i + t = n → ∀ (siz : Nat → Int32), (∀ v, v < i → siz v = 1) → ∀ N, t < N → wX_layOut_9 post (nI n) f_edgeCount (nI rc) f_current f_queued f_farthest N (nI i) a_tail a_head a_outFirst a_outNext a_inFirst a_inNext a_cursor a_stack a_number a_atNumber a_parent a_semi a_label a_ancestor a_bucketFirst a_bucketNext a_idom a_level siz a_enter a_pathIndex a_from a_queue a_visited := by
  intro t
  induction t with
  | zero =>
    intro i hi siz h N hN
    cases N with
    | zero => omega
    | succ N =>
      refine br_t (nI_le (by omega) (by omega)) ⟨rc, ?_⟩
      refine ly_32 hn hrc h0rc G hid hat (fun v hv => h v (by omega)) K (rc - 1) 1 (by omega) (by omega) _ (fun v hv hl => ?_) rc (by omega)
      have : v = 0 := la_inj G hv G.1.1 (by have := G.1.2; omega)
      subst this
      rw [la_L0 G]
      exact hl0
  | succ t ih =>
    intro i hi siz h N hN
    cases N with
    | zero => omega
    | succ N =>
      have c1 : (nI i).toNatClampNeg = i := nI_clamp (by omega)
      have v1 : vp_in (nI i) 24 := vp_in_nI (by omega) (by decide)
      have n1 : ¬ nI n ≤ nI i := nI_ge (by omega) (by omega)
      simp only [wX_layOut_9, c1, v1, n1, nI_1, forall_eq, true_and, and_true, not_true_eq_false, not_false_eq_true, false_implies, true_implies, implies_true, forall_const]
      refine ih (i + 1) (by omega) _ (fun v hv => ?_) N (by omega)
      rcases Classical.em (v = i) with z | z
      · subst z; rw [pk_us]
      · rw [pk_un z]; exact h v (by omega)
theorem ly_ok {post : SX → Prop} (hn : n ≤ 24) (hrc : rc ≤ n) (h0rc : 0 < rc) (G : la_G n rc R d vt g M) (hid : ∀ v, R v → v ≠ 0 → a_idom v = nI (g v)) (hat : ∀ i, i < rc → a_atNumber i = nI (vt i))
    (K : ∀ (en : Nat → Nat) (lev siz ent cur : Nat → Int32), (∀ v, R v → lev v = nI (la_L n M v)) → (∀ v, R v → siz v = nI (la_Z n M v)) → (∀ v, R v → ent v = nI (en v)) → la_E n rc R d vt g M en → post ((nI n), f_edgeCount, (nI rc), f_current, f_queued, f_farthest, a_tail, a_head, a_outFirst, a_outNext, a_inFirst, a_inNext, cur, a_stack, a_number, a_atNumber, a_parent, a_semi, a_label, a_ancestor, a_bucketFirst, a_bucketNext, a_idom, lev, siz, ent, a_pathIndex, a_from, a_queue, a_visited)) :
    wpX_layOut post ((nI n), f_edgeCount, (nI rc), f_current, f_queued, f_farthest, a_tail, a_head, a_outFirst, a_outNext, a_inFirst, a_inNext, a_cursor, a_stack, a_number, a_atNumber, a_parent, a_semi, a_label, a_ancestor, a_bucketFirst, a_bucketNext, a_idom, a_level, a_size, a_enter, a_pathIndex, a_from, a_queue, a_visited) := by
  simp only [wpX_layOut, wk_cl0, forall_eq, true_and, and_true, not_true_eq_false, not_false_eq_true, false_implies, true_implies, implies_true, forall_const]
  refine ⟨n + 1, ?_⟩
  exact ly_9 (post := post) hn hrc h0rc G hid hat pk_us K n 0 (by omega) a_size (fun v hv => by omega) (n + 1) (by omega)
end
end
section
/-! what stands after refresh; the relation -/
def gd_X (n m : Nat) (tl hd : Nat → Nat) (rc : Nat) (R : Nat → Prop) (d vt g en : Nat → Nat) (f_reached : Int32) (oF oN iF iN num idm lev siz ent : Nat → Int32) : Prop :=
  f_reached = nI rc ∧ (0 < rc ∧ rc ≤ n) ∧ la_G n rc R d vt g (re_D (re_E m tl hd 60)) ∧ la_E n rc R d vt g (re_D (re_E m tl hd 60)) en ∧ (∀ v, R v ↔ re_R (re_E m tl hd 60) 24 v) ∧
  pt_C n m tl 0 oF oN ∧ pt_C n m hd 0 iF iN ∧ (∀ v, R v → num v = nI (d v)) ∧ (∀ v, v < n → ¬ R v → num v = -1) ∧ (∀ v, R v → v ≠ 0 → idm v = nI (g v)) ∧
  (∀ v, R v → lev v = nI (la_L n (re_D (re_E m tl hd 60)) v)) ∧ (∀ v, R v → siz v = nI (la_Z n (re_D (re_E m tl hd 60)) v)) ∧ (∀ v, R v → ent v = nI (en v))
def gd_C (n m : Nat) (tl hd : Nat → Nat) (f_current f_reached : Int32) (oF oN iF iN num idm lev siz ent : Nat → Int32) : Prop :=
  f_current = 0 ∨ (¬ f_current = 0 ∧ ∃ (rc : Nat) (R : Nat → Prop) (d vt g en : Nat → Nat), gd_X n m tl hd rc R d vt g en f_reached oF oN iF iN num idm lev siz ent)
section

variable {n m : Nat} {tl hd : Nat → Nat} {f_reached f_current f_queued f_farthest : Int32} {a_tail a_head a_outFirst a_outNext a_inFirst a_inNext a_cursor a_stack a_number a_atNumber a_parent a_semi a_label a_ancestor a_bucketFirst a_bucketNext a_idom a_level a_size a_enter a_pathIndex a_from a_queue a_visited : Nat → Int32}
theorem rf_ok {post : SX → Prop} (G : gr_G n m tl hd a_tail a_head) (C : gd_C n m tl hd f_current f_reached a_outFirst a_outNext a_inFirst a_inNext a_number a_idom a_level a_size a_enter)
    (K : ∀ (a_outFirst a_outNext a_inFirst a_inNext a_cursor a_stack a_number a_atNumber a_parent a_semi a_label a_ancestor a_bucketFirst a_bucketNext a_idom a_level a_size a_enter : Nat → Int32) (f_reached f_current : Int32) (rc : Nat) (R : Nat → Prop) (d vt g en : Nat → Nat), ¬ f_current = 0 →
      gd_X n m tl hd rc R d vt g en f_reached a_outFirst a_outNext a_inFirst a_inNext a_number a_idom a_level a_size a_enter → post ((nI n), (nI m), f_reached, f_current, f_queued, f_farthest, a_tail, a_head, a_outFirst, a_outNext, a_inFirst, a_inNext, a_cursor, a_stack, a_number, a_atNumber, a_parent, a_semi, a_label, a_ancestor, a_bucketFirst, a_bucketNext, a_idom, a_level, a_size, a_enter, a_pathIndex, a_from, a_queue, a_visited)) :
    wpX_refresh post ((nI n), (nI m), f_reached, f_current, f_queued, f_farthest, a_tail, a_head, a_outFirst, a_outNext, a_inFirst, a_inNext, a_cursor, a_stack, a_number, a_atNumber, a_parent, a_semi, a_label, a_ancestor, a_bucketFirst, a_bucketNext, a_idom, a_level, a_size, a_enter, a_pathIndex, a_from, a_queue, a_visited) := by
  rcases C with C | ⟨C1, rc, R, d, vt, g, en, C2⟩
  · have g2 := G.2.1
    unfold wpX_refresh
    refine br_t C ?_
    refine ch_ok G (fun oF oN iF iN h1 h2 => ?_)
    dsimp only
    refine nv_ok G h1 (fun rc R d p vt num atn par cur stk F => ?_)
    dsimp only
    refine fs_ok G h2 F (fun s semi lab anc bF bN idm stk H => ?_)
    dsimp only
    refine sx_ok G F H (fun g idm hi L => ?_)
    dsimp only
    have F' := F
    obtain ⟨T, F1, F2, F3, F4, F5, F6, F7⟩ := F'
    have h24 : ¬ R 24 := fun h => by have := (F2 24 h).1; omega
    refine ly_ok g2 F1.2 F1.1 L hi F6 (fun en lev siz ent cur k1 k2 k3 k4 => ?_)
    dsimp only
    exact K _ _ _ _ _ _ _ _ _ _ _ _ _ _ _ _ _ _ _ _ rc R d vt g en (by decide) ⟨rfl, F1, L, k4, fun v => ⟨fun hv => se_live T h24 hv, fun hv => lt_R T hv⟩, h1, h2, F4, F5, hi, k1, k2, k3⟩
  · unfold wpX_refresh
    refine br_f C1 ?_
    exact K _ _ _ _ _ _ _ _ _ _ _ _ _ _ _ _ _ _ _ _ rc R d vt g en C1 C2
end
end
section
/-! the reference: reach, tabulate -/
theorem yb_0 : vp_nar .boolean 0 = 0 := by rfl
theorem yb_1 : vp_nar .boolean 1 = 1 := by rfl
theorem yb_b (P : Prop) : vp_nar .boolean (nI (ba_b P)) = nI (ba_b P) := by
  rcases Classical.em P with h | h
  · rw [ba_t h]; rfl
  · rw [ba_f h]; rfl
theorem yb_t {P : Prop} (h : P) : ¬ nI (ba_b P) = 0 := by rw [ba_t h]; decide
theorem yb_f {P : Prop} (h : ¬ P) : nI (ba_b P) = 0 := by rw [ba_f h]; rfl
theorem y24 (u : Nat) : (24 : Int32) * nI u = nI (24 * u) := pk_mul 24 u
/-- the edge e is done -/
def yr_c (tl hd : Nat → Nat) (z i : Nat) (V : Nat → Prop) (e : Nat) : Prop := e ≠ i → V (tl e) → hd e ≠ z → V (hd e)
def yr_S (m : Nat) (tl hd : Nat → Nat) (z i : Nat) (V : Nat → Prop) (seen : Nat → Int32) : Prop :=
  (∀ w, w < 24 → seen w = nI (ba_b (V w))) ∧ (∀ w, V w → re_R (re_E m tl hd i) z w) ∧ (z ≠ 0 → V 0)
section

variable {n m z i : Nat} {tl hd : Nat → Nat} {x1 x2 : Int32} {a_tail a_head a_seen a_live a_over : Nat → Int32}
theorem yr_53 {post : SY → Prop} {J : Int32 → Int32 → (Nat → Int32) → (Nat → Int32) → (Nat → Int32) → (Nat → Int32) → (Nat → Int32) → Prop} (G : gr_G n m tl hd a_tail a_head) (hz : ∀ w, w < 24 → (nI w = x1 ↔ w = z)) (hi : ∀ e, e < 60 → (nI e = x2 ↔ e = i))
    {ro c0 : Nat} (hro : ro < 24)
    (K : ∀ (V : Nat → Prop) (seen : Nat → Int32) (x3 : Int32), yr_S m tl hd z i V seen → ((x3 = 0 ∧ ∀ e, e < m → yr_c tl hd z i V e) ∨ (x3 = 1 ∧ c0 + 1 ≤ ba_cn V 24)) → J x3 (nI (ro + 1)) a_tail a_head seen a_live a_over) :
    ∀ t j, j + t = m → ∀ (V : Nat → Prop) (seen : Nat → Int32) (x3 : Int32), yr_S m tl hd z i V seen → ((x3 = 0 ∧ c0 ≤ ba_cn V 24 ∧ ∀ e, e < j → yr_c tl hd z i V e) ∨ (x3 = 1 ∧ c0 + 1 ≤ ba_cn V 24)) → ∀ N, t < N →
      wY_reach_53 post J x1 x2 (nI ro) (nI n) (nI m) N x3 (nI j) a_tail a_head seen a_live a_over := by
  obtain ⟨g1, g2, g3, g4⟩ := G
  intro t
  induction t with
  | zero =>
    intro j hj V seen x3 S H N hN
    cases N with
    | zero => omega
    | succ N =>
      have n1 : nI m ≤ nI j := nI_le (by omega) (by omega)
      simp only [wY_reach_53, n1, nI_1, forall_eq, true_and, and_true, not_true_eq_false, not_false_eq_true, false_implies, true_implies, implies_true, forall_const]
      refine K V seen x3 S ?_
      rcases H with ⟨a, _, b⟩ | a
      · exact Or.inl ⟨a, fun e he => b e (by omega)⟩
      · exact Or.inr a
  | succ t ih =>
    intro j hj V seen x3 S H N hN
    cases N with
    | zero => omega
    | succ N =>
      obtain ⟨t1, t2, t3, t4⟩ := g4 j (by omega)
      have n1 : ¬ nI m ≤ nI j := nI_ge (by omega) (by omega)
      have n2 : ¬ (60 : Int32) ≤ nI j := nI_ge (b := 60) (by omega) (by decide)
      have c1 : (nI j).toNatClampNeg = j := nI_clamp (by omega)
      have v1 : vp_in (nI j) 60 := vp_in_nI (by omega) (by decide)
      have c2 : (nI (tl j)).toNatClampNeg = tl j := nI_clamp (by omega)
      have v2 : vp_in (nI (tl j)) 24 := vp_in_nI (by omega) (by decide)
      have c3 : (nI (hd j)).toNatClampNeg = hd j := nI_clamp (by omega)
      have v3 : vp_in (nI (hd j)) 24 := vp_in_nI (by omega) (by decide)
      -- nothing changes: the edge is done
      have stay : yr_c tl hd z i V j → wY_reach_53 post J x1 x2 (nI ro) (nI n) (nI m) N x3 (nI (j + 1)) a_tail a_head seen a_live a_over := by
        intro q
        refine ih (j + 1) (by omega) V seen x3 S ?_ N (by omega)
        rcases H with ⟨a, b0, b⟩ | a
        · refine Or.inl ⟨a, b0, fun e he => ?_⟩
          rcases Nat.lt_or_ge e j with y | y
          · exact b e y
          · have : e = j := by omega
            subst this; exact q
        · exact Or.inr a
      rcases Classical.em (j = i) with k1 | k1
      · have m1 : nI j = x2 := (hi j (by omega)).mpr k1
        subst m1
        simp only [wY_reach_53, n1, n2, c1, v1, t4, eq_self, nI_1, forall_eq, true_and, and_true, not_true_eq_false, not_false_eq_true, false_implies, true_implies, implies_true, forall_const]
        exact stay (fun q => absurd k1 q)
      · have m1 : ¬ nI j = x2 := fun q => k1 ((hi j (by omega)).mp q)
        rcases Classical.em (V (tl j)) with k2 | k2
        · have m2 : ¬ seen (tl j) = 0 := by rw [S.1 _ (by omega)]; exact yb_t k2
          rcases Classical.em (hd j = z) with k3 | k3
          · have m3 : nI (hd j) = x1 := (hz _ (by omega)).mpr k3
            simp only [wY_reach_53, n1, n2, c1, v1, t4, m1, t3, c2, v2, m2, m3, nI_1, forall_eq, true_and, and_true, not_true_eq_false, not_false_eq_true, false_implies, true_implies, implies_true, forall_const]
            exact stay (fun _ _ q => absurd k3 q)
          · have m3 : ¬ nI (hd j) = x1 := fun q => k3 ((hz _ (by omega)).mp q)
            rcases Classical.em (V (hd j)) with k4 | k4
            · have m4 : ¬ seen (hd j) = 0 := by rw [S.1 _ (by omega)]; exact yb_t k4
              simp only [wY_reach_53, n1, n2, c1, v1, t4, m1, t3, c2, v2, m2, m3, c3, v3, m4, nI_1, forall_eq, true_and, and_true, not_true_eq_false, not_false_eq_true, false_implies, true_implies, implies_true, forall_const]
              exact stay (fun _ _ _ => k4)
            · have m4 : seen (hd j) = 0 := by rw [S.1 _ (by omega)]; exact yb_f k4
              simp only [wY_reach_53, n1, n2, c1, v1, t4, m1, t3, c2, v2, m2, m3, c3, v3, m4, nI_1, yb_1, forall_eq, true_and, and_true, not_true_eq_false, not_false_eq_true, false_implies, true_implies, implies_true, forall_const]
              have cn : ba_cn (fun x => V x ∨ x = hd j) 24 = ba_cn V 24 + 1 := ba_cn_or (c := hd j) (by omega) k4 (fun x _ => ⟨Or.symm, Or.symm⟩)
              refine ih (j + 1) (by omega) (fun x => V x ∨ x = hd j) _ 1 ⟨fun w hw => ?_, ?_, fun q => Or.inl (S.2.2 q)⟩ (Or.inr ⟨rfl, ?_⟩) N (by omega)
              · rcases Classical.em (w = hd j) with y | y
                · subst y; rw [pk_us, ba_t (Or.inr rfl)]; rfl
                · rw [pk_un y, S.1 w hw]
                  exact congrArg nI (ba_congr ⟨Or.inl, fun q => q.elim id (fun q => absurd q y)⟩)
              · rintro w (hw | hw)
                · exact S.2.1 w hw
                · subst hw
                  exact re_s (S.2.1 _ k2) ⟨j, by omega, k1, rfl, rfl⟩ k3
              · rcases H with ⟨a, b0, b⟩ | ⟨a, b⟩ <;> omega
        · have m2 : seen (tl j) = 0 := by rw [S.1 _ (by omega)]; exact yb_f k2
          simp only [wY_reach_53, n1, n2, c1, v1, t4, m1, t3, c2, v2, m2, nI_1, forall_eq, true_and, and_true, not_true_eq_false, not_false_eq_true, false_implies, true_implies, implies_true, forall_const]
          exact stay (fun _ q => absurd q k2)
theorem yr_37 {post : SY → Prop} (G : gr_G n m tl hd a_tail a_head) (hz : ∀ w, w < 24 → (nI w = x1 ↔ w = z)) (hi : ∀ e, e < 60 → (nI e = x2 ↔ e = i))
    (K : ∀ (seen : Nat → Int32), (∀ w, w < 24 → seen w = nI (ba_b (re_R (re_E m tl hd i) z w))) → post ((nI n), (nI m), a_tail, a_head, seen, a_live, a_over)) :
    ∀ t ro, ro + t = 24 → ∀ (V : Nat → Prop) (seen : Nat → Int32) (x3 : Int32), yr_S m tl hd z i V seen → ((x3 = 0 ∧ ∀ e, e < m → yr_c tl hd z i V e) ∨ (x3 = 1 ∧ ro ≤ ba_cn V 24)) → ∀ N, t < N →
      wY_reach_37 post x1 x2 (nI n) (nI m) N x3 (nI ro) a_tail a_head seen a_live a_over := by
  have g := G
  obtain ⟨g1, g2, g3, g4⟩ := g
  have fin : ∀ (V : Nat → Prop) (seen : Nat → Int32), yr_S m tl hd z i V seen → ((∀ e, e < m → yr_c tl hd z i V e) ∨ (∀ w, w < 24 → V w)) → post ((nI n), (nI m), a_tail, a_head, seen, a_live, a_over) := by
    intro V seen S H
    refine K seen (fun w hw => ?_)
    rw [S.1 w hw]
    refine congrArg nI (ba_congr ⟨S.2.1 w, fun h => ?_⟩)
    rcases H with H | H
    · refine h V S.2.2 ?_
      rintro a b ha ⟨e, e1, e0, e2, e3⟩ hb
      rw [← e3]
      exact H e e1 e0 (by rw [e2]; exact ha) (by rw [e3]; exact hb)
    · exact H w hw
  intro t
  induction t with
  | zero =>
    intro ro hr V seen x3 S H N hN
    cases N with
    | zero => omega
    | succ N =>
      refine br_t (nI_le (a := 24) (by omega) (by omega)) (fin V seen S ?_)
      rcases H with ⟨_, a⟩ | ⟨_, a⟩
      · exact Or.inl a
      · refine Or.inr (fun w hw => Classical.byContradiction (fun c => ?_))
        have x := ba_cn_lt (Q := fun _ => True) hw c trivial (fun _ _ _ => trivial)
        have y := ba_cn_le (fun _ => True) 24
        omega
  | succ t ih =>
    intro ro hr V seen x3 S H N hN
    cases N with
    | zero => omega
    | succ N =>
      have n1 : ¬ (24 : Int32) ≤ nI ro := nI_ge (b := 24) (by omega) (by decide)
      rcases H with ⟨a, b⟩ | ⟨a, b⟩
      · exact br_f n1 (br_t a (fin V seen S (Or.inl b)))
      · subst a
        refine br_f n1 (br_f (by decide) ⟨m + 1, ?_⟩)
        refine yr_53 (c0 := ro) G hz hi (by omega) (fun V' seen' x3' S' H' => ?_) m 0 (by omega) V seen 0 S (Or.inl ⟨rfl, b, fun e he => by omega⟩) (m + 1) (by omega)
        exact ih (ro + 1) (by omega) V' seen' x3' S' H' N (by omega)
theorem yr_2 {post : SY → Prop} (G : gr_G n m tl hd a_tail a_head) (hz : ∀ w, w < 24 → (nI w = x1 ↔ w = z)) (hi : ∀ e, e < 60 → (nI e = x2 ↔ e = i))
    (K : ∀ (seen : Nat → Int32), (∀ w, w < 24 → seen w = nI (ba_b (re_R (re_E m tl hd i) z w))) → post ((nI n), (nI m), a_tail, a_head, seen, a_live, a_over)) :
    ∀ t j, j + t = 24 → ∀ (seen : Nat → Int32), (∀ w, w < j → seen w = 0) → ∀ N, t < N → wY_reach_2 post x1 x2 (nI n) (nI m) N (nI j) a_tail a_head seen a_live a_over := by
  intro t
  induction t with
  | zero =>
    intro j hj seen h N hN
    cases N with
    | zero => omega
    | succ N =>
      have n1 : (24 : Int32) ≤ nI j := nI_le (a := 24) (by omega) (by omega)
      have e0 := hz 0 (by decide)
      rw [nI_0] at e0
      rcases Classical.em (z = 0) with q | q
      · have m1 : x1 = 0 := (e0.mpr q.symm).symm
        refine br_t n1 (br_t m1 ⟨25, ?_⟩)
        refine yr_37 G hz hi K 24 0 (by omega) (fun _ => False) seen 1 ⟨fun w hw => ?_, fun w hw => absurd hw (fun h => h), fun c => absurd q c⟩ (Or.inr ⟨rfl, by omega⟩) 25 (by omega)
        rw [h w (by omega), ba_f (fun h => h)]; rfl
      · have m1 : ¬ x1 = 0 := fun c => q (e0.mp c.symm).symm
        simp only [wY_reach_2, n1, m1, wk_cl0, yb_1, forall_eq, true_and, and_true, not_true_eq_false, not_false_eq_true, false_implies, true_implies, implies_true, forall_const]
        refine ⟨25, ?_⟩
        refine yr_37 G hz hi K 24 0 (by omega) (fun w => w = 0) _ 1 ⟨fun w hw => ?_, fun w hw => by rw [hw]; exact re_0 q, fun _ => rfl⟩ (Or.inr ⟨rfl, by omega⟩) 25 (by omega)
        rcases Classical.em (w = 0) with y | y
        · subst y; rw [pk_us, ba_t rfl]; rfl
        · rw [pk_un y, h w (by omega), ba_f y]; rfl
  | succ t ih =>
    intro j hj seen h N hN
    cases N with
    | zero => omega
    | succ N =>
      have n1 : ¬ (24 : Int32) ≤ nI j := nI_ge (b := 24) (by omega) (by decide)
      have c1 : (nI j).toNatClampNeg = j := nI_clamp (by omega)
      have v1 : vp_in (nI j) 24 := vp_in_nI (by omega) (by decide)
      simp only [wY_reach_2, n1, c1, v1, yb_0, nI_1, forall_eq, true_and, and_true, not_true_eq_false, not_false_eq_true, false_implies, true_implies, implies_true, forall_const]
      refine ih (j + 1) (by omega) _ (fun w hw => ?_) N (by omega)
      rcases Classical.em (w = j) with y | y
      · subst y; rw [pk_us]
      · rw [pk_un y]; exact h w (by omega)
theorem yr_ok {post : SY → Prop} (G : gr_G n m tl hd a_tail a_head) (hz : ∀ w, w < 24 → (nI w = x1 ↔ w = z)) (hi : ∀ e, e < 60 → (nI e = x2 ↔ e = i))
    (K : ∀ (seen : Nat → Int32), (∀ w, w < 24 → seen w = nI (ba_b (re_R (re_E m tl hd i) z w))) → post ((nI n), (nI m), a_tail, a_head, seen, a_live, a_over)) : wpY_reach post ((nI n), (nI m), a_tail, a_head, a_seen, a_live, a_over) x1 x2 :=
  ⟨25, yr_2 G hz hi K 24 0 (by omega) a_seen (fun w hw => by omega) 25 (by omega)⟩
theorem yr_n24 : ∀ w, w < 24 → (nI w = -1 ↔ w = 24) := fun w hw => ⟨fun h => absurd h (pt_nm1 (by omega)), fun h => by omega⟩
theorem yr_n60 : ∀ w, w < 60 → (nI w = -1 ↔ w = 60) := fun w hw => ⟨fun h => absurd h (pt_nm1 (by omega)), fun h => by omega⟩
theorem yr_z {z : Nat} (h : z < 24) : ∀ w, w < 24 → (nI w = nI z ↔ w = z) := fun w hw => nI_eq (by omega) (by omega)
theorem yr_i {i : Nat} (h : i < 60) : ∀ w, w < 60 → (nI w = nI i ↔ w = i) := fun w hw => nI_eq (by omega) (by omega)
/-- the tables -/
def yt_T (m : Nat) (tl hd : Nat → Nat) (live over : Nat → Int32) : Prop :=
  (∀ w, w < 24 → live w = nI (ba_b (re_R (re_E m tl hd 60) 24 w))) ∧ (∀ u v, u < 24 → v < 24 → over (24 * u + v) = nI (ba_b (re_D (re_E m tl hd 60) u v)))
theorem yt_48 {post : SY → Prop} {J : Int32 → Int32 → Int32 → (Nat → Int32) → (Nat → Int32) → (Nat → Int32) → (Nat → Int32) → (Nat → Int32) → Prop} {u : Nat} (hu : u < 24)
    (hl : ∀ w, w < 24 → a_live w = nI (ba_b (re_R (re_E m tl hd 60) 24 w))) (hs : ∀ w, w < 24 → a_seen w = nI (ba_b (re_R (re_E m tl hd 60) u w)))
    (K : ∀ (over : Nat → Int32), (∀ a v, a < u + 1 → v < 24 → over (24 * a + v) = nI (ba_b (re_D (re_E m tl hd 60) a v))) → J (nI (u + 1)) (nI n) (nI m) a_tail a_head a_seen a_live over) :
    ∀ t j, j + t = 24 → ∀ (over : Nat → Int32), (∀ a v, a < u → v < 24 → over (24 * a + v) = nI (ba_b (re_D (re_E m tl hd 60) a v))) → (∀ v, v < j → over (24 * u + v) = nI (ba_b (re_D (re_E m tl hd 60) u v))) → ∀ N, t < N →
      wY_tabulate_48 post J (nI u) (nI n) (nI m) N (nI j) a_tail a_head a_seen a_live over := by
  intro t
  induction t with
  | zero =>
    intro j hj over h1 h2 N hN
    cases N with
    | zero => omega
    | succ N =>
      have n1 : (24 : Int32) ≤ nI j := nI_le (a := 24) (by omega) (by omega)
      simp only [wY_tabulate_48, n1, nI_1, forall_eq, true_and, and_true, not_true_eq_false, not_false_eq_true, false_implies, true_implies, implies_true, forall_const]
      refine K over (fun a v ha hv => ?_)
      rcases Nat.lt_or_ge a u with y | y
      · exact h1 a v y hv
      · have : a = u := by omega
        subst this; exact h2 v (by omega)
  | succ t ih =>
    intro j hj over h1 h2 N hN
    cases N with
    | zero => omega
    | succ N =>
      have n1 : ¬ (24 : Int32) ≤ nI j := nI_ge (b := 24) (by omega) (by decide)
      have c1 : (nI j).toNatClampNeg = j := nI_clamp (by omega)
      have v1 : vp_in (nI j) 24 := vp_in_nI (by omega) (by decide)
      have c2 : (nI (24 * u + j)).toNatClampNeg = 24 * u + j := nI_clamp (by omega)
      have v2 : vp_in (nI (24 * u + j)) 576 := vp_in_nI (by omega) (by decide)
      have nxt : ∀ x : Int32, x = nI (ba_b (re_D (re_E m tl hd 60) u j)) → wY_tabulate_48 post J (nI u) (nI n) (nI m) N (nI (j + 1)) a_tail a_head a_seen a_live (upd over (24 * u + j) x) := by
        intro x hx
        refine ih (j + 1) (by omega) _ (fun a v ha hv => ?_) (fun v hv => ?_) N (by omega)
        · rw [pk_un (by omega)]; exact h1 a v ha hv
        · rcases Classical.em (v = j) with y | y
          · subst y; rw [pk_us]; exact hx
          · rw [pk_un (by omega)]; exact h2 v (by omega)
      rcases Classical.em (re_R (re_E m tl hd 60) 24 j) with k1 | k1
      · have m1 : ¬ a_live j = 0 := by rw [hl j (by omega)]; exact yb_t k1
        rcases Classical.em (re_R (re_E m tl hd 60) u j) with k2 | k2
        · have m2 : ¬ a_seen j = 0 := by rw [hs j (by omega)]; exact yb_t k2
          simp only [wY_tabulate_48, n1, c1, v1, m1, m2, y24, nI_add, c2, v2, yb_0, nI_1, forall_eq, true_and, and_true, not_true_eq_false, not_false_eq_true, false_implies, true_implies, implies_true, forall_const]
          exact nxt 0 (yb_f (fun q => q.2 k2)).symm
        · have m2 : a_seen j = 0 := by rw [hs j (by omega)]; exact yb_f k2
          simp only [wY_tabulate_48, n1, c1, v1, m1, m2, y24, nI_add, c2, v2, yb_1, nI_1, forall_eq, true_and, and_true, not_true_eq_false, not_false_eq_true, false_implies, true_implies, implies_true, forall_const]
          exact nxt 1 (by rw [ba_t ⟨k1, k2⟩]; rfl)
      · have m1 : a_live j = 0 := by rw [hl j (by omega)]; exact yb_f k1
        simp only [wY_tabulate_48, n1, c1, v1, m1, y24, nI_add, c2, v2, yb_0, nI_1, forall_eq, true_and, and_true, not_true_eq_false, not_false_eq_true, false_implies, true_implies, implies_true, forall_const]
        exact nxt 0 (yb_f (fun q => k1 q.1)).symm
theorem yt_34 {post : SY → Prop} (G : gr_G n m tl hd a_tail a_head) (hl : ∀ w, w < 24 → a_live w = nI (ba_b (re_R (re_E m tl hd 60) 24 w)))
    (K : ∀ (seen over : Nat → Int32), yt_T m tl hd a_live over → post ((nI n), (nI m), a_tail, a_head, seen, a_live, over)) :
    ∀ t u, u + t = 24 → ∀ (seen over : Nat → Int32), (∀ a v, a < u → v < 24 → over (24 * a + v) = nI (ba_b (re_D (re_E m tl hd 60) a v))) → ∀ N, t < N →
      wY_tabulate_34 post N (nI u) (nI n) (nI m) a_tail a_head seen a_live over := by
  intro t
  induction t with
  | zero =>
    intro u hu seen over h N hN
    cases N with
    | zero => omega
    | succ N => exact br_t (nI_le (a := 24) (by omega) (by omega)) (K seen over ⟨hl, fun a v ha hv => h a v (by omega) hv⟩)
  | succ t ih =>
    intro u hu seen over h N hN
    cases N with
    | zero => omega
    | succ N =>
      have n1 : ¬ (24 : Int32) ≤ nI u := nI_ge (b := 24) (by omega) (by decide)
      refine br_f n1 ?_
      refine yr_ok G (yr_z (z := u) (by omega)) yr_n60 (fun seen' hs => ?_)
      dsimp only
      exact ⟨25, yt_48 (by omega) hl hs (fun over' ho => ih (u + 1) (by omega) seen' over' ho N (by omega)) 24 0 (by omega) over h (fun v hv => by omega) 25 (by omega)⟩
theorem yt_8 {post : SY → Prop} (G : gr_G n m tl hd a_tail a_head) (hs : ∀ w, w < 24 → a_seen w = nI (ba_b (re_R (re_E m tl hd 60) 24 w)))
    (K : ∀ (seen live over : Nat → Int32), yt_T m tl hd live over → post ((nI n), (nI m), a_tail, a_head, seen, live, over)) :
    ∀ t j, j + t = 24 → ∀ (live : Nat → Int32), (∀ w, w < j → live w = nI (ba_b (re_R (re_E m tl hd 60) 24 w))) → ∀ N, t < N →
      wY_tabulate_8 post (nI n) (nI m) N (nI j) a_tail a_head a_seen live a_over := by
  intro t
  induction t with
  | zero =>
    intro j hj live h N hN
    cases N with
    | zero => omega
    | succ N =>
      exact br_t (nI_le (a := 24) (by omega) (by omega)) ⟨25, yt_34 G (fun w hw => h w (by omega)) (fun seen over ht => K seen live over ht) 24 0 (by omega) a_seen a_over (fun a v ha => by omega) 25 (by omega)⟩
  | succ t ih =>
    intro j hj live h N hN
    cases N with
    | zero => omega
    | succ N =>
      have n1 : ¬ (24 : Int32) ≤ nI j := nI_ge (b := 24) (by omega) (by decide)
      have c1 : (nI j).toNatClampNeg = j := nI_clamp (by omega)
      have v1 : vp_in (nI j) 24 := vp_in_nI (by omega) (by decide)
      have s1 := hs j (by omega)
      simp only [wY_tabulate_8, n1, c1, v1, s1, yb_b, nI_1, forall_eq, true_and, and_true, not_true_eq_false, not_false_eq_true, false_implies, true_implies, implies_true, forall_const]
      refine ih (j + 1) (by omega) _ (fun w hw => ?_) N (by omega)
      rcases Classical.em (w = j) with y | y
      · subst y; rw [pk_us]
      · rw [pk_un y]; exact h w (by omega)
theorem yt_ok {post : SY → Prop} (G : gr_G n m tl hd a_tail a_head) (K : ∀ (seen live over : Nat → Int32), yt_T m tl hd live over → post ((nI n), (nI m), a_tail, a_head, seen, live, over)) : wpY_tabulate post ((nI n), (nI m), a_tail, a_head, a_seen, a_live, a_over) := by
  refine yr_ok (post := _) G yr_n24 yr_n60 (fun seen hs => ?_)
  dsimp only
  exact ⟨25, yt_8 G hs K 24 0 (by omega) a_live (fun w hw => by omega) 25 (by omega)⟩
end
end
section
/-! the reference's other loops -/
/-- the most so far -/
noncomputable def yh_m (R : Nat → Prop) (L : Nat → Nat) : Nat → Nat
  | 0 => 0
  | k + 1 => @ite Nat (R k ∧ yh_m R L k < L k) (Classical.propDecidable _) (L k) (yh_m R L k)
theorem yh_t {R : Nat → Prop} {L : Nat → Nat} {k : Nat} (h : R k ∧ yh_m R L k < L k) : yh_m R L (k + 1) = L k := by rw [yh_m, if_pos h]
theorem yh_f {R : Nat → Prop} {L : Nat → Nat} {k : Nat} (h : ¬ (R k ∧ yh_m R L k < L k)) : yh_m R L (k + 1) = yh_m R L k := by rw [yh_m, if_neg h]
theorem yh_le {R : Nat → Prop} {L : Nat → Nat} {B : Nat} (hB : ∀ k, L k ≤ B) : ∀ k, yh_m R L k ≤ B
  | 0 => Nat.zero_le _
  | k + 1 => by
    rcases Classical.em (R k ∧ yh_m R L k < L k) with h | h
    · rw [yh_t h]; exact hB k
    · rw [yh_f h]; exact yh_le hB k
/-- the best so far of those above t -/
def ya_I (L : Nat → Nat) (t j : Nat) (best : Int32) (most : Nat) : Prop := (t < j → best = nI t ∧ most = L t) ∧ (j ≤ t → most < L t)
theorem ya_n {L : Nat → Nat} {t j : Nat} {best : Int32} {most : Nat} (h : ya_I L t j best most) (hn : j ≠ t) : ya_I L t (j + 1) best most :=
  ⟨fun q => h.1 (by omega), fun q => h.2 (by omega)⟩
theorem ya_le {L : Nat → Nat} {t j : Nat} {best : Int32} {most : Nat} (h : ya_I L t j best most) (hl : L j ≤ most) : ya_I L t (j + 1) best most := by
  refine ya_n h (fun e => ?_)
  subst e
  have := h.2 (Nat.le_refl _)
  omega
theorem ya_gt {L : Nat → Nat} {t j : Nat} {best : Int32} {most : Nat} (h : ya_I L t j best most) (hm : j ≠ t → L j < L t) (hl : most < L j) : ya_I L t (j + 1) (nI j) (L j) := by
  rcases Classical.em (j = t) with e | e
  · subst e; exact ⟨fun _ => ⟨rfl, rfl⟩, fun q => by omega⟩
  · have := hm e
    refine ⟨fun q => ?_, fun _ => this⟩
    have := (h.1 (by omega)).2
    omega
section

variable {n m rc : Nat} {tl hd : Nat → Nat} {R : Nat → Prop} {d vt g : Nat → Nat} {a_tail a_head a_seen a_live a_over : Nat → Int32}
theorem yb_ok {post : Int32 → Prop} {v : Nat} (hn : n ≤ 24) (hv : v < n) (K : post 0) : wpY_bad post ((nI n), (nI m), a_tail, a_head, a_seen, a_live, a_over) (nI v) := by
  have n1 : ¬ nI v < 0 := nI_pos (by omega)
  have n2 : ¬ nI n ≤ nI v := nI_ge hv (by omega)
  have n3 : nI v < (24 : Int32) := nI_lt (b := 24) (by omega) (by decide)
  exact br_f n1 (br_f n2 (br_t n3 K))
theorem yb_bad {post : Int32 → Prop} {x : Int32} (h : x < 0 ∨ nI n ≤ x) (K : post 1) : wpY_bad post ((nI n), (nI m), a_tail, a_head, a_seen, a_live, a_over) x :=
  br_c (fun _ => K) (fun c => br_t (h.elim (fun q => absurd q c) id) K)
theorem yd_4 {post : Int32 → Prop} {v : Nat} (hn : n ≤ 24) (hv : v < 24) (T : yt_T m tl hd a_live a_over) (K : post (nI (la_L n (re_D (re_E m tl hd 60)) v))) :
    ∀ t j, j + t = n → ∀ N, t < N → wY_dominators_4 post (nI v) (nI n) (nI m) a_tail a_head a_seen a_live a_over N (nI (ba_cn (fun x => re_D (re_E m tl hd 60) x v) j)) (nI j) := by
  intro t
  induction t with
  | zero =>
    intro j hj N hN
    cases N with
    | zero => omega
    | succ N =>
      have e : j = n := by omega
      subst e
      exact br_t (nI_le (Nat.le_refl _) (by omega)) K
  | succ t ih =>
    intro j hj N hN
    cases N with
    | zero => omega
    | succ N =>
      have n1 : ¬ nI n ≤ nI j := nI_ge (by omega) (by omega)
      have n2 : ¬ (24 : Int32) ≤ nI j := nI_ge (b := 24) (by omega) (by decide)
      have c2 : (nI (24 * j + v)).toNatClampNeg = 24 * j + v := nI_clamp (by omega)
      have v2 : vp_in (nI (24 * j + v)) 576 := vp_in_nI (by omega) (by decide)
      have o := T.2 j v (by omega) hv
      have i := ih (j + 1) (by omega) N (by omega)
      rw [ba_cns] at i
      rcases Classical.em (re_D (re_E m tl hd 60) j v) with k | k
      · have m1 : ¬ a_over (24 * j + v) = 0 := by rw [o]; exact yb_t k
        rw [ba_t k] at i
        simp only [wY_dominators_4, n1, n2, y24, nI_add, c2, v2, m1, nI_1, forall_eq, true_and, and_true, not_true_eq_false, not_false_eq_true, false_implies, true_implies, implies_true, forall_const]
        exact i
      · have m1 : a_over (24 * j + v) = 0 := by rw [o]; exact yb_f k
        rw [ba_f k, Nat.add_zero] at i
        simp only [wY_dominators_4, n1, n2, y24, nI_add, c2, v2, m1, nI_1, forall_eq, true_and, and_true, not_true_eq_false, not_false_eq_true, false_implies, true_implies, implies_true, forall_const]
        exact i
theorem yd_ok {post : Int32 → Prop} {v : Nat} (hn : n ≤ 24) (hv : v < 24) (T : yt_T m tl hd a_live a_over) (K : post (nI (la_L n (re_D (re_E m tl hd 60)) v))) : wpY_dominators post ((nI n), (nI m), a_tail, a_head, a_seen, a_live, a_over) (nI v) :=
  ⟨n + 1, yd_4 hn hv T K n 0 (by omega) (n + 1) (by omega)⟩
theorem yd_le (v : Nat) : la_L n (re_D (re_E m tl hd 60)) v ≤ n := ba_cn_le _ n
theorem yv_7 {post : Int32 → Prop} {v : Nat} (hn : n ≤ 24) (G : la_G n rc R d vt g (re_D (re_E m tl hd 60))) (hv : R v) (v0 : v ≠ 0) (T : yt_T m tl hd a_live a_over) (K : post (nI (g v))) :
    ∀ t j, j + t = n → ∀ (best : Int32) (most : Nat), most ≤ n → ya_I (la_L n (re_D (re_E m tl hd 60))) (g v) j best most → ∀ N, t < N → wY_above_7 post (nI v) (nI n) (nI m) a_tail a_head a_seen a_live a_over N best (nI most) (nI j) := by
  obtain ⟨p1, p2, p3⟩ := G.2.2.2.1 v hv v0
  have hvn := (G.2.1 v hv).1
  intro t
  induction t with
  | zero =>
    intro j hj best most hmo H N hN
    cases N with
    | zero => omega
    | succ N =>
      refine br_t (nI_le (by omega) (by omega)) ?_
      rw [(H.1 (by have := (G.2.1 _ p1).1; omega)).1]
      exact K
  | succ t ih =>
    intro j hj best most hmo H N hN
    cases N with
    | zero => omega
    | succ N =>
      have n1 : ¬ nI n ≤ nI j := nI_ge (by omega) (by omega)
      have n2 : ¬ (24 : Int32) ≤ nI j := nI_ge (b := 24) (by omega) (by decide)
      have c2 : (nI (24 * j + v)).toNatClampNeg = 24 * j + v := nI_clamp (by omega)
      have v2 : vp_in (nI (24 * j + v)) 576 := vp_in_nI (by omega) (by decide)
      have o := T.2 j v (by omega) (by omega)
      have gv : g v ≠ v := fun e => by rw [e] at p2; omega
      rcases Classical.em (j = v) with e | e
      · have m0 : nI j = nI v := by rw [e]
        refine br_f n1 (br_f n2 (br_t m0 (nm_r (nI_1 j) ?_)))
        exact ih (j + 1) (by omega) best most hmo (ya_n H (fun q => gv (by rw [← q, e]))) N (by omega)
      · have m0 : ¬ nI j = nI v := fun q => e ((nI_eq (by omega) (by omega)).mp q)
        rcases Classical.em (re_D (re_E m tl hd 60) j v) with k | k
        · have m1 : ¬ a_over (24 * j + v) = 0 := by rw [o]; exact yb_t k
          simp only [wY_above_7, n1, n2, m0, y24, nI_add, c2, v2, m1, nI_1, forall_eq, true_and, and_true, not_true_eq_false, not_false_eq_true, false_implies, true_implies, implies_true, forall_const]
          refine yd_ok hn (by omega) T ?_
          have kt : re_D (re_E m tl hd 60) j (g v) := ((p3 j).mp k).elim (fun q => absurd q e) id
          have lj := yd_le (n := n) (m := m) (tl := tl) (hd := hd) j
          refine pk_le _ most (fun h => ?_) (fun h => ?_) rfl rfl (by omega) (by omega)
          · exact ih (j + 1) (by omega) best most hmo (ya_le H h) N (by omega)
          · exact ih (j + 1) (by omega) _ _ lj (ya_gt H (fun q => br_mon G p1 kt q) h) N (by omega)
        · have m1 : a_over (24 * j + v) = 0 := by rw [o]; exact yb_f k
          simp only [wY_above_7, n1, n2, m0, y24, nI_add, c2, v2, m1, nI_1, forall_eq, true_and, and_true, not_true_eq_false, not_false_eq_true, false_implies, true_implies, implies_true, forall_const]
          refine ih (j + 1) (by omega) best most hmo (ya_n H (fun q => k ?_)) N (by omega)
          rw [q]; exact (p3 _).mpr (Or.inr (la_r G p1))
theorem yv_ok {post : Int32 → Prop} {v : Nat} (hn : n ≤ 24) (G : la_G n rc R d vt g (re_D (re_E m tl hd 60))) (hv : R v) (v0 : v ≠ 0) (T : yt_T m tl hd a_live a_over) (K : post (nI (g v))) : wpY_above post ((nI n), (nI m), a_tail, a_head, a_seen, a_live, a_over) (nI v) :=
  ⟨n + 1, yv_7 hn G hv v0 T K n 0 (by omega) (-1) 0 (by omega) ⟨fun h => by omega, fun _ => br_Lp G (G.2.2.2.1 v hv v0).1⟩ (n + 1) (by omega)⟩
theorem yc_8 {post : Int32 → SY → Prop} (hn : n ≤ 24) (T : yt_T m tl hd a_live a_over) (K : post (nI (ba_cn (fun x => re_R (re_E m tl hd 60) 24 x) n)) ((nI n), (nI m), a_tail, a_head, a_seen, a_live, a_over)) :
    ∀ t j, j + t = n → ∀ N, t < N → wY_reachableCount_8 post (nI n) (nI m) a_tail a_head a_seen a_live a_over N (nI (ba_cn (fun x => re_R (re_E m tl hd 60) 24 x) j)) (nI j) := by
  intro t
  induction t with
  | zero =>
    intro j hj N hN
    cases N with
    | zero => omega
    | succ N =>
      have e : j = n := by omega
      subst e
      exact br_t (nI_le (Nat.le_refl _) (by omega)) K
  | succ t ih =>
    intro j hj N hN
    cases N with
    | zero => omega
    | succ N =>
      have n1 : ¬ nI n ≤ nI j := nI_ge (by omega) (by omega)
      have n2 : ¬ (24 : Int32) ≤ nI j := nI_ge (b := 24) (by omega) (by decide)
      have c2 : (nI j).toNatClampNeg = j := nI_clamp (by omega)
      have v2 : vp_in (nI j) 24 := vp_in_nI (by omega) (by decide)
      have o := T.1 j (by omega)
      have i := ih (j + 1) (by omega) N (by omega)
      rw [ba_cns] at i
      rcases Classical.em (re_R (re_E m tl hd 60) 24 j) with k | k
      · have m1 : ¬ a_live j = 0 := by rw [o]; exact yb_t k
        rw [ba_t k] at i
        simp only [wY_reachableCount_8, n1, n2, c2, v2, m1, nI_1, forall_eq, true_and, and_true, not_true_eq_false, not_false_eq_true, false_implies, true_implies, implies_true, forall_const]
        exact i
      · have m1 : a_live j = 0 := by rw [o]; exact yb_f k
        rw [ba_f k, Nat.add_zero] at i
        simp only [wY_reachableCount_8, n1, n2, c2, v2, m1, nI_1, forall_eq, true_and, and_true, not_true_eq_false, not_false_eq_true, false_implies, true_implies, implies_true, forall_const]
        exact i
theorem ye_30 {post : Int32 → SY → Prop} {u : Nat} (hn : n ≤ 24) (hu : u < 24) (T : yt_T m tl hd a_live a_over) (K : post (nI (la_Z n (re_D (re_E m tl hd 60)) u)) ((nI n), (nI m), a_tail, a_head, a_seen, a_live, a_over)) :
    ∀ t j, j + t = n → ∀ N, t < N → wY_below_30 post (nI u) (nI n) (nI m) a_tail a_head a_seen a_live a_over N (nI (ba_cn (fun x => re_D (re_E m tl hd 60) u x) j)) (nI j) := by
  intro t
  induction t with
  | zero =>
    intro j hj N hN
    cases N with
    | zero => omega
    | succ N =>
      have e : j = n := by omega
      subst e
      exact br_t (nI_le (Nat.le_refl _) (by omega)) K
  | succ t ih =>
    intro j hj N hN
    cases N with
    | zero => omega
    | succ N =>
      have n1 : ¬ nI n ≤ nI j := nI_ge (by omega) (by omega)
      have n2 : ¬ (24 : Int32) ≤ nI j := nI_ge (b := 24) (by omega) (by decide)
      have c2 : (nI (24 * u + j)).toNatClampNeg = 24 * u + j := nI_clamp (by omega)
      have v2 : vp_in (nI (24 * u + j)) 576 := vp_in_nI (by omega) (by decide)
      have o := T.2 u j hu (by omega)
      have i := ih (j + 1) (by omega) N (by omega)
      rw [ba_cns] at i
      rcases Classical.em (re_D (re_E m tl hd 60) u j) with k | k
      · have m1 : ¬ a_over (24 * u + j) = 0 := by rw [o]; exact yb_t k
        rw [ba_t k] at i
        simp only [wY_below_30, n1, n2, y24, nI_add, c2, v2, m1, nI_1, forall_eq, true_and, and_true, not_true_eq_false, not_false_eq_true, false_implies, true_implies, implies_true, forall_const]
        exact i
      · have m1 : a_over (24 * u + j) = 0 := by rw [o]; exact yb_f k
        rw [ba_f k, Nat.add_zero] at i
        simp only [wY_below_30, n1, n2, y24, nI_add, c2, v2, m1, nI_1, forall_eq, true_and, and_true, not_true_eq_false, not_false_eq_true, false_implies, true_implies, implies_true, forall_const]
        exact i
theorem yk_30 {post : Int32 → SY → Prop} {u : Nat} (hn : n ≤ 24) (G : la_G n rc R d vt g (re_D (re_E m tl hd 60))) (hR : ∀ v, R v ↔ re_R (re_E m tl hd 60) 24 v) (hu : u < n) (T : yt_T m tl hd a_live a_over) (K : post (nI (ba_cn (fun x => 0 < x ∧ R x ∧ g x = u) n)) ((nI n), (nI m), a_tail, a_head, a_seen, a_live, a_over)) :
    ∀ t j, 0 < j → j + t = n → ∀ N, t < N → wY_children_30 post (nI u) (nI n) (nI m) a_tail a_head a_seen a_live a_over N (nI (ba_cn (fun x => 0 < x ∧ R x ∧ g x = u) j)) (nI j) := by
  intro t
  induction t with
  | zero =>
    intro j j0 hj N hN
    cases N with
    | zero => omega
    | succ N =>
      have e : j = n := by omega
      subst e
      exact br_t (nI_le (Nat.le_refl _) (by omega)) K
  | succ t ih =>
    intro j j0 hj N hN
    cases N with
    | zero => omega
    | succ N =>
      have n1 : ¬ nI n ≤ nI j := nI_ge (by omega) (by omega)
      have n2 : ¬ (24 : Int32) ≤ nI j := nI_ge (b := 24) (by omega) (by decide)
      have c2 : (nI j).toNatClampNeg = j := nI_clamp (by omega)
      have v2 : vp_in (nI j) 24 := vp_in_nI (by omega) (by decide)
      have o := T.1 j (by omega)
      have i := ih (j + 1) (by omega) (by omega) N (by omega)
      rw [ba_cns] at i
      rcases Classical.em (R j) with k | k
      · have m1 : ¬ a_live j = 0 := by rw [o]; exact yb_t ((hR j).mp k)
        simp only [wY_children_30, n1, n2, c2, v2, m1, nI_1, forall_eq, true_and, and_true, not_true_eq_false, not_false_eq_true, false_implies, true_implies, implies_true, forall_const]
        refine yv_ok hn G k (by omega) T ?_
        have gb := (G.2.1 _ (G.2.2.2.1 j k (by omega)).1).1
        refine pk_eq (g j) u (fun h => ?_) (fun h => ?_) rfl rfl (by omega) (by omega)
        · rw [ba_t ⟨j0, k, h⟩] at i
          exact i
        · rw [ba_f (fun q => h q.2.2), Nat.add_zero] at i
          exact i
      · have m1 : a_live j = 0 := by rw [o]; exact yb_f (fun q => k ((hR j).mpr q))
        rw [ba_f (fun q => k q.2.1), Nat.add_zero] at i
        simp only [wY_children_30, n1, n2, c2, v2, m1, nI_1, forall_eq, true_and, and_true, not_true_eq_false, not_false_eq_true, false_implies, true_implies, implies_true, forall_const]
        exact i
theorem yn_51 {post : Int32 → SY → Prop} {u v s : Nat} (hn : n ≤ 24) (hu : u < 24) (hv : v < 24) (G : la_G n rc R d vt g (re_D (re_E m tl hd 60))) (hs : R s)
    (hc : ∀ w, (re_D (re_E m tl hd 60) w u ∧ re_D (re_E m tl hd 60) w v) ↔ re_D (re_E m tl hd 60) w s) (T : yt_T m tl hd a_live a_over) (K : post (nI s) ((nI n), (nI m), a_tail, a_head, a_seen, a_live, a_over)) :
    ∀ t j, j + t = n → ∀ (best : Int32) (most : Nat), most ≤ n → ya_I (la_L n (re_D (re_E m tl hd 60))) s j best most → ∀ N, t < N → wY_nearest_51 post (nI u) (nI v) (nI n) (nI m) a_tail a_head a_seen a_live a_over N best (nI most) (nI j) := by
  intro t
  induction t with
  | zero =>
    intro j hj best most hmo H N hN
    cases N with
    | zero => omega
    | succ N =>
      refine br_t (nI_le (by omega) (by omega)) ?_
      rw [(H.1 (by have := (G.2.1 _ hs).1; omega)).1]
      exact K
  | succ t ih =>
    intro j hj best most hmo H N hN
    cases N with
    | zero => omega
    | succ N =>
      have n1 : ¬ nI n ≤ nI j := nI_ge (by omega) (by omega)
      have n2 : ¬ (24 : Int32) ≤ nI j := nI_ge (b := 24) (by omega) (by decide)
      have c2 : (nI (24 * j + u)).toNatClampNeg = 24 * j + u := nI_clamp (by omega)
      have v2 : vp_in (nI (24 * j + u)) 576 := vp_in_nI (by omega) (by decide)
      have c3 : (nI (24 * j + v)).toNatClampNeg = 24 * j + v := nI_clamp (by omega)
      have v3 : vp_in (nI (24 * j + v)) 576 := vp_in_nI (by omega) (by decide)
      have o := T.2 j u (by omega) hu
      have o2 := T.2 j v (by omega) hv
      have no : ¬ (re_D (re_E m tl hd 60) j u ∧ re_D (re_E m tl hd 60) j v) → j ≠ s := fun k q => k (by rw [q]; exact (hc s).mpr (la_r G hs))
      rcases Classical.em (re_D (re_E m tl hd 60) j u) with k | k
      · have m1 : ¬ a_over (24 * j + u) = 0 := by rw [o]; exact yb_t k
        rcases Classical.em (re_D (re_E m tl hd 60) j v) with k' | k'
        · have m2 : ¬ a_over (24 * j + v) = 0 := by rw [o2]; exact yb_t k'
          simp only [wY_nearest_51, n1, n2, y24, nI_add, c2, v2, m1, c3, v3, m2, nI_1, forall_eq, true_and, and_true, not_true_eq_false, not_false_eq_true, false_implies, true_implies, implies_true, forall_const]
          refine yd_ok hn (by omega) T ?_
          have kt := (hc j).mp ⟨k, k'⟩
          have lj := yd_le (n := n) (m := m) (tl := tl) (hd := hd) j
          refine pk_le _ most (fun h => ?_) (fun h => ?_) rfl rfl (by omega) (by omega)
          · exact ih (j + 1) (by omega) best most hmo (ya_le H h) N (by omega)
          · exact ih (j + 1) (by omega) _ _ lj (ya_gt H (fun q => br_mon G hs kt q) h) N (by omega)
        · have m2 : a_over (24 * j + v) = 0 := by rw [o2]; exact yb_f k'
          simp only [wY_nearest_51, n1, n2, y24, nI_add, c2, v2, m1, c3, v3, m2, nI_1, forall_eq, true_and, and_true, not_true_eq_false, not_false_eq_true, false_implies, true_implies, implies_true, forall_const]
          exact ih (j + 1) (by omega) best most hmo (ya_n H (no (fun q => k' q.2))) N (by omega)
      · have m1 : a_over (24 * j + u) = 0 := by rw [o]; exact yb_f k
        simp only [wY_nearest_51, n1, n2, y24, nI_add, c2, v2, m1, nI_1, forall_eq, true_and, and_true, not_true_eq_false, not_false_eq_true, false_implies, true_implies, implies_true, forall_const]
        exact ih (j + 1) (by omega) best most hmo (ya_n H (no (fun q => k q.1))) N (by omega)
theorem yo_66 {post : Int32 → SY → Prop} {u v : Nat} (Gr : gr_G n m tl hd a_tail a_head) (hu : u < n) (hv : v < n) (T : yt_T m tl hd a_live a_over)
    (K1 : (∃ e, e < m ∧ hd e = v ∧ re_D (re_E m tl hd 60) u (tl e)) → post 1 ((nI n), (nI m), a_tail, a_head, a_seen, a_live, a_over)) (K0 : (¬ ∃ e, e < m ∧ hd e = v ∧ re_D (re_E m tl hd 60) u (tl e)) → post 0 ((nI n), (nI m), a_tail, a_head, a_seen, a_live, a_over)) :
    ∀ t j, j + t = m → (∀ e, e < j → ¬ (hd e = v ∧ re_D (re_E m tl hd 60) u (tl e))) → ∀ N, t < N → wY_border_66 post (nI u) (nI v) (nI n) (nI m) a_tail a_head a_seen a_live a_over N (nI j) := by
  obtain ⟨g1, g2, g3, g4⟩ := Gr
  intro t
  induction t with
  | zero =>
    intro j hj H N hN
    cases N with
    | zero => omega
    | succ N =>
      exact br_t (nI_le (by omega) (by omega)) (K0 (fun ⟨e, a, b⟩ => H e (by omega) b))
  | succ t ih =>
    intro j hj H N hN
    cases N with
    | zero => omega
    | succ N =>
      obtain ⟨t1, t2, t3, t4⟩ := g4 j (by omega)
      have n1 : ¬ nI m ≤ nI j := nI_ge (by omega) (by omega)
      have n2 : ¬ (60 : Int32) ≤ nI j := nI_ge (b := 60) (by omega) (by decide)
      have c1 : (nI j).toNatClampNeg = j := nI_clamp (by omega)
      have v1 : vp_in (nI j) 60 := vp_in_nI (by omega) (by decide)
      have c2 : (nI (24 * u + tl j)).toNatClampNeg = 24 * u + tl j := nI_clamp (by omega)
      have v2 : vp_in (nI (24 * u + tl j)) 576 := vp_in_nI (by omega) (by decide)
      have o := T.2 u (tl j) (by omega) (by omega)
      have nxt : ¬ (hd j = v ∧ re_D (re_E m tl hd 60) u (tl j)) → wY_border_66 post (nI u) (nI v) (nI n) (nI m) a_tail a_head a_seen a_live a_over N (nI (j + 1)) := by
        intro k
        refine ih (j + 1) (by omega) (fun e he => ?_) N (by omega)
        rcases Nat.lt_or_ge e j with y | y
        · exact H e y
        · have : e = j := by omega
          subst this; exact k
      rcases Classical.em (hd j = v) with e | e
      · have m0 : nI (hd j) = nI v := by rw [e]
        rcases Classical.em (re_D (re_E m tl hd 60) u (tl j)) with k | k
        · have m1 : ¬ a_over (24 * u + tl j) = 0 := by rw [o]; exact yb_t k
          simp only [wY_border_66, n1, n2, c1, v1, t4, m0, t3, y24, nI_add, c2, v2, m1, nI_1, forall_eq, true_and, and_true, not_true_eq_false, not_false_eq_true, false_implies, true_implies, implies_true, forall_const]
          exact K1 ⟨j, by omega, e, k⟩
        · have m1 : a_over (24 * u + tl j) = 0 := by rw [o]; exact yb_f k
          simp only [wY_border_66, n1, n2, c1, v1, t4, m0, t3, y24, nI_add, c2, v2, m1, nI_1, forall_eq, true_and, and_true, not_true_eq_false, not_false_eq_true, false_implies, true_implies, implies_true, forall_const]
          exact nxt (fun q => k q.2)
      · have m0 : ¬ nI (hd j) = nI v := fun q => e ((nI_eq (by omega) (by omega)).mp q)
        simp only [wY_border_66, n1, n2, c1, v1, t4, m0, nI_1, forall_eq, true_and, and_true, not_true_eq_false, not_false_eq_true, false_implies, true_implies, implies_true, forall_const]
        exact nxt (fun q => e q.1)
theorem yz_33 {post : Int32 → SY → Prop} {J : Int32 → Int32 → Int32 → Int32 → (Nat → Int32) → (Nat → Int32) → (Nat → Int32) → (Nat → Int32) → (Nat → Int32) → Prop} {i : Nat} {x1 x2 : Int32} (hn : n ≤ 24) (T : yt_T m tl hd a_live a_over)
    (hs : ∀ w, w < 24 → a_seen w = nI (ba_b (re_R (re_E m tl hd i) 24 w)))
    (K1 : (∃ v, v < n ∧ re_R (re_E m tl hd 60) 24 v ∧ ¬ re_R (re_E m tl hd i) 24 v) → J (x1 + 1) (x2 + 1) (nI n) (nI m) a_tail a_head a_seen a_live a_over) (K0 : (¬ ∃ v, v < n ∧ re_R (re_E m tl hd 60) 24 v ∧ ¬ re_R (re_E m tl hd i) 24 v) → J x1 (x2 + 1) (nI n) (nI m) a_tail a_head a_seen a_live a_over) :
    ∀ t j, j + t = n → ∀ x3 : Int32, ((x3 = 1 ∧ ∃ v, v < j ∧ re_R (re_E m tl hd 60) 24 v ∧ ¬ re_R (re_E m tl hd i) 24 v) ∨ (x3 = 0 ∧ ¬ ∃ v, v < j ∧ re_R (re_E m tl hd 60) 24 v ∧ ¬ re_R (re_E m tl hd i) 24 v)) → ∀ N, t < N →
      wY_bridges_33 post J x1 x2 (nI n) (nI m) a_tail a_head a_seen a_live a_over N x3 (nI j) := by
  intro t
  induction t with
  | zero =>
    intro j hj x3 H N hN
    cases N with
    | zero => omega
    | succ N =>
      have e : j = n := by omega
      subst e
      refine br_t (nI_le (Nat.le_refl _) (by omega)) ?_
      rcases H with ⟨a, b⟩ | ⟨a, b⟩
      · subst a
        exact br_f (by decide) (nm_e (nm_e (K1 b)))
      · subst a
        exact br_t rfl (nm_e (K0 b))
  | succ t ih =>
    intro j hj x3 H N hN
    cases N with
    | zero => omega
    | succ N =>
      have n1 : ¬ nI n ≤ nI j := nI_ge (by omega) (by omega)
      have n2 : ¬ (24 : Int32) ≤ nI j := nI_ge (b := 24) (by omega) (by decide)
      have c2 : (nI j).toNatClampNeg = j := nI_clamp (by omega)
      have v2 : vp_in (nI j) 24 := vp_in_nI (by omega) (by decide)
      have o := T.1 j (by omega)
      have o2 := hs j (by omega)
      have stay : ¬ (re_R (re_E m tl hd 60) 24 j ∧ ¬ re_R (re_E m tl hd i) 24 j) → wY_bridges_33 post J x1 x2 (nI n) (nI m) a_tail a_head a_seen a_live a_over N x3 (nI (j + 1)) := by
        intro k
        refine ih (j + 1) (by omega) x3 ?_ N (by omega)
        rcases H with ⟨a, v, b, c⟩ | ⟨a, b⟩
        · exact Or.inl ⟨a, v, by omega, c⟩
        · refine Or.inr ⟨a, fun ⟨v, x, y⟩ => ?_⟩
          rcases Nat.lt_or_ge v j with z | z
          · exact b ⟨v, z, y⟩
          · have : v = j := by omega
            subst this; exact k y
      rcases Classical.em (re_R (re_E m tl hd 60) 24 j) with k | k
      · have m1 : ¬ a_live j = 0 := by rw [o]; exact yb_t k
        rcases Classical.em (re_R (re_E m tl hd i) 24 j) with k' | k'
        · have m2 : ¬ a_seen j = 0 := by rw [o2]; exact yb_t k'
          simp only [wY_bridges_33, n1, n2, c2, v2, m1, m2, nI_1, forall_eq, true_and, and_true, not_true_eq_false, not_false_eq_true, false_implies, true_implies, implies_true, forall_const]
          exact stay (fun q => q.2 k')
        · have m2 : a_seen j = 0 := by rw [o2]; exact yb_f k'
          simp only [wY_bridges_33, n1, n2, c2, v2, m1, m2, nI_1, forall_eq, true_and, and_true, not_true_eq_false, not_false_eq_true, false_implies, true_implies, implies_true, forall_const]
          exact ih (j + 1) (by omega) 1 (Or.inl ⟨rfl, j, by omega, k, k'⟩) N (by omega)
      · have m1 : a_live j = 0 := by rw [o]; exact yb_f k
        simp only [wY_bridges_33, n1, n2, c2, v2, m1, nI_1, forall_eq, true_and, and_true, not_true_eq_false, not_false_eq_true, false_implies, true_implies, implies_true, forall_const]
        exact stay (fun q => k q.1)
theorem yz_8 {post : Int32 → SY → Prop} {B : Nat → Prop} (Gr : gr_G n m tl hd a_tail a_head) (T : yt_T m tl hd a_live a_over)
    (hB : ∀ i, i < m → ((∃ v, v < n ∧ re_R (re_E m tl hd 60) 24 v ∧ ¬ re_R (re_E m tl hd i) 24 v) ↔ B i)) (K : ∀ seen : Nat → Int32, post (nI (ba_cn B m)) ((nI n), (nI m), a_tail, a_head, seen, a_live, a_over)) :
    ∀ t j, j + t = m → ∀ seen : Nat → Int32, ∀ N, t < N → wY_bridges_8 post N (nI (ba_cn B j)) (nI j) (nI n) (nI m) a_tail a_head seen a_live a_over := by
  have Gr' := Gr
  obtain ⟨g1, g2, g3, g4⟩ := Gr'
  intro t
  induction t with
  | zero =>
    intro j hj seen N hN
    cases N with
    | zero => omega
    | succ N =>
      have e : j = m := by omega
      subst e
      exact br_t (nI_le (Nat.le_refl _) (by omega)) (K seen)
  | succ t ih =>
    intro j hj seen N hN
    cases N with
    | zero => omega
    | succ N =>
      have n1 : ¬ nI m ≤ nI j := nI_ge (by omega) (by omega)
      have n2 : ¬ (60 : Int32) ≤ nI j := nI_ge (b := 60) (by omega) (by decide)
      refine br_f n1 (br_f n2 ?_)
      refine yr_ok Gr yr_n24 (yr_i (i := j) (by omega)) (fun seen' hs => ?_)
      dsimp only
      refine ⟨n + 1, ?_⟩
      have i := ih (j + 1) (by omega) seen' N (by omega)
      rw [ba_cns] at i
      refine yz_33 g2 T hs (fun h => ?_) (fun h => ?_) n 0 (by omega) 0 (Or.inr ⟨rfl, fun ⟨v, a, _⟩ => by omega⟩) (n + 1) (by omega)
      · rw [nI_1, nI_1]
        rw [ba_t ((hB j (by omega)).mp h)] at i
        exact i
      · rw [nI_1]
        rw [ba_f (fun q => h ((hB j (by omega)).mpr q)), Nat.add_zero] at i
        exact i
theorem yh_8 {post : Int32 → SY → Prop} (hn : n ≤ 24) (hR : ∀ v, R v ↔ re_R (re_E m tl hd 60) 24 v) (T : yt_T m tl hd a_live a_over) (K : post (nI (yh_m R (la_L n (re_D (re_E m tl hd 60))) n)) ((nI n), (nI m), a_tail, a_head, a_seen, a_live, a_over)) :
    ∀ t j, j + t = n → ∀ N, t < N → wY_height_8 post (nI n) (nI m) a_tail a_head a_seen a_live a_over N (nI (yh_m R (la_L n (re_D (re_E m tl hd 60))) j)) (nI j) := by
  have B := fun j => yh_le (R := R) (L := la_L n (re_D (re_E m tl hd 60))) (B := n) (fun k => yd_le k) j
  intro t
  induction t with
  | zero =>
    intro j hj N hN
    cases N with
    | zero => omega
    | succ N =>
      have e : j = n := by omega
      subst e
      exact br_t (nI_le (Nat.le_refl _) (by omega)) K
  | succ t ih =>
    intro j hj N hN
    cases N with
    | zero => omega
    | succ N =>
      have n1 : ¬ nI n ≤ nI j := nI_ge (by omega) (by omega)
      have n2 : ¬ (24 : Int32) ≤ nI j := nI_ge (b := 24) (by omega) (by decide)
      have c2 : (nI j).toNatClampNeg = j := nI_clamp (by omega)
      have v2 : vp_in (nI j) 24 := vp_in_nI (by omega) (by decide)
      have o := T.1 j (by omega)
      have i := ih (j + 1) (by omega) N (by omega)
      have lj := yd_le (n := n) (m := m) (tl := tl) (hd := hd) j
      have bj := B j
      refine br_f n1 (br_f n2 (yd_ok hn (by omega) T ?_))
      rcases Classical.em (R j) with k | k
      · have m1 : ¬ a_live j = 0 := by rw [o]; exact yb_t ((hR j).mp k)
        simp only [c2, v2, m1, nI_1, forall_eq, true_and, and_true, not_true_eq_false, not_false_eq_true, false_implies, true_implies, implies_true, forall_const]
        refine pk_le _ _ (fun h => ?_) (fun h => ?_) rfl rfl (by omega) (by omega)
        · rw [yh_f (fun q => by omega)] at i
          exact i
        · rw [yh_t ⟨k, h⟩] at i
          exact i
      · have m1 : a_live j = 0 := by rw [o]; exact yb_f (fun q => k ((hR j).mpr q))
        rw [yh_f (fun q => k q.1)] at i
        simp only [c2, v2, m1, nI_1, forall_eq, true_and, and_true, not_true_eq_false, not_false_eq_true, false_implies, true_implies, implies_true, forall_const]
        exact i
end
end
section
/-! the component's questions, after refresh -/
section

variable {n m rc : Nat} {tl hd : Nat → Nat} {R : Nat → Prop} {d vt g en : Nat → Nat} {f_reached f_current f_queued f_farthest : Int32} {a_tail a_head a_outFirst a_outNext a_inFirst a_inNext a_cursor a_stack a_number a_atNumber a_parent a_semi a_label a_ancestor a_bucketFirst a_bucketNext a_idom a_level a_size a_enter a_pathIndex a_from a_queue a_visited : Nat → Int32}
theorem iv_ok {post : Int32 → Prop} {v : Nat} (hn : n ≤ 24) (hv : v < n) (K : post 1) : wpX_isVertex post ((nI n), (nI m), f_reached, f_current, f_queued, f_farthest, a_tail, a_head, a_outFirst, a_outNext, a_inFirst, a_inNext, a_cursor, a_stack, a_number, a_atNumber, a_parent, a_semi, a_label, a_ancestor, a_bucketFirst, a_bucketNext, a_idom, a_level, a_size, a_enter, a_pathIndex, a_from, a_queue, a_visited) (nI v) := by
  have n1 : ¬ nI v < 0 := nI_pos (by omega)
  have n2 : ¬ nI n ≤ nI v := nI_ge hv (by omega)
  exact br_f n1 (br_f n2 K)
theorem iv_bad {post : Int32 → Prop} {x : Int32} (h : x < 0 ∨ nI n ≤ x) (K : post 0) : wpX_isVertex post ((nI n), (nI m), f_reached, f_current, f_queued, f_farthest, a_tail, a_head, a_outFirst, a_outNext, a_inFirst, a_inNext, a_cursor, a_stack, a_number, a_atNumber, a_parent, a_semi, a_label, a_ancestor, a_bucketFirst, a_bucketNext, a_idom, a_level, a_size, a_enter, a_pathIndex, a_from, a_queue, a_visited) x :=
  br_c (fun _ => K) (fun c => br_t (h.elim (fun q => absurd q c) id) K)
theorem ov_ok {post : Int32 → Prop} {u v : Nat} (hn : n ≤ 24) (H : gd_X n m tl hd rc R d vt g en f_reached a_outFirst a_outNext a_inFirst a_inNext a_number a_idom a_level a_size a_enter) (hu : u < n) (hv : R v)
    (K1 : re_D (re_E m tl hd 60) u v → post 1) (K0 : ¬ re_D (re_E m tl hd 60) u v → post 0) : wpX_over post ((nI n), (nI m), f_reached, f_current, f_queued, f_farthest, a_tail, a_head, a_outFirst, a_outNext, a_inFirst, a_inNext, a_cursor, a_stack, a_number, a_atNumber, a_parent, a_semi, a_label, a_ancestor, a_bucketFirst, a_bucketNext, a_idom, a_level, a_size, a_enter, a_pathIndex, a_from, a_queue, a_visited) (nI u) (nI v) := by
  obtain ⟨H1, H2, G, L, hR, C1, C2, N1, N2, I1, V1, Z1, E1⟩ := H
  have hvn := (G.2.1 v hv).1
  have cu : (nI u).toNatClampNeg = u := nI_clamp (by omega)
  have vu : vp_in (nI u) 24 := vp_in_nI (by omega) (by decide)
  have cv : (nI v).toNatClampNeg = v := nI_clamp (by omega)
  have vv : vp_in (nI v) 24 := vp_in_nI (by omega) (by decide)
  rcases Classical.em (R u) with k | k
  · have n1 : ¬ a_number u < 0 := by
      rw [N1 u k]; exact nI_pos (by have := (G.2.1 u k).2.1; omega)
    have b1 := la_max G L k
    have b2 := la_max G L hv
    have o := la_over G L u k v hv
    have e1 := E1 u k
    have e2 := E1 v hv
    have z1 := Z1 u k
    simp only [wpX_over, cu, vu, cv, vv, n1, e1, e2, z1, nI_add, forall_eq, true_and, and_true, not_true_eq_false, not_false_eq_true, false_implies, true_implies, implies_true, forall_const]
    refine pk_lt (en v) (en u) (fun h => K0 (fun q => by have := o.mpr q; omega)) (fun h => ?_) rfl rfl (by omega) (by omega)
    refine pk_le (en u + la_Z n (re_D (re_E m tl hd 60)) u) (en v) (fun h2 => K0 (fun q => by have := o.mpr q; omega)) (fun h2 => K1 (o.mp ⟨h, h2⟩)) rfl rfl (by omega) (by omega)
  · have n1 : a_number u < 0 := by rw [N2 u hu k]; exact wk_m1
    simp only [wpX_over, cu, vu, n1, forall_eq, true_and, and_true, not_true_eq_false, not_false_eq_true, false_implies, true_implies, implies_true, forall_const]
    exact K0 (fun q => k (la_le G v hv q).2)
theorem ne_48 {post : Int32 → SX → Prop} {u v : Nat} (hn : n ≤ 24) (H : gd_X n m tl hd rc R d vt g en f_reached a_outFirst a_outNext a_inFirst a_inNext a_number a_idom a_level a_size a_enter) (hu : R u) (hv : R v)
    (K : ∀ s, R s → (∀ w, (re_D (re_E m tl hd 60) w u ∧ re_D (re_E m tl hd 60) w v) ↔ re_D (re_E m tl hd 60) w s) → post (nI s) ((nI n), (nI m), f_reached, f_current, f_queued, f_farthest, a_tail, a_head, a_outFirst, a_outNext, a_inFirst, a_inNext, a_cursor, a_stack, a_number, a_atNumber, a_parent, a_semi, a_label, a_ancestor, a_bucketFirst, a_bucketNext, a_idom, a_level, a_size, a_enter, a_pathIndex, a_from, a_queue, a_visited)) :
    ∀ t k, k + t = n → ∀ w, R w → re_D (re_E m tl hd 60) w u → (∀ x, re_D (re_E m tl hd 60) x u → re_D (re_E m tl hd 60) x v → re_D (re_E m tl hd 60) x w) → k + d w ≤ d u → ∀ N, t < N →
      wX_nearest_48 post (nI v) (nI n) (nI m) f_reached f_current f_queued f_farthest a_tail a_head a_outFirst a_outNext a_inFirst a_inNext a_cursor a_stack a_number a_atNumber a_parent a_semi a_label a_ancestor a_bucketFirst a_bucketNext a_idom a_level a_size a_enter a_pathIndex a_from a_queue a_visited N (nI w) (nI k) := by
  have H' := H
  obtain ⟨H1, H2, G, L, hR, C1, C2, N1, N2, I1, V1, Z1, E1⟩ := H'
  have hun := G.2.1 u hu
  intro t
  induction t with
  | zero => intro k hk w hw h1 h2 h3; omega
  | succ t ih =>
    intro k hk w hw h1 h2 h3 N hN
    cases N with
    | zero => omega
    | succ N =>
      have hwn := (G.2.1 w hw).1
      have n1 : ¬ nI n ≤ nI k := nI_ge (by omega) (by omega)
      refine br_f n1 ?_
      refine ov_ok hn H hwn hv (fun q => ?_) (fun q => ?_)
      · exact br_f (by decide) (K w hw (fun x => ⟨fun y => h2 x y.1 y.2, fun y => ⟨re_Dt y h1, re_Dt y q⟩⟩))
      · have w0 : w ≠ 0 := fun e => q (by rw [e]; exact la_0 G v hv)
        obtain ⟨p1, p2, p3⟩ := G.2.2.2.1 w hw w0
        have cw : (nI w).toNatClampNeg = w := nI_clamp (by omega)
        have vw : vp_in (nI w) 24 := vp_in_nI (by omega) (by decide)
        have i1 := I1 w hw w0
        simp only [cw, vw, i1, nI_1, eq_self, forall_eq, true_and, and_true, not_true_eq_false, not_false_eq_true, false_implies, true_implies, implies_true, forall_const]
        refine ih (k + 1) (by omega) (g w) p1 (re_Dt ((p3 _).mpr (Or.inr (la_r G p1))) h1) (fun x a b => ?_) (by omega) N (by omega)
        exact ((p3 x).mp (h2 x a b)).elim (fun e => absurd (e ▸ b) q) id
theorem cd_30 {post : Int32 → SX → Prop} {u : Nat} (hn : n ≤ 24) (H : gd_X n m tl hd rc R d vt g en f_reached a_outFirst a_outNext a_inFirst a_inNext a_number a_idom a_level a_size a_enter) (hu : u < n)
    (K : post (nI (ba_cn (fun x => 0 < x ∧ R x ∧ g x = u) n)) ((nI n), (nI m), f_reached, f_current, f_queued, f_farthest, a_tail, a_head, a_outFirst, a_outNext, a_inFirst, a_inNext, a_cursor, a_stack, a_number, a_atNumber, a_parent, a_semi, a_label, a_ancestor, a_bucketFirst, a_bucketNext, a_idom, a_level, a_size, a_enter, a_pathIndex, a_from, a_queue, a_visited)) :
    ∀ t j, 0 < j → j + t = n → ∀ N, t < N → wX_children_30 post (nI u) (nI n) (nI m) f_reached f_current f_queued f_farthest a_tail a_head a_outFirst a_outNext a_inFirst a_inNext a_cursor a_stack a_number a_atNumber a_parent a_semi a_label a_ancestor a_bucketFirst a_bucketNext a_idom a_level a_size a_enter a_pathIndex a_from a_queue a_visited N (nI (ba_cn (fun x => 0 < x ∧ R x ∧ g x = u) j)) (nI j) := by
  have H' := H
  obtain ⟨H1, H2, G, L, hR, C1, C2, N1, N2, I1, V1, Z1, E1⟩ := H'
  intro t
  induction t with
  | zero =>
    intro j j0 hj N hN
    cases N with
    | zero => omega
    | succ N =>
      have e : j = n := by omega
      subst e
      exact br_t (nI_le (Nat.le_refl _) (by omega)) K
  | succ t ih =>
    intro j j0 hj N hN
    cases N with
    | zero => omega
    | succ N =>
      have n1 : ¬ nI n ≤ nI j := nI_ge (by omega) (by omega)
      have c2 : (nI j).toNatClampNeg = j := nI_clamp (by omega)
      have v2 : vp_in (nI j) 24 := vp_in_nI (by omega) (by decide)
      have i := ih (j + 1) (by omega) (by omega) N (by omega)
      rw [ba_cns] at i
      rcases Classical.em (R j) with k | k
      · have n2 : ¬ a_number j ≤ 0 := by
          rw [N1 j k]
          exact nI_nle (la_pos G k (by omega)) (by have := (G.2.1 j k).2.1; omega)
        have i1 := I1 j k (by omega)
        have gb := (G.2.1 _ (G.2.2.2.1 j k (by omega)).1).1
        simp only [wX_children_30, n1, c2, v2, n2, i1, nI_1, forall_eq, true_and, and_true, not_true_eq_false, not_false_eq_true, false_implies, true_implies, implies_true, forall_const]
        refine pk_eq (g j) u (fun h => ?_) (fun h => ?_) rfl rfl (by omega) (by omega)
        · rw [ba_t ⟨j0, k, h⟩] at i
          exact i
        · rw [ba_f (fun q => h q.2.2), Nat.add_zero] at i
          exact i
      · have n2 : a_number j ≤ 0 := by rw [N2 j (by omega) k]; exact wk_m1''
        rw [ba_f (fun q => k q.2.1), Nat.add_zero] at i
        simp only [wX_children_30, n1, c2, v2, n2, nI_1, forall_eq, true_and, and_true, not_true_eq_false, not_false_eq_true, false_implies, true_implies, implies_true, forall_const]
        exact i
theorem bo_69 {post : Int32 → SX → Prop} {u v : Nat} (Gr : gr_G n m tl hd a_tail a_head) (H : gd_X n m tl hd rc R d vt g en f_reached a_outFirst a_outNext a_inFirst a_inNext a_number a_idom a_level a_size a_enter) (hu : u < n)
    (K1 : (∃ e, e < m ∧ hd e = v ∧ re_D (re_E m tl hd 60) u (tl e)) → post 1 ((nI n), (nI m), f_reached, f_current, f_queued, f_farthest, a_tail, a_head, a_outFirst, a_outNext, a_inFirst, a_inNext, a_cursor, a_stack, a_number, a_atNumber, a_parent, a_semi, a_label, a_ancestor, a_bucketFirst, a_bucketNext, a_idom, a_level, a_size, a_enter, a_pathIndex, a_from, a_queue, a_visited)) (K0 : (¬ ∃ e, e < m ∧ hd e = v ∧ re_D (re_E m tl hd 60) u (tl e)) → post 0 ((nI n), (nI m), f_reached, f_current, f_queued, f_farthest, a_tail, a_head, a_outFirst, a_outNext, a_inFirst, a_inNext, a_cursor, a_stack, a_number, a_atNumber, a_parent, a_semi, a_label, a_ancestor, a_bucketFirst, a_bucketNext, a_idom, a_level, a_size, a_enter, a_pathIndex, a_from, a_queue, a_visited)) :
    ∀ t k, k + t = 60 → ∀ (c : Nat) (x : Int32), k ≤ c → pt_P (fun e => hd e = v) id c m x → (∀ e, e < c → e < m → ¬ (hd e = v ∧ re_D (re_E m tl hd 60) u (tl e))) → ∀ N, t < N →
      wX_border_69 post (nI u) (nI n) (nI m) f_reached f_current f_queued f_farthest a_tail a_head a_outFirst a_outNext a_inFirst a_inNext a_cursor a_stack a_number a_atNumber a_parent a_semi a_label a_ancestor a_bucketFirst a_bucketNext a_idom a_level a_size a_enter a_pathIndex a_from a_queue a_visited N x (nI k) := by
  have Gr' := Gr
  obtain ⟨g1, g2, g3, g4⟩ := Gr'
  have H' := H
  obtain ⟨H1, H2, G, L, hR, C1, C2, N1, N2, I1, V1, Z1, E1⟩ := H'
  intro t
  induction t with
  | zero =>
    intro k hk c x hc hx h N hN
    cases N with
    | zero => omega
    | succ N => exact br_t (nI_le (a := 60) (by omega) (by omega)) (K0 (fun ⟨e, a, b⟩ => h e (by omega) a b))
  | succ t ih =>
    intro k hk c x hc hx h N hN
    cases N with
    | zero => omega
    | succ N =>
      have n1 : ¬ (60 : Int32) ≤ nI k := nI_ge (b := 60) (by omega) (by decide)
      rcases hx with ⟨e1, e2⟩ | ⟨e, e1, e2, e3, e4, e5⟩
      · refine br_f n1 (br_t e1 (K0 (fun ⟨e, a, b⟩ => ?_)))
        rcases Nat.lt_or_ge e c with y | y
        · exact h e y a b
        · exact e2 e y a b.1
      · have e4' : x = nI e := e4
        subst e4'
        have e3' : hd e = v := e3
        obtain ⟨t1, t2, t3, t4⟩ := g4 e e2
        have n2 : ¬ nI e = -1 := pt_nm1 (by omega)
        have c1 : (nI e).toNatClampNeg = e := nI_clamp (by omega)
        have v1 : vp_in (nI e) 60 := vp_in_nI (by omega) (by decide)
        have c2 : (nI (tl e)).toNatClampNeg = tl e := nI_clamp (by omega)
        have v2 : vp_in (nI (tl e)) 24 := vp_in_nI (by omega) (by decide)
        have nx : pt_P (fun e => hd e = v) id (e + 1) m (a_inNext e) := by
          have := C2.2 e (by omega) e2
          rw [e3'] at this
          exact this
        have go : ¬ re_D (re_E m tl hd 60) u (tl e) → wX_border_69 post (nI u) (nI n) (nI m) f_reached f_current f_queued f_farthest a_tail a_head a_outFirst a_outNext a_inFirst a_inNext a_cursor a_stack a_number a_atNumber a_parent a_semi a_label a_ancestor a_bucketFirst a_bucketNext a_idom a_level a_size a_enter a_pathIndex a_from a_queue a_visited N (a_inNext e) (nI (k + 1)) := by
          intro q
          refine ih (k + 1) (by omega) (e + 1) _ (by omega) nx (fun e' a b => ?_) N (by omega)
          rcases Nat.lt_or_ge e' c with y | y
          · exact h e' y b
          · rcases Nat.lt_or_ge e' e with z | z
            · exact fun w => e5 e' y z w.1
            · have : e' = e := by omega
              subst this; exact fun w => q w.2
        rcases Classical.em (R (tl e)) with hv | hv
        · have n3 : ¬ a_number (tl e) < 0 := by
            rw [N1 _ hv]; exact nI_pos (by have := (G.2.1 _ hv).2.1; omega)
          simp only [wX_border_69, n1, n2, c1, v1, t3, c2, v2, n3, nI_1, forall_eq, true_and, and_true, not_true_eq_false, not_false_eq_true, false_implies, true_implies, implies_true, forall_const]
          refine ov_ok g2 H hu hv (fun q => ?_) (fun q => ?_)
          · exact br_f (by decide) (K1 ⟨e, e2, e3', q⟩)
          · exact br_t rfl (go q)
        · have n3 : a_number (tl e) < 0 := by rw [N2 _ t1 hv]; exact wk_m1
          simp only [wX_border_69, n1, n2, c1, v1, t3, c2, v2, n3, nI_1, forall_eq, true_and, and_true, not_true_eq_false, not_false_eq_true, false_implies, true_implies, implies_true, forall_const]
          exact go (fun q => hv (G.2.2.2.2.2 _ _ q))
theorem ib_47 {post : Int32 → Prop} {i : Nat} (Gr : gr_G n m tl hd a_tail a_head) (H : gd_X n m tl hd rc R d vt g en f_reached a_outFirst a_outNext a_inFirst a_inNext a_number a_idom a_level a_size a_enter) (hi : i < m)
    (b0 : hd i ≠ 0) (hb : R (hd i)) (hg : g (hd i) = tl i) (K1 : br_B m tl hd R g i → post 1) (K0 : ¬ br_B m tl hd R g i → post 0) :
    ∀ t k, k + t = 60 → ∀ (c : Nat) (x : Int32), k ≤ c → pt_P (fun e => hd e = hd i) id c m x → (∀ e, e < c → e < m → hd e = hd i → e ≠ i → R (tl e) → re_D (re_E m tl hd 60) (hd i) (tl e)) → ∀ N, t < N →
      wX_isBridge_47 post (nI i) (nI (hd i)) (nI n) (nI m) f_reached f_current f_queued f_farthest a_tail a_head a_outFirst a_outNext a_inFirst a_inNext a_cursor a_stack a_number a_atNumber a_parent a_semi a_label a_ancestor a_bucketFirst a_bucketNext a_idom a_level a_size a_enter a_pathIndex a_from a_queue a_visited N x (nI k) := by
  have Gr' := Gr
  obtain ⟨g1, g2, g3, g4⟩ := Gr'
  have H' := H
  obtain ⟨H1, H2, G, L, hR, C1, C2, N1, N2, I1, V1, Z1, E1⟩ := H'
  have hbn := (G.2.1 _ hb).1
  intro t
  induction t with
  | zero =>
    intro k hk c x hc hx h N hN
    cases N with
    | zero => omega
    | succ N => exact br_t (nI_le (a := 60) (by omega) (by omega)) (K1 ⟨b0, hb, hg, fun e a => h e (by omega) a⟩)
  | succ t ih =>
    intro k hk c x hc hx h N hN
    cases N with
    | zero => omega
    | succ N =>
      have n1 : ¬ (60 : Int32) ≤ nI k := nI_ge (b := 60) (by omega) (by decide)
      rcases hx with ⟨e1, e2⟩ | ⟨e, e1, e2, e3, e4, e5⟩
      · refine br_f n1 (br_t e1 (K1 ⟨b0, hb, hg, fun e a q => ?_⟩))
        rcases Nat.lt_or_ge e c with y | y
        · exact h e y a q
        · exact absurd q (e2 e y a)
      · have e4' : x = nI e := e4
        subst e4'
        have e3' : hd e = hd i := e3
        obtain ⟨t1, t2, t3, t4⟩ := g4 e e2
        have n2 : ¬ nI e = -1 := pt_nm1 (by omega)
        have c1 : (nI e).toNatClampNeg = e := nI_clamp (by omega)
        have v1 : vp_in (nI e) 60 := vp_in_nI (by omega) (by decide)
        have c2 : (nI (tl e)).toNatClampNeg = tl e := nI_clamp (by omega)
        have v2 : vp_in (nI (tl e)) 24 := vp_in_nI (by omega) (by decide)
        have nx : pt_P (fun e => hd e = hd i) id (e + 1) m (a_inNext e) := by
          have := C2.2 e (by omega) e2
          rw [e3'] at this
          exact this
        have go : (e ≠ i → R (tl e) → re_D (re_E m tl hd 60) (hd i) (tl e)) → wX_isBridge_47 post (nI i) (nI (hd i)) (nI n) (nI m) f_reached f_current f_queued f_farthest a_tail a_head a_outFirst a_outNext a_inFirst a_inNext a_cursor a_stack a_number a_atNumber a_parent a_semi a_label a_ancestor a_bucketFirst a_bucketNext a_idom a_level a_size a_enter a_pathIndex a_from a_queue a_visited N (a_inNext e) (nI (k + 1)) := by
          intro q
          refine ih (k + 1) (by omega) (e + 1) _ (by omega) nx (fun e' a b => ?_) N (by omega)
          rcases Nat.lt_or_ge e' c with y | y
          · exact h e' y b
          · rcases Nat.lt_or_ge e' e with z | z
            · exact fun w => absurd w (e5 e' y z)
            · have : e' = e := by omega
              subst this; exact fun _ => q
        rcases Classical.em (e = i) with y | y
        · have m1 : nI e = nI i := by rw [y]
          refine br_f n1 (br_f n2 (br_t m1 ⟨v1, nm_r (congrArg a_inNext c1) (nm_r (nI_1 k) (go (fun q => absurd y q)))⟩))
        · have m1 : ¬ nI e = nI i := fun q => y ((nI_eq (by omega) (by omega)).mp q)
          rcases Classical.em (R (tl e)) with hv | hv
          · have n3 : ¬ a_number (tl e) < 0 := by
              rw [N1 _ hv]; exact nI_pos (by have := (G.2.1 _ hv).2.1; omega)
            simp only [wX_isBridge_47, n1, n2, m1, c1, v1, t3, c2, v2, n3, nI_1, forall_eq, true_and, and_true, not_true_eq_false, not_false_eq_true, false_implies, true_implies, implies_true, forall_const]
            refine ov_ok g2 H hbn hv (fun q => ?_) (fun q => ?_)
            · exact br_f (by decide) (go (fun _ _ => q))
            · exact br_t rfl (K0 (fun w => q (w.2.2.2 e e2 e3' y hv)))
          · have n3 : a_number (tl e) < 0 := by rw [N2 _ t1 hv]; exact wk_m1
            simp only [wX_isBridge_47, n1, n2, m1, c1, v1, t3, c2, v2, n3, nI_1, forall_eq, true_and, and_true, not_true_eq_false, not_false_eq_true, false_implies, true_implies, implies_true, forall_const]
            exact go (fun _ q => absurd q hv)
theorem ib_ok {post : Int32 → Prop} {i : Nat} (Gr : gr_G n m tl hd a_tail a_head) (H : gd_X n m tl hd rc R d vt g en f_reached a_outFirst a_outNext a_inFirst a_inNext a_number a_idom a_level a_size a_enter) (hi : i < m)
    (K1 : br_B m tl hd R g i → post 1) (K0 : ¬ br_B m tl hd R g i → post 0) : wpX_isBridge post ((nI n), (nI m), f_reached, f_current, f_queued, f_farthest, a_tail, a_head, a_outFirst, a_outNext, a_inFirst, a_inNext, a_cursor, a_stack, a_number, a_atNumber, a_parent, a_semi, a_label, a_ancestor, a_bucketFirst, a_bucketNext, a_idom, a_level, a_size, a_enter, a_pathIndex, a_from, a_queue, a_visited) (nI i) := by
  have Gr' := Gr
  obtain ⟨g1, g2, g3, g4⟩ := Gr'
  have H' := H
  obtain ⟨H1, H2, G, L, hR, C1, C2, N1, N2, I1, V1, Z1, E1⟩ := H'
  obtain ⟨t1, t2, t3, t4⟩ := g4 i hi
  have c1 : (nI i).toNatClampNeg = i := nI_clamp (by omega)
  have v1 : vp_in (nI i) 60 := vp_in_nI (by omega) (by decide)
  have c2 : (nI (hd i)).toNatClampNeg = hd i := nI_clamp (by omega)
  have v2 : vp_in (nI (hd i)) 24 := vp_in_nI (by omega) (by decide)
  rcases Classical.em (hd i = 0) with z | z
  · have m0 : nI (hd i) = 0 := by rw [z]; rfl
    simp only [wpX_isBridge, c1, v1, t4, m0, forall_eq, true_and, and_true, not_true_eq_false, not_false_eq_true, false_implies, true_implies, implies_true, forall_const]
    exact K0 (fun q => q.1 z)
  · have m0 : ¬ nI (hd i) = 0 := nI_ne0 (by omega) (by omega)
    rcases Classical.em (R (hd i)) with hb | hb
    · have n3 : ¬ a_number (hd i) < 0 := by
        rw [N1 _ hb]; exact nI_pos (by have := (G.2.1 _ hb).2.1; omega)
      have i1 := I1 _ hb z
      have gb := (G.2.1 _ (G.2.2.2.1 _ hb z).1).1
      rcases Classical.em (g (hd i) = tl i) with hg | hg
      · have m1 : nI (g (hd i)) = nI (tl i) := by rw [hg]
        simp only [wpX_isBridge, c1, v1, t4, m0, c2, v2, n3, i1, t3, m1, forall_eq, true_and, and_true, not_true_eq_false, not_false_eq_true, false_implies, true_implies, implies_true, forall_const]
        exact ⟨61, ib_47 Gr H hi z hb hg K1 K0 60 0 (by omega) 0 _ (by omega) (C2.1 _ t2) (fun e he => by omega) 61 (by omega)⟩
      · have m1 : ¬ nI (g (hd i)) = nI (tl i) := fun q => hg ((nI_eq (by omega) (by omega)).mp q)
        simp only [wpX_isBridge, c1, v1, t4, m0, c2, v2, n3, i1, t3, m1, forall_eq, true_and, and_true, not_true_eq_false, not_false_eq_true, false_implies, true_implies, implies_true, forall_const]
        exact K0 (fun q => hg q.2.2.1)
    · have n3 : a_number (hd i) < 0 := by rw [N2 _ t2 hb]; exact wk_m1
      simp only [wpX_isBridge, c1, v1, t4, m0, c2, v2, n3, forall_eq, true_and, and_true, not_true_eq_false, not_false_eq_true, false_implies, true_implies, implies_true, forall_const]
      exact K0 (fun q => hb q.2.1)
theorem bs_8 {post : Int32 → SX → Prop} (Gr : gr_G n m tl hd a_tail a_head) (H : gd_X n m tl hd rc R d vt g en f_reached a_outFirst a_outNext a_inFirst a_inNext a_number a_idom a_level a_size a_enter)
    (K : post (nI (ba_cn (br_B m tl hd R g) m)) ((nI n), (nI m), f_reached, f_current, f_queued, f_farthest, a_tail, a_head, a_outFirst, a_outNext, a_inFirst, a_inNext, a_cursor, a_stack, a_number, a_atNumber, a_parent, a_semi, a_label, a_ancestor, a_bucketFirst, a_bucketNext, a_idom, a_level, a_size, a_enter, a_pathIndex, a_from, a_queue, a_visited)) :
    ∀ t j, j + t = m → ∀ N, t < N → wX_bridges_8 post (nI n) (nI m) f_reached f_current f_queued f_farthest a_tail a_head a_outFirst a_outNext a_inFirst a_inNext a_cursor a_stack a_number a_atNumber a_parent a_semi a_label a_ancestor a_bucketFirst a_bucketNext a_idom a_level a_size a_enter a_pathIndex a_from a_queue a_visited N (nI (ba_cn (br_B m tl hd R g) j)) (nI j) := by
  have g3 := Gr.2.2.1
  intro t
  induction t with
  | zero =>
    intro j hj N hN
    cases N with
    | zero => omega
    | succ N =>
      have e : j = m := by omega
      subst e
      exact br_t (nI_le (Nat.le_refl _) (by omega)) K
  | succ t ih =>
    intro j hj N hN
    cases N with
    | zero => omega
    | succ N =>
      have n1 : ¬ nI m ≤ nI j := nI_ge (by omega) (by omega)
      have i := ih (j + 1) (by omega) N (by omega)
      rw [ba_cns] at i
      refine br_f n1 (ib_ok Gr H (by omega) (fun q => ?_) (fun q => ?_))
      · rw [ba_t q] at i
        exact br_f (by decide) (nm_r (nI_1 _) (nm_r (nI_1 j) i))
      · rw [ba_f q, Nat.add_zero] at i
        exact br_t rfl (nm_r (nI_1 j) i)
theorem hg_8 {post : Int32 → SX → Prop} (hn : n ≤ 24) (H : gd_X n m tl hd rc R d vt g en f_reached a_outFirst a_outNext a_inFirst a_inNext a_number a_idom a_level a_size a_enter)
    (K : post (nI (yh_m R (la_L n (re_D (re_E m tl hd 60))) n)) ((nI n), (nI m), f_reached, f_current, f_queued, f_farthest, a_tail, a_head, a_outFirst, a_outNext, a_inFirst, a_inNext, a_cursor, a_stack, a_number, a_atNumber, a_parent, a_semi, a_label, a_ancestor, a_bucketFirst, a_bucketNext, a_idom, a_level, a_size, a_enter, a_pathIndex, a_from, a_queue, a_visited)) :
    ∀ t j, j + t = n → ∀ N, t < N → wX_height_8 post (nI n) (nI m) f_reached f_current f_queued f_farthest a_tail a_head a_outFirst a_outNext a_inFirst a_inNext a_cursor a_stack a_number a_atNumber a_parent a_semi a_label a_ancestor a_bucketFirst a_bucketNext a_idom a_level a_size a_enter a_pathIndex a_from a_queue a_visited N (nI (yh_m R (la_L n (re_D (re_E m tl hd 60))) j)) (nI j) := by
  have H' := H
  obtain ⟨H1, H2, G, L, hR, C1, C2, N1, N2, I1, V1, Z1, E1⟩ := H'
  have B := fun j => yh_le (R := R) (L := la_L n (re_D (re_E m tl hd 60))) (B := n) (fun k => yd_le k) j
  intro t
  induction t with
  | zero =>
    intro j hj N hN
    cases N with
    | zero => omega
    | succ N =>
      have e : j = n := by omega
      subst e
      exact br_t (nI_le (Nat.le_refl _) (by omega)) K
  | succ t ih =>
    intro j hj N hN
    cases N with
    | zero => omega
    | succ N =>
      have n1 : ¬ nI n ≤ nI j := nI_ge (by omega) (by omega)
      have c2 : (nI j).toNatClampNeg = j := nI_clamp (by omega)
      have v2 : vp_in (nI j) 24 := vp_in_nI (by omega) (by decide)
      have i := ih (j + 1) (by omega) N (by omega)
      have lj := yd_le (n := n) (m := m) (tl := tl) (hd := hd) j
      have bj := B j
      rcases Classical.em (R j) with k | k
      · have n2 : ¬ a_number j < 0 := by
          rw [N1 j k]; exact nI_pos (by have := (G.2.1 j k).2.1; omega)
        have l1 := V1 j k
        simp only [wX_height_8, n1, c2, v2, n2, l1, nI_1, forall_eq, true_and, and_true, not_true_eq_false, not_false_eq_true, false_implies, true_implies, implies_true, forall_const]
        refine pk_le _ _ (fun h => ?_) (fun h => ?_) rfl rfl (by omega) (by omega)
        · rw [yh_f (fun q => by omega)] at i
          exact i
        · rw [yh_t ⟨k, h⟩] at i
          exact i
      · have n2 : a_number j < 0 := by rw [N2 j (by omega) k]; exact wk_m1
        rw [yh_f (fun q => k q.1)] at i
        simp only [wX_height_8, n1, c2, v2, n2, nI_1, forall_eq, true_and, and_true, not_true_eq_false, not_false_eq_true, false_implies, true_implies, implies_true, forall_const]
        exact i
end
end
section
/-! breadthFirst -/
def bw_A (n Q : Nat) (q fr : Nat → Nat) (F : Nat → Prop) (frm que : Nat → Int32) : Prop :=
  (∀ w, w < n → F w → frm w = nI (fr w)) ∧ (∀ w, w < n → ¬ F w → frm w = -1) ∧ (∀ j, j < Q → que j = nI (q j)) ∧ (∀ w, F w → fr w < n)
section

variable {n m : Nat} {tl hd : Nat → Nat} {f_reached f_current f_queued f_farthest : Int32} {a_tail a_head a_outFirst a_outNext a_inFirst a_inNext a_cursor a_stack a_number a_atNumber a_parent a_semi a_label a_ancestor a_bucketFirst a_bucketNext a_idom a_level a_size a_enter a_pathIndex a_from a_queue a_visited : Nat → Int32}
theorem bw_74 {post : SX → Prop} {J : Int32 → Int32 → (Nat → Int32) → (Nat → Int32) → (Nat → Int32) → (Nat → Int32) → (Nat → Int32) → (Nat → Int32) → (Nat → Int32) → (Nat → Int32) → (Nat → Int32) → (Nat → Int32) → (Nat → Int32) → (Nat → Int32) → (Nat → Int32) → (Nat → Int32) → (Nat → Int32) → (Nat → Int32) → (Nat → Int32) → (Nat → Int32) → (Nat → Int32) → (Nat → Int32) → (Nat → Int32) → (Nat → Int32) → (Nat → Int32) → (Nat → Int32) → Prop}
    (G : gr_G n m tl hd a_tail a_head) (CO : pt_C n m tl 0 a_outFirst a_outNext) {k : Nat}
    (K : ∀ (Q : Nat) (q fr : Nat → Nat) (F : Nat → Prop) (frm que : Nat → Int32), bf_I n m tl hd Q (k + 1) 0 q fr F → bw_A n Q q fr F frm que → J (nI (k + 1)) (nI Q) a_tail a_head a_outFirst a_outNext a_inFirst a_inNext a_cursor a_stack a_number a_atNumber a_parent a_semi a_label a_ancestor a_bucketFirst a_bucketNext a_idom a_level a_size a_enter a_pathIndex frm que a_visited) :
    ∀ t j, j + t = 60 → ∀ (c : Nat) (x : Int32) (Q : Nat) (q fr : Nat → Nat) (F : Nat → Prop) (frm que : Nat → Int32), j ≤ c → k < Q → pt_P (fun e => tl e = q k) id c m x → bf_I n m tl hd Q k c q fr F → bw_A n Q q fr F frm que → ∀ N, t < N →
      wX_breadthFirst_74 post J (nI k) (nI n) (nI m) f_reached f_current f_farthest N x (nI j) (nI Q) a_tail a_head a_outFirst a_outNext a_inFirst a_inNext a_cursor a_stack a_number a_atNumber a_parent a_semi a_label a_ancestor a_bucketFirst a_bucketNext a_idom a_level a_size a_enter a_pathIndex frm que a_visited := by
  obtain ⟨g1, g2, g3, g4⟩ := G
  intro t
  induction t with
  | zero =>
    intro j hj c x Q q fr F frm que hc hk hx H A N hN
    cases N with
    | zero => omega
    | succ N =>
      exact br_t (nI_le (a := 60) (by omega) (by omega)) (nm_r (nI_1 k) (K Q q fr F frm que (bf_next H hk (fun e a b => by omega)) A))
  | succ t ih =>
    intro j hj c x Q q fr F frm que hc hk hx H A N hN
    cases N with
    | zero => omega
    | succ N =>
      have n1 : ¬ (60 : Int32) ≤ nI j := nI_ge (b := 60) (by omega) (by decide)
      have hQ := bf_le H
      rcases hx with ⟨e1, e2⟩ | ⟨e, e1, e2, e3, e4, e5⟩
      · exact br_f n1 (br_t e1 (nm_r (nI_1 k) (K Q q fr F frm que (bf_next H hk e2) A)))
      · have e4' : x = nI e := e4
        subst e4'
        have e3' : tl e = q k := e3
        obtain ⟨t1, t2, t3, t4⟩ := g4 e e2
        have n2 : ¬ nI e = -1 := pt_nm1 (by omega)
        have c1 : (nI e).toNatClampNeg = e := nI_clamp (by omega)
        have v1 : vp_in (nI e) 60 := vp_in_nI (by omega) (by decide)
        have c2 : (nI (hd e)).toNatClampNeg = hd e := nI_clamp (by omega)
        have v2 : vp_in (nI (hd e)) 24 := vp_in_nI (by omega) (by decide)
        have nx : pt_P (fun e => tl e = q k) id (e + 1) m (a_outNext e) := by
          have := CO.2 e (by omega) e2
          rw [e3'] at this
          exact this
        rcases Classical.em (F (hd e)) with hf | hf
        · have n3 : ¬ frm (hd e) = -1 := by
            rw [A.1 _ t2 hf]; exact pt_nm1 (by have := A.2.2.2 _ hf; omega)
          simp only [wX_breadthFirst_74, n1, n2, c1, v1, t4, c2, v2, n3, nI_1, forall_eq, true_and, and_true, not_true_eq_false, not_false_eq_true, false_implies, true_implies, implies_true, forall_const]
          exact ih (j + 1) (by omega) (e + 1) _ Q q fr F frm que (by omega) hk nx (bf_old H (fun e' a b => e5 e' a b) hf) A N (by omega)
        · have n3 : frm (hd e) = -1 := A.2.1 _ t2 hf
          have hlt := bf_room H hf t2
          have n4 : ¬ nI n ≤ nI Q := nI_ge hlt (by omega)
          have c3 : (nI k).toNatClampNeg = k := nI_clamp (by omega)
          have v3 : vp_in (nI k) 24 := vp_in_nI (by omega) (by decide)
          have c4 : (nI Q).toNatClampNeg = Q := nI_clamp (by omega)
          have v4 : vp_in (nI Q) 24 := vp_in_nI (by omega) (by decide)
          have qk := A.2.2.1 k hk
          have qkn := (H.2.1 k hk).1
          simp only [wX_breadthFirst_74, n1, n2, c1, v1, t4, c2, v2, n3, n4, c3, v3, qk, c4, v4, nI_1, forall_eq, true_and, and_true, not_true_eq_false, not_false_eq_true, false_implies, true_implies, implies_true, forall_const]
          refine ih (j + 1) (by omega) (e + 1) _ (Q + 1) (fo_u q Q (hd e)) (fo_u fr (hd e) (q k)) (fun x => F x ∨ x = hd e) _ _ (by omega) (by omega) ?_ (bf_new g3 H hk e2 e3' (fun e' a b => e5 e' a b) hf rfl t2) ⟨?_, ?_, ?_, ?_⟩ N (by omega)
          · rw [fo_un (by omega)]; exact nx
          · rintro w hw (h | h)
            · have ne : w ≠ hd e := fun z => hf (z ▸ h)
              rw [pk_un ne, fo_un ne]; exact A.1 w hw h
            · subst h; rw [pk_us, fo_us]
          · intro w hw h
            rw [pk_un (fun z => h (Or.inr z))]
            exact A.2.1 w hw (fun z => h (Or.inl z))
          · intro i hi
            rcases Nat.lt_or_ge i Q with z | z
            · rw [pk_un (by omega), fo_un (by omega)]; exact A.2.2.1 i z
            · have : i = Q := by omega
              subst this; rw [pk_us, fo_us]
          · rintro w (h | h)
            · have ne : w ≠ hd e := fun z => hf (z ▸ h)
              rw [fo_un ne]; exact A.2.2.2 w h
            · subst h; rw [fo_us]; exact qkn
theorem bw_44 {post : SX → Prop} (G : gr_G n m tl hd a_tail a_head) (CO : pt_C n m tl 0 a_outFirst a_outNext)
    (K : ∀ (Q k : Nat) (q fr : Nat → Nat) (F : Nat → Prop) (frm que : Nat → Int32), bf_I n m tl hd Q k 0 q fr F → Q ≤ k → bw_A n Q q fr F frm que → post ((nI n), (nI m), f_reached, f_current, (nI Q), f_farthest, a_tail, a_head, a_outFirst, a_outNext, a_inFirst, a_inNext, a_cursor, a_stack, a_number, a_atNumber, a_parent, a_semi, a_label, a_ancestor, a_bucketFirst, a_bucketNext, a_idom, a_level, a_size, a_enter, a_pathIndex, frm, que, a_visited)) :
    ∀ t k, k + t = n → ∀ (Q : Nat) (q fr : Nat → Nat) (F : Nat → Prop) (frm que : Nat → Int32), bf_I n m tl hd Q k 0 q fr F → bw_A n Q q fr F frm que → ∀ N, t < N →
      wX_breadthFirst_44 post (nI n) (nI m) f_reached f_current f_farthest N (nI k) (nI Q) a_tail a_head a_outFirst a_outNext a_inFirst a_inNext a_cursor a_stack a_number a_atNumber a_parent a_semi a_label a_ancestor a_bucketFirst a_bucketNext a_idom a_level a_size a_enter a_pathIndex frm que a_visited := by
  have g2 := G.2.1
  intro t
  induction t with
  | zero =>
    intro k hk Q q fr F frm que H A N hN
    cases N with
    | zero => omega
    | succ N =>
      have hQ := bf_le H
      exact br_t (nI_le (by omega) (by omega)) (K Q k q fr F frm que H (by omega) A)
  | succ t ih =>
    intro k hk Q q fr F frm que H A N hN
    cases N with
    | zero => omega
    | succ N =>
      have hQ := bf_le H
      have n1 : ¬ nI n ≤ nI k := nI_ge (by omega) (by omega)
      rcases Nat.lt_or_ge k Q with z | z
      · have n2 : ¬ nI Q ≤ nI k := nI_ge z (by omega)
        have c3 : (nI k).toNatClampNeg = k := nI_clamp (by omega)
        have v3 : vp_in (nI k) 24 := vp_in_nI (by omega) (by decide)
        have qk := A.2.2.1 k z
        have qkn := (H.2.1 k z).1
        have c4 : (nI (q k)).toNatClampNeg = q k := nI_clamp (by omega)
        have v4 : vp_in (nI (q k)) 24 := vp_in_nI (by omega) (by decide)
        simp only [wX_breadthFirst_44, n1, n2, c3, v3, qk, c4, v4, forall_eq, true_and, and_true, not_true_eq_false, not_false_eq_true, false_implies, true_implies, implies_true, forall_const]
        refine ⟨61, ?_⟩
        exact bw_74 G CO (fun Q' q' fr' F' frm' que' H' A' => ih (k + 1) (by omega) Q' q' fr' F' frm' que' H' A' N (by omega)) 60 0 (by omega) 0 _ Q q fr F frm que (by omega) z (CO.1 _ qkn) H A 61 (by omega)
      · exact br_f n1 (br_t (nI_le z (by omega)) (K Q k q fr F frm que H z A))
theorem bw_2 {post : SX → Prop} (G : gr_G n m tl hd a_tail a_head) (CO : pt_C n m tl 0 a_outFirst a_outNext)
    (K : ∀ (Q k : Nat) (q fr : Nat → Nat) (F : Nat → Prop) (frm que : Nat → Int32), bf_I n m tl hd Q k 0 q fr F → Q ≤ k → bw_A n Q q fr F frm que → post ((nI n), (nI m), f_reached, f_current, (nI Q), f_farthest, a_tail, a_head, a_outFirst, a_outNext, a_inFirst, a_inNext, a_cursor, a_stack, a_number, a_atNumber, a_parent, a_semi, a_label, a_ancestor, a_bucketFirst, a_bucketNext, a_idom, a_level, a_size, a_enter, a_pathIndex, frm, que, a_visited)) :
    ∀ t i, i + t = n → ∀ (frm : Nat → Int32), (∀ w, w < i → frm w = -1) → ∀ N, t < N → wX_breadthFirst_2 post (nI n) (nI m) f_reached f_current f_queued f_farthest N (nI i) a_tail a_head a_outFirst a_outNext a_inFirst a_inNext a_cursor a_stack a_number a_atNumber a_parent a_semi a_label a_ancestor a_bucketFirst a_bucketNext a_idom a_level a_size a_enter a_pathIndex frm a_queue a_visited := by
  have g1 := G.1
  have g2 := G.2.1
  intro t
  induction t with
  | zero =>
    intro i hi frm h N hN
    cases N with
    | zero => omega
    | succ N =>
      have n1 : nI n ≤ nI i := nI_le (by omega) (by omega)
      simp only [wX_breadthFirst_2, n1, wk_cl0, forall_eq, true_and, and_true, not_true_eq_false, not_false_eq_true, false_implies, true_implies, implies_true, forall_const]
      refine ⟨n + 1, ?_⟩
      refine bw_44 G CO K n 0 (by omega) 1 (fun _ => 0) (fun _ => 0) (fun x => x = 0) _ _ (bf_0 (by omega) rfl rfl (fun _ => Iff.rfl)) ⟨?_, ?_, ?_, ?_⟩ (n + 1) (by omega)
      · intro w _ hw
        have hw : w = 0 := hw
        subst hw; rw [pk_us]; rfl
      · intro w hw hn
        rw [pk_un hn]; exact h w (by omega)
      · intro j hj
        have : j = 0 := by omega
        subst this; rw [pk_us]; rfl
      · intro w _
        show 0 < n
        omega
  | succ t ih =>
    intro i hi frm h N hN
    cases N with
    | zero => omega
    | succ N =>
      have c1 : (nI i).toNatClampNeg = i := nI_clamp (by omega)
      have v1 : vp_in (nI i) 24 := vp_in_nI (by omega) (by decide)
      have n1 : ¬ nI n ≤ nI i := nI_ge (by omega) (by omega)
      simp only [wX_breadthFirst_2, c1, v1, n1, nI_1, forall_eq, true_and, and_true, not_true_eq_false, not_false_eq_true, false_implies, true_implies, implies_true, forall_const]
      refine ih (i + 1) (by omega) _ (fun v hv => ?_) N (by omega)
      rcases Classical.em (v = i) with z | z
      · subst z; rw [pk_us]
      · rw [pk_un z]; exact h v (by omega)
theorem bw_ok {post : SX → Prop} (G : gr_G n m tl hd a_tail a_head) (CO : pt_C n m tl 0 a_outFirst a_outNext)
    (K : ∀ (Q k : Nat) (q fr : Nat → Nat) (F : Nat → Prop) (frm que : Nat → Int32), bf_I n m tl hd Q k 0 q fr F → Q ≤ k → bw_A n Q q fr F frm que → post ((nI n), (nI m), f_reached, f_current, (nI Q), f_farthest, a_tail, a_head, a_outFirst, a_outNext, a_inFirst, a_inNext, a_cursor, a_stack, a_number, a_atNumber, a_parent, a_semi, a_label, a_ancestor, a_bucketFirst, a_bucketNext, a_idom, a_level, a_size, a_enter, a_pathIndex, frm, que, a_visited)) : wpX_breadthFirst post ((nI n), (nI m), f_reached, f_current, f_queued, f_farthest, a_tail, a_head, a_outFirst, a_outNext, a_inFirst, a_inNext, a_cursor, a_stack, a_number, a_atNumber, a_parent, a_semi, a_label, a_ancestor, a_bucketFirst, a_bucketNext, a_idom, a_level, a_size, a_enter, a_pathIndex, a_from, a_queue, a_visited) :=
  ⟨n + 1, bw_2 G CO K n 0 (by omega) a_from (fun w hw => by omega) (n + 1) (by omega)⟩
end
end
section
/-! detour, leave, sweep -/
def sd_A (n L : Nat) (y : Nat → Nat) (Q : Nat) (q : Nat → Nat) (V : Nat → Prop) (pix que vis : Nat → Int32) : Prop :=
  (∀ j, j ≤ L → pix (y j) = nI j) ∧ (∀ w, w < n → (∀ j, j ≤ L → y j ≠ w) → pix w = -1) ∧ (∀ w, w < n → vis w = nI (ba_b (V w))) ∧ (∀ j, j < Q → que j = nI (q j))
theorem sd_le {n m L k f Q i c : Nat} {tl hd y q : Nat → Nat} {V : Nat → Prop} (Y : sw_Y n m tl hd L y) (hk : k ≤ L) (H : sw_I n m tl hd L y k f V Q i c q) : Q ≤ n ∧ ∀ j, j < Q → q j < n := by
  obtain ⟨K, h1, h2, h3, h4, h5, h6⟩ := H
  have lt : ∀ j, j < Q → q j < n := by
    intro j hj
    rcases Nat.eq_zero_or_pos j with z | z
    · subst z; rw [h2.2]; exact Y.2.2.2 k hk
    · exact (K.2.2.1 _ (h3 j z hj)).1
  exact ⟨ba_pig (f := q) lt h4, lt⟩
section

variable {n m L : Nat} {tl hd y : Nat → Nat} {f_reached f_current f_queued f_farthest : Int32} {a_tail a_head a_outFirst a_outNext a_inFirst a_inNext a_cursor a_stack a_number a_atNumber a_parent a_semi a_label a_ancestor a_bucketFirst a_bucketNext a_idom a_level a_size a_enter a_pathIndex a_from a_queue a_visited : Nat → Int32}
theorem dt_ok {post : SX → Prop} (G : gr_G n m tl hd a_tail a_head) (Y : sw_Y n m tl hd L y) {k f Q i c e : Nat} {V : Nat → Prop} {q : Nat → Nat} (hk : k ≤ L) (H : sw_I n m tl hd L y k f V Q i c q) (A : sd_A n L y Q q V a_pathIndex a_queue a_visited)
    (hi : i < Q) (he : e < m) (ht : tl e = q i) (hn : ∀ e', c ≤ e' → e' < e → tl e' ≠ q i)
    (K : ∀ (f' Q' : Nat) (V' : Nat → Prop) (q' : Nat → Nat) (que vis : Nat → Int32), sw_I n m tl hd L y k f' V' Q' i (e + 1) q' → sd_A n L y Q' q' V' a_pathIndex que vis → i < Q' → q' i = q i → post ((nI n), (nI m), f_reached, f_current, (nI Q'), (nI f'), a_tail, a_head, a_outFirst, a_outNext, a_inFirst, a_inNext, a_cursor, a_stack, a_number, a_atNumber, a_parent, a_semi, a_label, a_ancestor, a_bucketFirst, a_bucketNext, a_idom, a_level, a_size, a_enter, a_pathIndex, a_from, que, vis)) :
    wpX_detour post ((nI n), (nI m), f_reached, f_current, (nI Q), (nI f), a_tail, a_head, a_outFirst, a_outNext, a_inFirst, a_inNext, a_cursor, a_stack, a_number, a_atNumber, a_parent, a_semi, a_label, a_ancestor, a_bucketFirst, a_bucketNext, a_idom, a_level, a_size, a_enter, a_pathIndex, a_from, a_queue, a_visited) (nI (hd e)) := by
  obtain ⟨g1, g2, g3, g4⟩ := G
  obtain ⟨t1, t2, t3, t4⟩ := g4 e he
  have hQ := sd_le Y hk H
  have hL : L + 1 ≤ n := ba_pig (f := y) (fun i hi => Y.2.2.2 i (by omega)) (fun i j hi hj => Y.2.2.1 i j (by omega) (by omega))
  have hfL := H.1.1
  have c2 : (nI (hd e)).toNatClampNeg = hd e := nI_clamp (by omega)
  have v2 : vp_in (nI (hd e)) 24 := vp_in_nI (by omega) (by decide)
  rcases Classical.em (∃ j, j ≤ L ∧ y j = hd e) with ⟨j, j1, j2⟩ | hp
  · have p1 : a_pathIndex (hd e) = nI j := by rw [← j2]; exact A.1 j j1
    have n1 : ¬ nI j < 0 := nI_pos (by omega)
    rcases Nat.lt_or_ge f j with z | z
    · have n2 : ¬ nI j ≤ nI f := nI_ge z (by omega)
      simp only [wpX_detour, c2, v2, p1, n1, n2, forall_eq, true_and, and_true, not_true_eq_false, not_false_eq_true, false_implies, true_implies, implies_true, forall_const]
      exact K j Q V q _ _ (sw_far g3 Y H hi he ht hn j1 z j2.symm) A hi rfl
    · have n2 : nI j ≤ nI f := nI_le z (by omega)
      simp only [wpX_detour, c2, v2, p1, n1, n2, forall_eq, true_and, and_true, not_true_eq_false, not_false_eq_true, false_implies, true_implies, implies_true, forall_const]
      exact K f Q V q _ _ (sw_old H hn (Or.inl ⟨j, z, j2.symm⟩)) A hi rfl
  · have hp' : ∀ j, j ≤ L → y j ≠ hd e := fun j a b => hp ⟨j, a, b⟩
    have p1 : a_pathIndex (hd e) < 0 := by rw [A.2.1 _ t2 hp']; exact wk_m1
    rcases Classical.em (V (hd e)) with hV | hV
    · have n2 : ¬ a_visited (hd e) = 0 := by rw [A.2.2.1 _ t2]; exact yb_t hV
      simp only [wpX_detour, c2, v2, p1, n2, forall_eq, true_and, and_true, not_true_eq_false, not_false_eq_true, false_implies, true_implies, implies_true, forall_const]
      exact K f Q V q _ _ (sw_old H hn (Or.inr hV)) A hi rfl
    · have n2 : a_visited (hd e) = 0 := by rw [A.2.2.1 _ t2]; exact yb_f hV
      have hr := sw_room Y hk H hp' hV t2
      have n3 : ¬ nI n ≤ nI Q := nI_ge hr (by omega)
      have c4 : (nI Q).toNatClampNeg = Q := nI_clamp (by omega)
      have v4 : vp_in (nI Q) 24 := vp_in_nI (by omega) (by decide)
      simp only [wpX_detour, c2, v2, p1, n2, n3, c4, v4, nI_1, yb_1, forall_eq, true_and, and_true, not_true_eq_false, not_false_eq_true, false_implies, true_implies, implies_true, forall_const]
      refine K f (Q + 1) _ _ _ _ (sw_new g3 Y hk H hi he ht hn rfl hp' hV t2) ⟨A.1, A.2.1, ?_, ?_⟩ (by omega) (fo_un (by omega))
      · intro w hw
        rcases Classical.em (w = hd e) with z | z
        · subst z; rw [pk_us, ba_t (Or.inr rfl)]; rfl
        · rw [pk_un z, A.2.2.1 w hw]
          exact congrArg nI (ba_congr ⟨Or.inl, fun q => q.elim id (fun q => absurd q z)⟩)
      · intro j hj
        rcases Nat.lt_or_ge j Q with z | z
        · rw [pk_un (by omega), fo_un (by omega)]; exact A.2.2.2 j z
        · have : j = Q := by omega
          subst this; rw [pk_us, fo_us]
theorem lv_45 {post : SX → Prop} {J : Int32 → Int32 → Int32 → Int32 → Int32 → Int32 → Int32 → (Nat → Int32) → (Nat → Int32) → (Nat → Int32) → (Nat → Int32) → (Nat → Int32) → (Nat → Int32) → (Nat → Int32) → (Nat → Int32) → (Nat → Int32) → (Nat → Int32) → (Nat → Int32) → (Nat → Int32) → (Nat → Int32) → (Nat → Int32) → (Nat → Int32) → (Nat → Int32) → (Nat → Int32) → (Nat → Int32) → (Nat → Int32) → (Nat → Int32) → (Nat → Int32) → (Nat → Int32) → (Nat → Int32) → (Nat → Int32) → Prop}
    (G : gr_G n m tl hd a_tail a_head) (CO : pt_C n m tl 0 a_outFirst a_outNext) (Y : sw_Y n m tl hd L y) {k i : Nat} (hk : k ≤ L)
    (K : ∀ (f Q : Nat) (V : Nat → Prop) (q : Nat → Nat) (que vis : Nat → Int32), sw_I n m tl hd L y k f V Q (i + 1) 0 q → sd_A n L y Q q V a_pathIndex que vis → J (nI (i + 1)) (nI n) (nI m) f_reached f_current (nI Q) (nI f) a_tail a_head a_outFirst a_outNext a_inFirst a_inNext a_cursor a_stack a_number a_atNumber a_parent a_semi a_label a_ancestor a_bucketFirst a_bucketNext a_idom a_level a_size a_enter a_pathIndex a_from que vis) :
    ∀ t j, j + t = 60 → ∀ (c : Nat) (x : Int32) (f Q : Nat) (V : Nat → Prop) (q : Nat → Nat) (que vis : Nat → Int32), j ≤ c → i < Q → pt_P (fun e => tl e = q i) id c m x → sw_I n m tl hd L y k f V Q i c q → sd_A n L y Q q V a_pathIndex que vis → ∀ N, t < N →
      wX_leave_45 post J (nI i) N x (nI j) (nI n) (nI m) f_reached f_current (nI Q) (nI f) a_tail a_head a_outFirst a_outNext a_inFirst a_inNext a_cursor a_stack a_number a_atNumber a_parent a_semi a_label a_ancestor a_bucketFirst a_bucketNext a_idom a_level a_size a_enter a_pathIndex a_from que vis := by
  have G' := G
  obtain ⟨g1, g2, g3, g4⟩ := G'
  intro t
  induction t with
  | zero =>
    intro j hj c x f Q V q que vis hc hi hx H A N hN
    cases N with
    | zero => omega
    | succ N =>
      exact br_t (nI_le (a := 60) (by omega) (by omega)) (nm_r (nI_1 i) (K f Q V q que vis (sw_next H hi (fun e a b => by omega)) A))
  | succ t ih =>
    intro j hj c x f Q V q que vis hc hi hx H A N hN
    cases N with
    | zero => omega
    | succ N =>
      have n1 : ¬ (60 : Int32) ≤ nI j := nI_ge (b := 60) (by omega) (by decide)
      rcases hx with ⟨e1, e2⟩ | ⟨e, e1, e2, e3, e4, e5⟩
      · exact br_f n1 (br_t e1 (nm_r (nI_1 i) (K f Q V q que vis (sw_next H hi e2) A)))
      · have e4' : x = nI e := e4
        subst e4'
        have e3' : tl e = q i := e3
        obtain ⟨t1, t2, t3, t4⟩ := g4 e e2
        have n2 : ¬ nI e = -1 := pt_nm1 (by omega)
        have c1 : (nI e).toNatClampNeg = e := nI_clamp (by omega)
        have v1 : vp_in (nI e) 60 := vp_in_nI (by omega) (by decide)
        have nx : pt_P (fun e => tl e = q i) id (e + 1) m (a_outNext e) := by
          have := CO.2 e (by omega) e2
          rw [e3'] at this
          exact this
        simp only [wX_leave_45, n1, n2, c1, v1, t4, nI_1, forall_eq, true_and, and_true, not_true_eq_false, not_false_eq_true, false_implies, true_implies, implies_true, forall_const]
        refine dt_ok G Y hk H A hi e2 e3' (fun e' a b => e5 e' a b) (fun f' Q' V' q' que' vis' H' A' hi' hq' => ?_)
        dsimp only
        exact ih (j + 1) (by omega) (e + 1) _ f' Q' V' q' que' vis' (by omega) hi' (by rw [hq']; exact nx) H' A' N (by omega)
theorem lv_14 {post : SX → Prop} (G : gr_G n m tl hd a_tail a_head) (CO : pt_C n m tl 0 a_outFirst a_outNext) (Y : sw_Y n m tl hd L y) {k : Nat} (hk : k ≤ L)
    (K : ∀ (f Q i : Nat) (V : Nat → Prop) (q : Nat → Nat) (que vis : Nat → Int32), sw_I n m tl hd L y k f V Q i 0 q → Q ≤ i → sd_A n L y Q q V a_pathIndex que vis → post ((nI n), (nI m), f_reached, f_current, (nI Q), (nI f), a_tail, a_head, a_outFirst, a_outNext, a_inFirst, a_inNext, a_cursor, a_stack, a_number, a_atNumber, a_parent, a_semi, a_label, a_ancestor, a_bucketFirst, a_bucketNext, a_idom, a_level, a_size, a_enter, a_pathIndex, a_from, que, vis)) :
    ∀ t i, i + t = n → ∀ (f Q : Nat) (V : Nat → Prop) (q : Nat → Nat) (que vis : Nat → Int32), sw_I n m tl hd L y k f V Q i 0 q → sd_A n L y Q q V a_pathIndex que vis → ∀ N, t < N →
      wX_leave_14 post N (nI i) (nI n) (nI m) f_reached f_current (nI Q) (nI f) a_tail a_head a_outFirst a_outNext a_inFirst a_inNext a_cursor a_stack a_number a_atNumber a_parent a_semi a_label a_ancestor a_bucketFirst a_bucketNext a_idom a_level a_size a_enter a_pathIndex a_from que vis := by
  have g2 := G.2.1
  intro t
  induction t with
  | zero =>
    intro i hi f Q V q que vis H A N hN
    cases N with
    | zero => omega
    | succ N =>
      have hQ := sd_le Y hk H
      exact br_t (nI_le (by omega) (by omega)) (K f Q i V q que vis H (by omega) A)
  | succ t ih =>
    intro i hi f Q V q que vis H A N hN
    cases N with
    | zero => omega
    | succ N =>
      have hQ := sd_le Y hk H
      have n1 : ¬ nI n ≤ nI i := nI_ge (by omega) (by omega)
      rcases Nat.lt_or_ge i Q with z | z
      · have n2 : ¬ nI Q ≤ nI i := nI_ge z (by omega)
        have c3 : (nI i).toNatClampNeg = i := nI_clamp (by omega)
        have v3 : vp_in (nI i) 24 := vp_in_nI (by omega) (by decide)
        have qk := A.2.2.2 i z
        have qkn := hQ.2 i z
        have c4 : (nI (q i)).toNatClampNeg = q i := nI_clamp (by omega)
        have v4 : vp_in (nI (q i)) 24 := vp_in_nI (by omega) (by decide)
        simp only [wX_leave_14, n1, n2, c3, v3, qk, c4, v4, forall_eq, true_and, and_true, not_true_eq_false, not_false_eq_true, false_implies, true_implies, implies_true, forall_const]
        refine ⟨61, ?_⟩
        exact lv_45 G CO Y hk (fun f' Q' V' q' que' vis' H' A' => ih (i + 1) (by omega) f' Q' V' q' que' vis' H' A' N (by omega)) 60 0 (by omega) 0 _ f Q V q que vis (by omega) z (CO.1 _ qkn) H A 61 (by omega)
      · exact br_f n1 (br_t (nI_le z (by omega)) (K f Q i V q que vis H z A))
theorem lv_ok {post : SX → Prop} (G : gr_G n m tl hd a_tail a_head) (CO : pt_C n m tl 0 a_outFirst a_outNext) (Y : sw_Y n m tl hd L y) {k f : Nat} {V : Nat → Prop} (hk : k < L) (S : sw_K n m tl hd L y k f V) (hV : ∀ w, V w → sw_c m tl hd y f V m w)
    (A : ∀ (Q : Nat) (q : Nat → Nat) (que : Nat → Int32), (∀ j, j < Q → que j = nI (q j)) → sd_A n L y Q q V a_pathIndex que a_visited)
    (K : ∀ (f' : Nat) (V' : Nat → Prop) (fq : Int32) (que vis : Nat → Int32), sw_K n m tl hd L y (k + 1) f' V' → (∀ w, V' w → sw_c m tl hd y f' V' m w) → (f' = k + 1 ↔ ¬ re_R (re_E m tl hd 60) (y (k + 1)) (y L)) →
      (∀ (Q : Nat) (q : Nat → Nat) (que : Nat → Int32), (∀ j, j < Q → que j = nI (q j)) → sd_A n L y Q q V' a_pathIndex que vis) → post ((nI n), (nI m), f_reached, f_current, fq, (nI f'), a_tail, a_head, a_outFirst, a_outNext, a_inFirst, a_inNext, a_cursor, a_stack, a_number, a_atNumber, a_parent, a_semi, a_label, a_ancestor, a_bucketFirst, a_bucketNext, a_idom, a_level, a_size, a_enter, a_pathIndex, a_from, que, vis)) :
    wpX_leave post ((nI n), (nI m), f_reached, f_current, f_queued, (nI f), a_tail, a_head, a_outFirst, a_outNext, a_inFirst, a_inNext, a_cursor, a_stack, a_number, a_atNumber, a_parent, a_semi, a_label, a_ancestor, a_bucketFirst, a_bucketNext, a_idom, a_level, a_size, a_enter, a_pathIndex, a_from, a_queue, a_visited) (nI (y k)) := by
  simp only [wpX_leave, wk_cl0, forall_eq, true_and, and_true, not_true_eq_false, not_false_eq_true, false_implies, true_implies, implies_true, forall_const]
  refine ⟨n + 1, ?_⟩
  refine lv_14 G CO Y (by omega : k ≤ L) (fun f' Q' i' V' q' que' vis' H' hQ A' => ?_) n 0 (by omega) f 1 V (fun _ => y k) _ _ (sw_I0 S hV rfl) (A 1 _ _ (fun j hj => ?_)) (n + 1) (by omega)
  · obtain ⟨o1, o2, o3⟩ := sw_over G.2.2.1 Y H' hQ hk
    exact K f' V' _ que' vis' o1 o2 o3 (fun Q q que hq => ⟨A'.1, A'.2.1, A'.2.2.1, hq⟩)
  · have : j = 0 := by omega
    subst this; exact pk_us
theorem sp_122 {post : Int32 → SX → Prop} (G : gr_G n m tl hd a_tail a_head) (CO : pt_C n m tl 0 a_outFirst a_outNext) (Y : sw_Y n m tl hd L y) (hst : ∀ j, j ≤ L → a_stack j = nI (y j))
    (K : ∀ (fq ff : Int32) (que vis : Nat → Int32), post (nI (1 + ba_cn (fun i => ¬ re_R (re_E m tl hd 60) (y (i + 1)) (y L)) L)) ((nI n), (nI m), f_reached, f_current, fq, ff, a_tail, a_head, a_outFirst, a_outNext, a_inFirst, a_inNext, a_cursor, a_stack, a_number, a_atNumber, a_parent, a_semi, a_label, a_ancestor, a_bucketFirst, a_bucketNext, a_idom, a_level, a_size, a_enter, a_pathIndex, a_from, que, vis)) :
    ∀ t k, k + t = L → ∀ (f : Nat) (V : Nat → Prop) (fq : Int32) (que vis : Nat → Int32), sw_K n m tl hd L y k f V → (∀ w, V w → sw_c m tl hd y f V m w) → (∀ (Q : Nat) (q : Nat → Nat) (que : Nat → Int32), (∀ j, j < Q → que j = nI (q j)) → sd_A n L y Q q V a_pathIndex que vis) → ∀ N, t < N →
      wX_sweep_122 post (nI L) N (nI (1 + ba_cn (fun i => ¬ re_R (re_E m tl hd 60) (y (i + 1)) (y L)) k)) (nI k) (nI n) (nI m) f_reached f_current fq (nI f) a_tail a_head a_outFirst a_outNext a_inFirst a_inNext a_cursor a_stack a_number a_atNumber a_parent a_semi a_label a_ancestor a_bucketFirst a_bucketNext a_idom a_level a_size a_enter a_pathIndex a_from que vis := by
  have g2 := G.2.1
  have hL : L + 1 ≤ n := ba_pig (f := y) (fun i hi => Y.2.2.2 i (by omega)) (fun i j hi hj => Y.2.2.1 i j (by omega) (by omega))
  intro t
  induction t with
  | zero =>
    intro k hk f V fq que vis S hV A N hN
    cases N with
    | zero => omega
    | succ N =>
      have e : k = L := by omega
      subst e
      exact br_t (nI_le (Nat.le_refl _) (by omega)) (K fq (nI f) que vis)
  | succ t ih =>
    intro k hk f V fq que vis S hV A N hN
    cases N with
    | zero => omega
    | succ N =>
      have n1 : ¬ nI L ≤ nI k := nI_ge (by omega) (by omega)
      have c3 : (nI k).toNatClampNeg = k := nI_clamp (by omega)
      have v3 : vp_in (nI k) 25 := vp_in_nI (by omega) (by decide)
      have s1 := hst k (by omega)
      simp only [wX_sweep_122, n1, c3, v3, s1, nI_1, forall_eq, true_and, and_true, not_true_eq_false, not_false_eq_true, false_implies, true_implies, implies_true, forall_const]
      refine lv_ok G CO Y (by omega) S hV A (fun f' V' fq' que' vis' S' hV' hf A' => ?_)
      dsimp only
      have i := ih (k + 1) (by omega) f' V' fq' que' vis' S' hV' A' N (by omega)
      rw [ba_cns] at i
      have fL := S'.1
      refine pk_eq f' (k + 1) (fun h => ?_) (fun h => ?_) rfl rfl (by omega) (by omega)
      · rw [ba_t (hf.mp h), ← Nat.add_assoc] at i
        exact i
      · rw [ba_f (fun q => h (hf.mpr q)), Nat.add_zero] at i
        exact i
end
end
section
/-! sweep: the path -/
theorem wk_at {P : Int32 → Prop} {x y : Int32} (e : x = y) (h : P y) : P x := by rw [e]; exact h
section

variable {n m : Nat} {tl hd : Nat → Nat} {f_reached f_current f_queued f_farthest : Int32} {a_tail a_head a_outFirst a_outNext a_inFirst a_inNext a_cursor a_stack a_number a_atNumber a_parent a_semi a_label a_ancestor a_bucketFirst a_bucketNext a_idom a_level a_size a_enter a_pathIndex a_from a_queue a_visited : Nat → Int32}
theorem sp_68 {post : Int32 → SX → Prop} (G : gr_G n m tl hd a_tail a_head) (CO : pt_C n m tl 0 a_outFirst a_outNext) {L v : Nat} {fr : Nat → Nat} (Y : sw_Y n m tl hd L (fun i => bf_it fr v (L - i))) (hl : re_R (re_E m tl hd 60) 24 v)
    (hfr : ∀ i, i < L → a_from (bf_it fr v i) = nI (fr (bf_it fr v i))) (hvis : ∀ w, w < n → a_visited w = 0)
    (K : ∀ (fq ff : Int32) (que vis pix stk : Nat → Int32), post (nI (la_L n (re_D (re_E m tl hd 60)) v)) ((nI n), (nI m), f_reached, f_current, fq, ff, a_tail, a_head, a_outFirst, a_outNext, a_inFirst, a_inNext, a_cursor, stk, a_number, a_atNumber, a_parent, a_semi, a_label, a_ancestor, a_bucketFirst, a_bucketNext, a_idom, a_level, a_size, a_enter, pix, a_from, que, vis)) :
    ∀ j, j ≤ L + 1 → ∀ (x : Int32) (pix stk : Nat → Int32), (0 < j → x = nI (bf_it fr v (L - (j - 1)))) → (∀ i, j ≤ i → i ≤ L → pix (bf_it fr v (L - i)) = nI i ∧ stk i = nI (bf_it fr v (L - i))) →
      (∀ w, w < n → (∀ i, j ≤ i → i ≤ L → bf_it fr v (L - i) ≠ w) → pix w = -1) → ∀ N, j < N →
      wX_sweep_68 post (nI L) (nI n) (nI m) f_reached f_current f_queued f_farthest N x (nI j - 1) a_tail a_head a_outFirst a_outNext a_inFirst a_inNext a_cursor stk a_number a_atNumber a_parent a_semi a_label a_ancestor a_bucketFirst a_bucketNext a_idom a_level a_size a_enter pix a_from a_queue a_visited := by
  have g2 := G.2.1
  have hL : L + 1 ≤ n := ba_pig (f := fun i => bf_it fr v (L - i)) (fun i hi => Y.2.2.2 i (by omega)) (fun i j hi hj => Y.2.2.1 i j (by omega) (by omega))
  intro j
  induction j with
  | zero =>
    intro _ x pix stk hx h1 h2 N hN
    cases N with
    | zero => omega
    | succ N =>
      refine br_t wk_n0 ⟨L + 1, ?_⟩
      have e : bf_it fr v (L - L) = v := by rw [Nat.sub_self]; rfl
      have cnt := sw_cnt Y (by show re_R (re_E m tl hd 60) 24 (bf_it fr v (L - L)); rw [e]; exact hl)
      have cnt' : la_L n (re_D (re_E m tl hd 60)) v = 1 + ba_cn (fun i => ¬ re_R (re_E m tl hd 60) (bf_it fr v (L - (i + 1))) (bf_it fr v (L - L))) L := by
        rw [← cnt]
        show la_L n _ v = la_L n _ (bf_it fr v (L - L))
        rw [e]
      refine sp_122 (y := fun i => bf_it fr v (L - i)) G CO Y (fun i hi => (h1 i (by omega) hi).2) (fun fq ff que vis => ?_) L 0 (by omega) 0 (fun _ => False) f_queued a_queue a_visited (sw_K0 (fun _ h => h)) (fun w h => absurd h (fun h => h)) (fun Q q que hq => ⟨fun i hi => (h1 i (by omega) hi).1, fun w hw hn => h2 w hw (fun i _ b => hn i b), fun w hw => ?_, hq⟩) (L + 1) (by omega)
      · have := K fq ff que vis pix stk
        rw [cnt'] at this
        exact this
      · rw [hvis w hw, ba_f (fun h => h)]; rfl
  | succ j ih =>
    intro hj x pix stk hx h1 h2 N hN
    cases N with
    | zero => omega
    | succ N =>
      have ex := hx (by omega)
      rw [show j + 1 - 1 = j from rfl] at ex
      subst ex
      have hyj := Y.2.2.2 j (by omega)
      have hyj : bf_it fr v (L - j) < n := hyj
      have n1 : ¬ nI j < 0 := nI_pos (by omega)
      have c1 : (nI j).toNatClampNeg = j := nI_clamp (by omega)
      have v1 : vp_in (nI j) 25 := vp_in_nI (by omega) (by decide)
      have c2 : (nI (bf_it fr v (L - j))).toNatClampNeg = bf_it fr v (L - j) := nI_clamp (by omega)
      have v2 : vp_in (nI (bf_it fr v (L - j))) 24 := vp_in_nI (by omega) (by decide)
      have nxt : ∀ x : Int32, (0 < j → x = nI (bf_it fr v (L - (j - 1)))) → wX_sweep_68 post (nI L) (nI n) (nI m) f_reached f_current f_queued f_farthest N x (nI j - 1) a_tail a_head a_outFirst a_outNext a_inFirst a_inNext a_cursor (upd stk j (nI (bf_it fr v (L - j)))) a_number a_atNumber a_parent a_semi a_label a_ancestor a_bucketFirst a_bucketNext a_idom a_level a_size a_enter (upd pix (bf_it fr v (L - j)) (nI j)) a_from a_queue a_visited := by
        intro x hx
        refine ih (by omega) x _ _ hx (fun i a b => ?_) (fun w hw hn => ?_) N (by omega)
        · rcases Classical.em (i = j) with z | z
          · subst z; rw [pk_us, pk_us]; exact ⟨rfl, rfl⟩
          · have ne : bf_it fr v (L - i) ≠ bf_it fr v (L - j) := fun q => z (Y.2.2.1 i j b (by omega) q)
            rw [pk_un ne, pk_un z]
            exact h1 i (by omega) b
        · rw [pk_un (fun q => hn j (Nat.le_refl _) (by omega) q.symm)]
          exact h2 w hw (fun i a b => hn i (by omega) b)
      rw [nI_pred]
      rcases Nat.eq_zero_or_pos j with z | z
      · have n2 : nI j ≤ 0 := by rw [z]; decide
        simp only [wX_sweep_68, n1, c1, v1, c2, v2, n2, wk_m, forall_eq, true_and, and_true, not_true_eq_false, not_false_eq_true, false_implies, true_implies, implies_true, forall_const]
        exact nxt 0 (fun q => by omega)
      · have n2 : ¬ nI j ≤ 0 := nI_nle z (by omega)
        have f1 := hfr (L - j) (by omega)
        simp only [wX_sweep_68, n1, c1, v1, c2, v2, n2, f1, wk_m, forall_eq, true_and, and_true, not_true_eq_false, not_false_eq_true, false_implies, true_implies, implies_true, forall_const]
        refine nxt _ (fun _ => ?_)
        rw [show L - (j - 1) = L - j + 1 from by omega]
        rfl
theorem sp_38 {post : Int32 → SX → Prop} (G : gr_G n m tl hd a_tail a_head) (CO : pt_C n m tl 0 a_outFirst a_outNext) {Q k v : Nat} {q fr : Nat → Nat} {F : Nat → Prop} (B : bf_I n m tl hd Q k 0 q fr F) (A : bw_A n Q q fr F a_from a_queue) (hF : F v)
    (hl : re_R (re_E m tl hd 60) 24 v) (hvis : ∀ w, w < n → a_visited w = 0) (hpix : ∀ w, w < n → a_pathIndex w = -1)
    (K : ∀ (fq ff : Int32) (que vis pix stk : Nat → Int32), post (nI (la_L n (re_D (re_E m tl hd 60)) v)) ((nI n), (nI m), f_reached, f_current, fq, ff, a_tail, a_head, a_outFirst, a_outNext, a_inFirst, a_inNext, a_cursor, stk, a_number, a_atNumber, a_parent, a_semi, a_label, a_ancestor, a_bucketFirst, a_bucketNext, a_idom, a_level, a_size, a_enter, pix, a_from, que, vis)) :
    ∀ t len, len + t = n → (∀ i, i < len → bf_it fr v i ≠ 0) → ∀ N, t < N → wX_sweep_38 post (nI v) (nI n) (nI m) f_reached f_current f_queued f_farthest a_tail a_head a_outFirst a_outNext a_inFirst a_inNext a_cursor a_stack a_number a_atNumber a_parent a_semi a_label a_ancestor a_bucketFirst a_bucketNext a_idom a_level a_size a_enter a_pathIndex a_from a_queue a_visited N (nI len) (nI (bf_it fr v len)) := by
  have g2 := G.2.1
  obtain ⟨j0, hj0, hv⟩ := B.2.2.2.1 v hF
  have hQ := bf_le B
  have pos : ∀ len, (∀ i, i < len → bf_it fr v i ≠ 0) → len < n ∧ bf_it fr v len < n ∧ F (bf_it fr v len) := by
    intro len h
    obtain ⟨j, a, b⟩ := bf_pos B hj0 hv.symm len h
    rw [b]
    exact ⟨by omega, B.2.1 j (by omega)⟩
  intro t
  induction t with
  | zero =>
    intro len ht h N hN
    have := (pos len h).1
    omega
  | succ t ih =>
    intro len ht h N hN
    cases N with
    | zero => omega
    | succ N =>
      obtain ⟨p1, p2, p3⟩ := pos len h
      rcases Nat.eq_zero_or_pos (bf_it fr v len) with z | z
      · have m1 : nI (bf_it fr v len) = 0 := by rw [z]; rfl
        refine br_t m1 ⟨len + 2, ?_⟩
        have Y := bf_path B hF h z
        refine wk_at (P := fun z => wX_sweep_68 post (nI len) (nI n) (nI m) f_reached f_current f_queued f_farthest (len + 2) (nI v) z a_tail a_head a_outFirst a_outNext a_inFirst a_inNext a_cursor a_stack a_number a_atNumber a_parent a_semi a_label a_ancestor a_bucketFirst a_bucketNext a_idom a_level a_size a_enter a_pathIndex a_from a_queue a_visited) (nI_pred len).symm ?_
        refine sp_68 (post := post) G CO Y hl (fun i hi => A.1 _ (pos i (fun x hx => h x (by omega))).2.1 (pos i (fun x hx => h x (by omega))).2.2) hvis K (len + 1) (by omega) (nI v) a_pathIndex a_stack (fun _ => ?_) (fun i a b => by omega) (fun w hw _ => hpix w hw) (len + 2) (by omega)
        rw [show len - (len + 1 - 1) = 0 from by omega]
        rfl
      · have m1 : ¬ nI (bf_it fr v len) = 0 := nI_ne0 z (by omega)
        have n1 : ¬ nI n ≤ nI len := nI_ge p1 (by omega)
        have c2 : (nI (bf_it fr v len)).toNatClampNeg = bf_it fr v len := nI_clamp (by omega)
        have v2 : vp_in (nI (bf_it fr v len)) 24 := vp_in_nI (by omega) (by decide)
        have f1 := A.1 _ p2 p3
        simp only [wX_sweep_38, m1, n1, c2, v2, f1, nI_1, forall_eq, true_and, and_true, not_true_eq_false, not_false_eq_true, false_implies, true_implies, implies_true, forall_const]
        refine ih (len + 1) (by omega) (fun i hi => ?_) N (by omega)
        rcases Nat.lt_or_ge i len with y | y
        · exact h i y
        · have : i = len := by omega
          subst this; omega
theorem sp_6 {post : Int32 → SX → Prop} (G : gr_G n m tl hd a_tail a_head) (CO : pt_C n m tl 0 a_outFirst a_outNext) {Q k v : Nat} {q fr : Nat → Nat} {F : Nat → Prop} (B : bf_I n m tl hd Q k 0 q fr F) (A : bw_A n Q q fr F a_from a_queue) (hF : F v)
    (hl : re_R (re_E m tl hd 60) 24 v)
    (K : ∀ (fq ff : Int32) (que vis pix stk : Nat → Int32), post (nI (la_L n (re_D (re_E m tl hd 60)) v)) ((nI n), (nI m), f_reached, f_current, fq, ff, a_tail, a_head, a_outFirst, a_outNext, a_inFirst, a_inNext, a_cursor, stk, a_number, a_atNumber, a_parent, a_semi, a_label, a_ancestor, a_bucketFirst, a_bucketNext, a_idom, a_level, a_size, a_enter, pix, a_from, que, vis)) :
    ∀ t i, i + t = n → ∀ (pix vis : Nat → Int32), (∀ w, w < i → pix w = -1 ∧ vis w = 0) → ∀ N, t < N → wX_sweep_6 post (nI v) (nI n) (nI m) f_reached f_current f_queued f_farthest N (nI i) a_tail a_head a_outFirst a_outNext a_inFirst a_inNext a_cursor a_stack a_number a_atNumber a_parent a_semi a_label a_ancestor a_bucketFirst a_bucketNext a_idom a_level a_size a_enter pix a_from a_queue vis := by
  have g2 := G.2.1
  intro t
  induction t with
  | zero =>
    intro i hi pix vis h N hN
    cases N with
    | zero => omega
    | succ N =>
      refine br_t (nI_le (by omega) (by omega)) ⟨n + 1, ?_⟩
      exact sp_38 G CO B A hF hl (fun w hw => (h w (by omega)).2) (fun w hw => (h w (by omega)).1) K n 0 (by omega) (fun i hi => by omega) (n + 1) (by omega)
  | succ t ih =>
    intro i hi pix vis h N hN
    cases N with
    | zero => omega
    | succ N =>
      have c1 : (nI i).toNatClampNeg = i := nI_clamp (by omega)
      have v1 : vp_in (nI i) 24 := vp_in_nI (by omega) (by decide)
      have n1 : ¬ nI n ≤ nI i := nI_ge (by omega) (by omega)
      simp only [wX_sweep_6, c1, v1, n1, yb_0, nI_1, forall_eq, true_and, and_true, not_true_eq_false, not_false_eq_true, false_implies, true_implies, implies_true, forall_const]
      refine ih (i + 1) (by omega) _ _ (fun w hw => ?_) N (by omega)
      rcases Classical.em (w = i) with z | z
      · subst z; rw [pk_us, pk_us]; exact ⟨rfl, rfl⟩
      · rw [pk_un z, pk_un z]; exact h w (by omega)
theorem sp_ok {post : Int32 → SX → Prop} (G : gr_G n m tl hd a_tail a_head) (CO : pt_C n m tl 0 a_outFirst a_outNext) {v : Nat} (hl : re_R (re_E m tl hd 60) 24 v)
    (K : ∀ (fq ff : Int32) (frm que vis pix stk : Nat → Int32), post (nI (la_L n (re_D (re_E m tl hd 60)) v)) ((nI n), (nI m), f_reached, f_current, fq, ff, a_tail, a_head, a_outFirst, a_outNext, a_inFirst, a_inNext, a_cursor, stk, a_number, a_atNumber, a_parent, a_semi, a_label, a_ancestor, a_bucketFirst, a_bucketNext, a_idom, a_level, a_size, a_enter, pix, frm, que, vis)) :
    wpX_sweep post ((nI n), (nI m), f_reached, f_current, f_queued, f_farthest, a_tail, a_head, a_outFirst, a_outNext, a_inFirst, a_inNext, a_cursor, a_stack, a_number, a_atNumber, a_parent, a_semi, a_label, a_ancestor, a_bucketFirst, a_bucketNext, a_idom, a_level, a_size, a_enter, a_pathIndex, a_from, a_queue, a_visited) (nI v) := by
  unfold wpX_sweep
  refine bw_ok G CO (fun Q k q fr F frm que B hQ A => ?_)
  dsimp only
  refine ⟨n + 1, ?_⟩
  exact sp_6 G CO B A (bf_all B hQ hl) hl (fun fq ff que vis pix stk => K fq ff frm que vis pix stk) n 0 (by omega) a_pathIndex a_visited (fun w hw => by omega) (n + 1) (by omega)
end
end
section
/-! the relation, constructors, link, cut -/
theorem rn_ok {n rc : Nat} {R : Nat → Prop} {d vt g : Nat → Nat} {M : Nat → Nat → Prop} (G : la_G n rc R d vt g M) : ba_cn R n = rc := by
  have e1 : ba_cn R n = ba_sm (fun v => ba_sm (fun i => ba_b (vt i = v)) rc) n := by
    apply ba_sm_congr
    intro v _
    show ba_b (R v) = ba_sm (fun i => ba_b (vt i = v)) rc
    rcases Classical.em (R v) with h | h
    · obtain ⟨a, b, c⟩ := G.2.1 v h
      rw [ba_t h, ba_sm_1 b (fun j hj hn => ba_f (fun q => hn (by rw [← q]; exact (G.2.2.1 j hj).2.symm))), ba_t c]
    · rw [ba_f h, ba_sm_z (fun j hj => ba_f (fun q => h (by rw [← q]; exact (G.2.2.1 j hj).1)))]
  rw [e1, ← ba_sm_swap]
  have e2 : ba_sm (fun i => ba_sm (fun v => ba_b (vt i = v)) n) rc = ba_sm (fun _ => 1) rc := by
    apply ba_sm_congr
    intro i hi
    show ba_sm (fun v => ba_b (vt i = v)) n = 1
    rw [ba_sm_1 (G.2.1 _ (G.2.2.1 i hi).1).1 (fun j _ hn => ba_f (fun q => hn q.symm)), ba_t rfl]
  rw [e2, ba_sm_c, Nat.mul_one]
/-- the relation at the head of a turn -/
def i_Rel (k : Nat) (u : SX) (v : SY) : Prop := ∃ (n m : Nat) (tl hd : Nat → Nat), match u, v with
  | (f_n, f_edgeCount, f_reached, f_current, f_queued, f_farthest, a_tail, a_head, a_outFirst, a_outNext, a_inFirst, a_inNext, a_cursor, a_stack, a_number, a_atNumber, a_parent, a_semi, a_label, a_ancestor, a_bucketFirst, a_bucketNext, a_idom, a_level, a_size, a_enter, a_pathIndex, a_from, a_queue, a_visited), (g_n, g_e, b_tail, b_head, b_seen, b_live, b_over) => f_n = nI n ∧ f_edgeCount = nI m ∧ g_n = nI n ∧ g_e = nI m ∧ b_tail = a_tail ∧ b_head = a_head ∧ gr_G n m tl hd a_tail a_head ∧
    gd_C n m tl hd f_current f_reached a_outFirst a_outNext a_inFirst a_inNext a_number a_idom a_level a_size a_enter
theorem i_up {k : Nat} {u : SX} {v : SY} (h : i_Rel k u v) : i_Rel (k + 3) u v := h
section

variable {n m k : Nat} {tl hd : Nat → Nat} {f_reached f_current f_queued f_farthest : Int32} {a_tail a_head a_outFirst a_outNext a_inFirst a_inNext a_cursor a_stack a_number a_atNumber a_parent a_semi a_label a_ancestor a_bucketFirst a_bucketNext a_idom a_level a_size a_enter a_pathIndex a_from a_queue a_visited : Nat → Int32} {a_seen a_live a_over : Nat → Int32}
theorem zz_in (G : gr_G n m tl hd a_tail a_head) (C : gd_C n m tl hd f_current f_reached a_outFirst a_outNext a_inFirst a_inNext a_number a_idom a_level a_size a_enter) : i_Rel k ((nI n), (nI m), f_reached, f_current, f_queued, f_farthest, a_tail, a_head, a_outFirst, a_outNext, a_inFirst, a_inNext, a_cursor, a_stack, a_number, a_atNumber, a_parent, a_semi, a_label, a_ancestor, a_bucketFirst, a_bucketNext, a_idom, a_level, a_size, a_enter, a_pathIndex, a_from, a_queue, a_visited) (nI n, nI m, a_tail, a_head, a_seen, a_live, a_over) :=
  ⟨n, m, tl, hd, rfl, rfl, rfl, rfl, rfl, rfl, G, C⟩
theorem zz_el {P : SX → SY → Prop} (h : ∀ (n m : Nat) (tl hd : Nat → Nat) (f_reached f_current f_queued f_farthest : Int32) (a_tail a_head a_outFirst a_outNext a_inFirst a_inNext a_cursor a_stack a_number a_atNumber a_parent a_semi a_label a_ancestor a_bucketFirst a_bucketNext a_idom a_level a_size a_enter a_pathIndex a_from a_queue a_visited : Nat → Int32) (a_seen a_live a_over : Nat → Int32), gr_G n m tl hd a_tail a_head →
    gd_C n m tl hd f_current f_reached a_outFirst a_outNext a_inFirst a_inNext a_number a_idom a_level a_size a_enter → P ((nI n), (nI m), f_reached, f_current, f_queued, f_farthest, a_tail, a_head, a_outFirst, a_outNext, a_inFirst, a_inNext, a_cursor, a_stack, a_number, a_atNumber, a_parent, a_semi, a_label, a_ancestor, a_bucketFirst, a_bucketNext, a_idom, a_level, a_size, a_enter, a_pathIndex, a_from, a_queue, a_visited) (nI n, nI m, a_tail, a_head, a_seen, a_live, a_over)) {u : SX} {v : SY} (I : i_Rel k u v) : P u v := by
  obtain ⟨f_n, f_edgeCount, f_reached, f_current, f_queued, f_farthest, a_tail, a_head, a_outFirst, a_outNext, a_inFirst, a_inNext, a_cursor, a_stack, a_number, a_atNumber, a_parent, a_semi, a_label, a_ancestor, a_bucketFirst, a_bucketNext, a_idom, a_level, a_size, a_enter, a_pathIndex, a_from, a_queue, a_visited⟩ := u
  obtain ⟨g_n, g_e, b_tail, b_head, b_seen, b_live, b_over⟩ := v
  obtain ⟨n, m, tl, hd, e1, e2, e3, e4, e5, e6, G, C⟩ := I
  subst e1
  subst e2
  subst e3
  subst e4
  subst e5
  subst e6
  exact h n m tl hd _ _ _ _ _ _ _ _ _ _ _ _ _ _ _ _ _ _ _ _ _ _ _ _ _ _ _ _ _ _ _ G C
end
end
section
/-! constructors, vertices, edges, link, cut -/
theorem i_vc0 (k0 : Int32) : wpX_init (fun u => wpY_init (fun v => i_Rel 1 u v) k0) k0 := by
  have G0 : ∀ n, 2 ≤ n → n ≤ 24 → gr_G n 0 (fun _ => 0) (fun _ => 0) (fun _ => 0) (fun _ => 0) := fun n a b => ⟨a, b, by decide, fun e he => absurd he (Nat.not_lt_zero _)⟩
  rcases Classical.em ((2 : Int32) ≤ k0) with h | h
  · rcases Classical.em (k0 ≤ (24 : Int32)) with h2 | h2
    · have h0 : ¬ k0 < 0 := fun q => absurd (Int32.lt_of_lt_of_le q (Int32.le_trans (by decide : (0 : Int32) ≤ 2) h)) (Int32.lt_irrefl)
      obtain ⟨j, hj, rfl⟩ := nI_of2 (M := 24) (n := 24) (by decide) h0 h2
      have h3 : 2 ≤ j := by
        have := (nI_leI (a := 2) (b := j) (by decide) (by omega)).mp h
        exact this
      exact br_t h (br_t h2 (br_t h (br_t h2 (zz_in (m := 0) (G0 j h3 hj) (Or.inl rfl)))))
    · exact br_t h (br_f h2 (br_t h (br_f h2 (zz_in (n := 24) (m := 0) (G0 24 (by decide) (by decide)) (Or.inl rfl)))))
  · have h2 : (2 : Int32) ≤ 24 := by decide
    exact br_f h (br_t h2 (br_f h (zz_in (n := 2) (m := 0) (G0 2 (by decide) (by decide)) (Or.inl rfl))))
theorem i_vc_vertices {k : Nat} {u : SX} {v : SY} (I : i_Rel k u v) (hk : k + 3 ≤ 1537) : wpX_vertices (fun r => wpY_vertices (fun r' => r' = r ∧ i_Rel (k + 3) u v) v) u := by
  refine zz_el (P := fun u v => wpX_vertices (fun r => wpY_vertices (fun r' => r' = r ∧ i_Rel (k + 3) u v) v) u) ?_ I
  intro n m tl hd f_reached f_current f_queued f_farthest a_tail a_head a_outFirst a_outNext a_inFirst a_inNext a_cursor a_stack a_number a_atNumber a_parent a_semi a_label a_ancestor a_bucketFirst a_bucketNext a_idom a_level a_size a_enter a_pathIndex a_from a_queue a_visited a_seen a_live a_over G C
  exact ⟨rfl, zz_in G C⟩
theorem i_vc_edges {k : Nat} {u : SX} {v : SY} (I : i_Rel k u v) (hk : k + 3 ≤ 1537) : wpX_edges (fun r => wpY_edges (fun r' => r' = r ∧ i_Rel (k + 3) u v) v) u := by
  refine zz_el (P := fun u v => wpX_edges (fun r => wpY_edges (fun r' => r' = r ∧ i_Rel (k + 3) u v) v) u) ?_ I
  intro n m tl hd f_reached f_current f_queued f_farthest a_tail a_head a_outFirst a_outNext a_inFirst a_inNext a_cursor a_stack a_number a_atNumber a_parent a_semi a_label a_ancestor a_bucketFirst a_bucketNext a_idom a_level a_size a_enter a_pathIndex a_from a_queue a_visited a_seen a_live a_over G C
  exact ⟨rfl, zz_in G C⟩
theorem i_vc_link {k : Nat} {u : SX} {v : SY} (I : i_Rel k u v) (hk : k + 3 ≤ 1537) (v1 : Int32) (v2 : Int32) : wpX_link (fun r u' => wpY_link (fun r' v' => r' = r ∧ i_Rel (k + 3) u' v') v v1 v2) u v1 v2 := by
  refine zz_el (P := fun u v => wpX_link (fun r u' => wpY_link (fun r' v' => r' = r ∧ i_Rel (k + 3) u' v') v v1 v2) u v1 v2) ?_ I
  intro n m tl hd f_reached f_current f_queued f_farthest a_tail a_head a_outFirst a_outNext a_inFirst a_inNext a_cursor a_stack a_number a_atNumber a_parent a_semi a_label a_ancestor a_bucketFirst a_bucketNext a_idom a_level a_size a_enter a_pathIndex a_from a_queue a_visited a_seen a_live a_over G C
  have G' := G
  obtain ⟨g1, g2, g3, g4⟩ := G'
  have bad1 : (v1 < 0 ∨ nI n ≤ v1) → wpX_link (fun r u' => wpY_link (fun r' v' => r' = r ∧ i_Rel (k + 3) u' v') (nI n, nI m, a_tail, a_head, a_seen, a_live, a_over) v1 v2) ((nI n), (nI m), f_reached, f_current, f_queued, f_farthest, a_tail, a_head, a_outFirst, a_outNext, a_inFirst, a_inNext, a_cursor, a_stack, a_number, a_atNumber, a_parent, a_semi, a_label, a_ancestor, a_bucketFirst, a_bucketNext, a_idom, a_level, a_size, a_enter, a_pathIndex, a_from, a_queue, a_visited) v1 v2 := by
    intro h
    unfold wpX_link
    refine iv_bad h (br_t rfl ?_)
    unfold wpY_link
    exact yb_bad h (br_f (by decide) ⟨rfl, zz_in G C⟩)
  rcases pk_ix v1 (n := n) (by omega) with h | h | ⟨x, hx, rfl⟩
  · exact bad1 (Or.inl h)
  · exact bad1 (Or.inr h)
  · have bad2 : (v2 < 0 ∨ nI n ≤ v2) → wpX_link (fun r u' => wpY_link (fun r' v' => r' = r ∧ i_Rel (k + 3) u' v') (nI n, nI m, a_tail, a_head, a_seen, a_live, a_over) (nI x) v2) ((nI n), (nI m), f_reached, f_current, f_queued, f_farthest, a_tail, a_head, a_outFirst, a_outNext, a_inFirst, a_inNext, a_cursor, a_stack, a_number, a_atNumber, a_parent, a_semi, a_label, a_ancestor, a_bucketFirst, a_bucketNext, a_idom, a_level, a_size, a_enter, a_pathIndex, a_from, a_queue, a_visited) (nI x) v2 := by
      intro h
      unfold wpX_link
      refine iv_ok g2 hx (br_f (by decide) (iv_bad h (br_t rfl ?_)))
      unfold wpY_link
      exact yb_ok g2 hx (br_t rfl (yb_bad h (br_f (by decide) ⟨rfl, zz_in G C⟩)))
    rcases pk_ix v2 (n := n) (by omega) with h | h | ⟨y, hy, rfl⟩
    · exact bad2 (Or.inl h)
    · exact bad2 (Or.inr h)
    · unfold wpX_link
      refine iv_ok g2 hx (br_f (by decide) (iv_ok g2 hy (br_f (by decide) ?_)))
      refine pk_eq m 60 (fun h => ?_) (fun h => ?_) rfl rfl (by omega) (by decide)
      · unfold wpY_link
        refine yb_ok g2 hx (br_t rfl (yb_ok g2 hy (br_t rfl (br_f ?_ ⟨rfl, zz_in G C⟩))))
        exact nI_nlt (b := 60) (by omega) (by omega)
      · have c1 : (nI m).toNatClampNeg = m := nI_clamp (by omega)
        have v1 : vp_in (nI m) 60 := vp_in_nI (by omega) (by decide)
        have n1 : nI m < (60 : Int32) := nI_lt (b := 60) (by omega) (by decide)
        have G2 : gr_G n (m + 1) (fo_u tl m x) (fo_u hd m y) (upd a_tail m (nI x)) (upd a_head m (nI y)) := by
          refine ⟨g1, g2, by omega, fun e he => ?_⟩
          rcases Classical.em (e = m) with z | z
          · subst z; rw [fo_us, fo_us, pk_us, pk_us]; exact ⟨hx, hy, rfl, rfl⟩
          · rw [fo_un z, fo_un z, pk_un z, pk_un z]; exact g4 e (by omega)
        simp only [c1, v1, nI_1, forall_eq, true_and, and_true, not_true_eq_false, not_false_eq_true, false_implies, true_implies, implies_true, forall_const]
        unfold wpY_link
        refine yb_ok g2 hx (br_t rfl (yb_ok g2 hy (br_t rfl (br_t n1 ?_))))
        simp only [c1, v1, nI_1, forall_eq, true_and, and_true, not_true_eq_false, not_false_eq_true, false_implies, true_implies, implies_true, forall_const]
        exact zz_in G2 (Or.inl rfl)
/-- the edges behind i one place down, as far as j -/
def cu_S (a : Nat → Int32) (i j : Nat) : Nat → Int32 := fun p => if i ≤ p ∧ p < j then a (p + 1) else a p
theorem cu_0 (a : Nat → Int32) (i : Nat) : cu_S a i i = a := by
  funext p
  unfold cu_S
  rw [if_neg (by omega)]
theorem cu_s (a : Nat → Int32) {i j : Nat} (h : i ≤ j) : upd (cu_S a i j) j (cu_S a i j (j + 1)) = cu_S a i (j + 1) := by
  funext p
  rcases Classical.em (p = j) with z | z
  · subst z
    rw [pk_us]
    unfold cu_S
    rw [if_neg (by omega), if_pos (by omega)]
  · rw [pk_un z]
    unfold cu_S
    rcases Classical.em (i ≤ p ∧ p < j) with q | q
    · rw [if_pos q, if_pos (by omega)]
    · rw [if_neg q, if_neg (by omega)]
section
variable {n m : Nat} {tl hd : Nat → Nat} {f_reached f_current f_queued f_farthest : Int32} {a_tail a_head a_outFirst a_outNext a_inFirst a_inNext a_cursor a_stack a_number a_atNumber a_parent a_semi a_label a_ancestor a_bucketFirst a_bucketNext a_idom a_level a_size a_enter a_pathIndex a_from a_queue a_visited : Nat → Int32} {a_seen a_live a_over : Nat → Int32}
theorem cu_18 {post : Int32 → SX → Prop} {i : Nat} (hm : m ≤ 60) (K : post (nI (m - 1)) ((nI n), (nI (m - 1)), f_reached, 0, f_queued, f_farthest, (cu_S a_tail i (m - 1)), (cu_S a_head i (m - 1)), a_outFirst, a_outNext, a_inFirst, a_inNext, a_cursor, a_stack, a_number, a_atNumber, a_parent, a_semi, a_label, a_ancestor, a_bucketFirst, a_bucketNext, a_idom, a_level, a_size, a_enter, a_pathIndex, a_from, a_queue, a_visited)) :
    ∀ t j, i ≤ j → j + 1 + t = m → ∀ N, t < N → wX_cut_18 post (nI n) (nI m) f_reached f_current f_queued f_farthest N (nI (j + 1)) (cu_S a_tail i j) (cu_S a_head i j) a_outFirst a_outNext a_inFirst a_inNext a_cursor a_stack a_number a_atNumber a_parent a_semi a_label a_ancestor a_bucketFirst a_bucketNext a_idom a_level a_size a_enter a_pathIndex a_from a_queue a_visited := by
  intro t
  induction t with
  | zero =>
    intro j hij hj N hN
    cases N with
    | zero => omega
    | succ N =>
      refine br_t (nI_le (by omega) (by omega)) (nm_r (e' := nI (m - 1)) (pk_sub (b := 1) (by omega)) ?_)
      have e : m - 1 = j := by omega
      rw [e] at K ⊢
      exact K
  | succ t ih =>
    intro j hij hj N hN
    cases N with
    | zero => omega
    | succ N =>
      have n1 : ¬ nI m ≤ nI (j + 1) := nI_ge (by omega) (by omega)
      have c1 : (nI (j + 1)).toNatClampNeg = j + 1 := nI_clamp (by omega)
      have v1 : vp_in (nI (j + 1)) 60 := vp_in_nI (by omega) (by decide)
      have c2 : (nI j).toNatClampNeg = j := nI_clamp (by omega)
      have v2 : vp_in (nI j) 60 := vp_in_nI (by omega) (by decide)
      simp only [wX_cut_18, n1, c1, v1, nI_pred, c2, v2, cu_s _ hij, nI_1, forall_eq, true_and, and_true, not_true_eq_false, not_false_eq_true, false_implies, true_implies, implies_true, forall_const]
      exact ih (j + 1) (by omega) (by omega) N (by omega)
theorem cu_16 {post : Int32 → SY → Prop} {i : Nat} (hm : m ≤ 60) (K : post (nI (m - 1)) (nI n, nI (m - 1), cu_S a_tail i (m - 1), cu_S a_head i (m - 1), a_seen, a_live, a_over)) :
    ∀ t j, i ≤ j → j + 1 + t = m → ∀ N, t < N → wY_cut_16 post (nI n) (nI m) N (nI j) (cu_S a_tail i j) (cu_S a_head i j) a_seen a_live a_over := by
  intro t
  induction t with
  | zero =>
    intro j hij hj N hN
    cases N with
    | zero => omega
    | succ N =>
      have e1 : nI m - 1 = nI (m - 1) := pk_sub (b := 1) (by omega)
      have n1 : nI (m - 1) ≤ nI j := nI_le (by omega) (by omega)
      simp only [wY_cut_16, wY_cut_66, e1, n1, forall_eq, true_and, and_true, not_true_eq_false, not_false_eq_true, false_implies, true_implies, implies_true, forall_const]
      have e : m - 1 = j := by omega
      rw [e] at K ⊢
      exact K
  | succ t ih =>
    intro j hij hj N hN
    cases N with
    | zero => omega
    | succ N =>
      have e1 : nI m - 1 = nI (m - 1) := pk_sub (b := 1) (by omega)
      have n1 : ¬ nI (m - 1) ≤ nI j := nI_ge (by omega) (by omega)
      have n2 : ¬ (59 : Int32) ≤ nI j := nI_ge (b := 59) (by omega) (by decide)
      have c1 : (nI (j + 1)).toNatClampNeg = j + 1 := nI_clamp (by omega)
      have v1 : vp_in (nI (j + 1)) 60 := vp_in_nI (by omega) (by decide)
      have c2 : (nI j).toNatClampNeg = j := nI_clamp (by omega)
      have v2 : vp_in (nI j) 60 := vp_in_nI (by omega) (by decide)
      simp only [wY_cut_16, e1, n1, n2, nI_1, c1, v1, c2, v2, cu_s _ hij, forall_eq, true_and, and_true, not_true_eq_false, not_false_eq_true, false_implies, true_implies, implies_true, forall_const]
      exact ih (j + 1) (by omega) (by omega) N (by omega)
end
theorem i_vc_cut {k : Nat} {u : SX} {v : SY} (I : i_Rel k u v) (hk : k + 3 ≤ 1537) (v1 : Int32) : wpX_cut (fun r u' => wpY_cut (fun r' v' => r' = r ∧ i_Rel (k + 3) u' v') v v1) u v1 := by
  refine zz_el (P := fun u v => wpX_cut (fun r u' => wpY_cut (fun r' v' => r' = r ∧ i_Rel (k + 3) u' v') v v1) u v1) ?_ I
  intro n m tl hd f_reached f_current f_queued f_farthest a_tail a_head a_outFirst a_outNext a_inFirst a_inNext a_cursor a_stack a_number a_atNumber a_parent a_semi a_label a_ancestor a_bucketFirst a_bucketNext a_idom a_level a_size a_enter a_pathIndex a_from a_queue a_visited a_seen a_live a_over G C
  have G' := G
  obtain ⟨g1, g2, g3, g4⟩ := G'
  rcases pk_ix v1 (n := m) (by omega) with h | h | ⟨i, hi, rfl⟩
  · exact br_t h (br_t h ⟨rfl, zz_in G C⟩)
  · have h0 : ¬ v1 < nI m := Int32.not_lt.mpr h
    have h1 : ¬ v1 < 0 := fun q => absurd (Int32.lt_of_lt_of_le q (Int32.le_trans (nI_pos' (by omega)) h)) Int32.lt_irrefl
    exact br_f h1 (br_f h0 (br_f h1 (br_f h0 ⟨rfl, zz_in G C⟩)))
  · have h0 : nI i < nI m := nI_lt hi (by omega)
    have h1 : ¬ nI i < 0 := nI_pos (by omega)
    have e1 : cu_S a_tail i i = a_tail := cu_0 _ _
    have e2 : cu_S a_head i i = a_head := cu_0 _ _
    have G2 : gr_G n (m - 1) (fun p => if i ≤ p ∧ p < m - 1 then tl (p + 1) else tl p) (fun p => if i ≤ p ∧ p < m - 1 then hd (p + 1) else hd p) (cu_S a_tail i (m - 1)) (cu_S a_head i (m - 1)) := by
      refine ⟨g1, g2, by omega, fun e he => ?_⟩
      unfold cu_S
      rcases Classical.em (i ≤ e ∧ e < m - 1) with q | q
      · simp only [if_pos q]; exact g4 (e + 1) (by omega)
      · simp only [if_neg q]; exact g4 e (by omega)
    refine br_f h1 (br_t h0 (nm_r (nI_1 i) ⟨m + 1, ?_⟩))
    have X := cu_18 (post := fun r u' => wpY_cut (fun r' v' => r' = r ∧ i_Rel (k + 3) u' v') (nI n, nI m, a_tail, a_head, a_seen, a_live, a_over) (nI i)) (n := n) (m := m) (i := i) (a_tail := a_tail) (a_head := a_head)
      (f_reached := f_reached) (f_current := f_current) (f_queued := f_queued) (f_farthest := f_farthest) (a_outFirst := a_outFirst) (a_outNext := a_outNext) (a_inFirst := a_inFirst) (a_inNext := a_inNext) (a_cursor := a_cursor) (a_stack := a_stack) (a_number := a_number) (a_atNumber := a_atNumber) (a_parent := a_parent) (a_semi := a_semi) (a_label := a_label) (a_ancestor := a_ancestor) (a_bucketFirst := a_bucketFirst) (a_bucketNext := a_bucketNext) (a_idom := a_idom) (a_level := a_level) (a_size := a_size) (a_enter := a_enter) (a_pathIndex := a_pathIndex) (a_from := a_from) (a_queue := a_queue) (a_visited := a_visited)
      g3 ?_ (m - 1 - i) i (Nat.le_refl _) (by omega) (m + 1) (by omega)
    · rw [e1, e2] at X
      exact X
    · refine br_f h1 (br_t h0 ⟨m + 1, ?_⟩)
      have Y := cu_16 (post := fun r' v' => r' = nI (m - 1) ∧ i_Rel (k + 3) ((nI n), (nI (m - 1)), f_reached, 0, f_queued, f_farthest, (cu_S a_tail i (m - 1)), (cu_S a_head i (m - 1)), a_outFirst, a_outNext, a_inFirst, a_inNext, a_cursor, a_stack, a_number, a_atNumber, a_parent, a_semi, a_label, a_ancestor, a_bucketFirst, a_bucketNext, a_idom, a_level, a_size, a_enter, a_pathIndex, a_from, a_queue, a_visited) v') (n := n) (m := m) (i := i) (a_tail := a_tail) (a_head := a_head) (a_seen := a_seen) (a_live := a_live) (a_over := a_over)
        g3 ⟨rfl, zz_in G2 (Or.inl rfl)⟩ (m - 1 - i) i (Nat.le_refl _) (by omega) (m + 1) (by omega)
      rw [e1, e2] at Y
      exact Y
end
section
/-! the questions about one vertex -/
theorem i_vc_reachable {k : Nat} {u : SX} {v : SY} (I : i_Rel k u v) (hk : k + 3 ≤ 1537) (v1 : Int32) : wpX_reachable (fun r u' => wpY_reachable (fun r' v' => r' = r ∧ i_Rel (k + 3) u' v') v v1) u v1 := by
  refine zz_el (P := fun u v => wpX_reachable (fun r u' => wpY_reachable (fun r' v' => r' = r ∧ i_Rel (k + 3) u' v') v v1) u v1) ?_ I
  intro n m tl hd f_reached f_current f_queued f_farthest a_tail a_head a_outFirst a_outNext a_inFirst a_inNext a_cursor a_stack a_number a_atNumber a_parent a_semi a_label a_ancestor a_bucketFirst a_bucketNext a_idom a_level a_size a_enter a_pathIndex a_from a_queue a_visited a_seen a_live a_over G C
  have g1 := G.1
  have g2 := G.2.1
  have bad : (v1 < 0 ∨ nI n ≤ v1) → wpX_reachable (fun r u' => wpY_reachable (fun r' v' => r' = r ∧ i_Rel (k + 3) u' v') (nI n, nI m, a_tail, a_head, a_seen, a_live, a_over) v1) ((nI n), (nI m), f_reached, f_current, f_queued, f_farthest, a_tail, a_head, a_outFirst, a_outNext, a_inFirst, a_inNext, a_cursor, a_stack, a_number, a_atNumber, a_parent, a_semi, a_label, a_ancestor, a_bucketFirst, a_bucketNext, a_idom, a_level, a_size, a_enter, a_pathIndex, a_from, a_queue, a_visited) v1 := by
    intro h
    unfold wpX_reachable
    refine iv_bad h (br_t rfl ?_)
    unfold wpY_reachable
    exact yb_bad h (br_f (by decide) ⟨rfl, zz_in G C⟩)
  rcases pk_ix v1 (n := n) (by omega) with h | h | ⟨x, hx, rfl⟩
  · exact bad (Or.inl h)
  · exact bad (Or.inr h)
  · have cx : (nI x).toNatClampNeg = x := nI_clamp (by omega)
    have vx : vp_in (nI x) 24 := vp_in_nI (by omega) (by decide)
    unfold wpX_reachable
    refine iv_ok g2 hx (br_f (by decide) ?_)
    refine rf_ok G C (fun a_outFirst a_outNext a_inFirst a_inNext a_cursor a_stack a_number a_atNumber a_parent a_semi a_label a_ancestor a_bucketFirst a_bucketNext a_idom a_level a_size a_enter f_reached f_current rc R d vt g en hc H => ?_)
    have D : gd_C n m tl hd f_current f_reached a_outFirst a_outNext a_inFirst a_inNext a_number a_idom a_level a_size a_enter := Or.inr ⟨hc, rc, R, d, vt, g, en, H⟩
    have H' := H
    obtain ⟨H1, H2, L, LE, hR, C1, C2, N1, N2, I1, V1, Z1, E1⟩ := H'
    dsimp only
    rcases Classical.em (R x) with k1 | k1
    · have n1 : ¬ a_number x < 0 := by rw [N1 x k1]; exact nI_pos (by have := (L.2.1 x k1).2.1; omega)
      simp only [cx, vx, n1, forall_eq, true_and, and_true, not_true_eq_false, not_false_eq_true, false_implies, true_implies, implies_true, forall_const]
      unfold wpY_reachable
      refine yb_ok g2 hx (br_t rfl (yt_ok G (fun seen live over T => ?_)))
      have m1 : ¬ live x = 0 := by rw [T.1 x (by omega)]; exact yb_t ((hR x).mp k1)
      simp only [cx, vx, m1, forall_eq, true_and, and_true, not_true_eq_false, not_false_eq_true, false_implies, true_implies, implies_true, forall_const]
      exact zz_in G D
    · have n1 : a_number x < 0 := by rw [N2 x hx k1]; exact wk_m1
      simp only [cx, vx, n1, forall_eq, true_and, and_true, not_true_eq_false, not_false_eq_true, false_implies, true_implies, implies_true, forall_const]
      unfold wpY_reachable
      refine yb_ok g2 hx (br_t rfl (yt_ok G (fun seen live over T => ?_)))
      have m1 : live x = 0 := by rw [T.1 x (by omega)]; exact yb_f (fun q => k1 ((hR x).mpr q))
      simp only [cx, vx, m1, forall_eq, true_and, and_true, not_true_eq_false, not_false_eq_true, false_implies, true_implies, implies_true, forall_const]
      exact zz_in G D
theorem i_vc_immediate {k : Nat} {u : SX} {v : SY} (I : i_Rel k u v) (hk : k + 3 ≤ 1537) (v1 : Int32) : wpX_immediate (fun r u' => wpY_immediate (fun r' v' => r' = r ∧ i_Rel (k + 3) u' v') v v1) u v1 := by
  refine zz_el (P := fun u v => wpX_immediate (fun r u' => wpY_immediate (fun r' v' => r' = r ∧ i_Rel (k + 3) u' v') v v1) u v1) ?_ I
  intro n m tl hd f_reached f_current f_queued f_farthest a_tail a_head a_outFirst a_outNext a_inFirst a_inNext a_cursor a_stack a_number a_atNumber a_parent a_semi a_label a_ancestor a_bucketFirst a_bucketNext a_idom a_level a_size a_enter a_pathIndex a_from a_queue a_visited a_seen a_live a_over G C
  have g1 := G.1
  have g2 := G.2.1
  have bad : (v1 < 0 ∨ nI n ≤ v1) → wpX_immediate (fun r u' => wpY_immediate (fun r' v' => r' = r ∧ i_Rel (k + 3) u' v') (nI n, nI m, a_tail, a_head, a_seen, a_live, a_over) v1) ((nI n), (nI m), f_reached, f_current, f_queued, f_farthest, a_tail, a_head, a_outFirst, a_outNext, a_inFirst, a_inNext, a_cursor, a_stack, a_number, a_atNumber, a_parent, a_semi, a_label, a_ancestor, a_bucketFirst, a_bucketNext, a_idom, a_level, a_size, a_enter, a_pathIndex, a_from, a_queue, a_visited) v1 := by
    intro h
    unfold wpX_immediate
    refine iv_bad h (br_t rfl ?_)
    unfold wpY_immediate
    exact yb_bad h (br_f (by decide) ⟨rfl, zz_in G C⟩)
  rcases pk_ix v1 (n := n) (by omega) with h | h | ⟨x, hx, rfl⟩
  · exact bad (Or.inl h)
  · exact bad (Or.inr h)
  · have cx : (nI x).toNatClampNeg = x := nI_clamp (by omega)
    have vx : vp_in (nI x) 24 := vp_in_nI (by omega) (by decide)
    unfold wpX_immediate
    refine iv_ok g2 hx (br_f (by decide) ?_)
    refine rf_ok G C (fun a_outFirst a_outNext a_inFirst a_inNext a_cursor a_stack a_number a_atNumber a_parent a_semi a_label a_ancestor a_bucketFirst a_bucketNext a_idom a_level a_size a_enter f_reached f_current rc R d vt g en hc H => ?_)
    have D : gd_C n m tl hd f_current f_reached a_outFirst a_outNext a_inFirst a_inNext a_number a_idom a_level a_size a_enter := Or.inr ⟨hc, rc, R, d, vt, g, en, H⟩
    have H' := H
    obtain ⟨H1, H2, L, LE, hR, C1, C2, N1, N2, I1, V1, Z1, E1⟩ := H'
    dsimp only
    rcases Classical.em (R x) with k1 | k1
    · have n1 : (0 : Int32) ≤ a_number x := by rw [N1 x k1]; exact nI_pos' (by have := (L.2.1 x k1).2.1; omega)
      rcases Nat.eq_zero_or_pos x with z | z
      · have n2 : nI x = 0 := by rw [z]; rfl
        refine ⟨vx, br_t (by rw [cx]; exact n1) (br_t n2 ?_)⟩
        unfold wpY_immediate
        refine yb_ok g2 hx (br_t rfl (yt_ok G (fun seen live over T => ?_)))
        have m1 : ¬ live x = 0 := by rw [T.1 x (by omega)]; exact yb_t ((hR x).mp k1)
        exact ⟨vx, br_f (by rw [cx]; exact m1) (br_t n2 ⟨rfl, zz_in G D⟩)⟩
      · have n2 : ¬ nI x = 0 := nI_ne0 z (by omega)
        have i1 := I1 x k1 (by omega)
        simp only [cx, vx, n1, n2, i1, forall_eq, true_and, and_true, not_true_eq_false, not_false_eq_true, false_implies, true_implies, implies_true, forall_const]
        unfold wpY_immediate
        refine yb_ok g2 hx (br_t rfl (yt_ok G (fun seen live over T => ?_)))
        have m1 : ¬ live x = 0 := by rw [T.1 x (by omega)]; exact yb_t ((hR x).mp k1)
        simp only [cx, vx, m1, n2, forall_eq, true_and, and_true, not_true_eq_false, not_false_eq_true, false_implies, true_implies, implies_true, forall_const]
        exact yv_ok g2 L k1 (by omega) T ⟨rfl, zz_in G D⟩
    · have n1 : ¬ (0 : Int32) ≤ a_number x := by rw [N2 x hx k1]; exact wk_m1'
      simp only [cx, vx, n1, forall_eq, true_and, and_true, not_true_eq_false, not_false_eq_true, false_implies, true_implies, implies_true, forall_const]
      unfold wpY_immediate
      refine yb_ok g2 hx (br_t rfl (yt_ok G (fun seen live over T => ?_)))
      have m1 : live x = 0 := by rw [T.1 x (by omega)]; exact yb_f (fun q => k1 ((hR x).mpr q))
      simp only [cx, vx, m1, forall_eq, true_and, and_true, not_true_eq_false, not_false_eq_true, false_implies, true_implies, implies_true, forall_const]
      exact zz_in G D
theorem i_vc_common {k : Nat} {u : SX} {v : SY} (I : i_Rel k u v) (hk : k + 3 ≤ 1537) (v1 : Int32) : wpX_common (fun r u' => wpY_common (fun r' v' => r' = r ∧ i_Rel (k + 3) u' v') v v1) u v1 := by
  refine zz_el (P := fun u v => wpX_common (fun r u' => wpY_common (fun r' v' => r' = r ∧ i_Rel (k + 3) u' v') v v1) u v1) ?_ I
  intro n m tl hd f_reached f_current f_queued f_farthest a_tail a_head a_outFirst a_outNext a_inFirst a_inNext a_cursor a_stack a_number a_atNumber a_parent a_semi a_label a_ancestor a_bucketFirst a_bucketNext a_idom a_level a_size a_enter a_pathIndex a_from a_queue a_visited a_seen a_live a_over G C
  have g1 := G.1
  have g2 := G.2.1
  have bad : (v1 < 0 ∨ nI n ≤ v1) → wpX_common (fun r u' => wpY_common (fun r' v' => r' = r ∧ i_Rel (k + 3) u' v') (nI n, nI m, a_tail, a_head, a_seen, a_live, a_over) v1) ((nI n), (nI m), f_reached, f_current, f_queued, f_farthest, a_tail, a_head, a_outFirst, a_outNext, a_inFirst, a_inNext, a_cursor, a_stack, a_number, a_atNumber, a_parent, a_semi, a_label, a_ancestor, a_bucketFirst, a_bucketNext, a_idom, a_level, a_size, a_enter, a_pathIndex, a_from, a_queue, a_visited) v1 := by
    intro h
    unfold wpX_common
    refine iv_bad h (br_t rfl ?_)
    unfold wpY_common
    exact yb_bad h (br_f (by decide) ⟨rfl, zz_in G C⟩)
  rcases pk_ix v1 (n := n) (by omega) with h | h | ⟨x, hx, rfl⟩
  · exact bad (Or.inl h)
  · exact bad (Or.inr h)
  · have cx : (nI x).toNatClampNeg = x := nI_clamp (by omega)
    have vx : vp_in (nI x) 24 := vp_in_nI (by omega) (by decide)
    unfold wpX_common
    refine iv_ok g2 hx (br_f (by decide) ?_)
    refine rf_ok G C (fun a_outFirst a_outNext a_inFirst a_inNext a_cursor a_stack a_number a_atNumber a_parent a_semi a_label a_ancestor a_bucketFirst a_bucketNext a_idom a_level a_size a_enter f_reached f_current rc R d vt g en hc H => ?_)
    have D : gd_C n m tl hd f_current f_reached a_outFirst a_outNext a_inFirst a_inNext a_number a_idom a_level a_size a_enter := Or.inr ⟨hc, rc, R, d, vt, g, en, H⟩
    have H' := H
    obtain ⟨H1, H2, L, LE, hR, C1, C2, N1, N2, I1, V1, Z1, E1⟩ := H'
    dsimp only
    rcases Classical.em (R x) with k1 | k1
    · have n1 : (0 : Int32) ≤ a_number x := by rw [N1 x k1]; exact nI_pos' (by have := (L.2.1 x k1).2.1; omega)
      simp only [cx, vx, n1, forall_eq, true_and, and_true, not_true_eq_false, not_false_eq_true, false_implies, true_implies, implies_true, forall_const]
      refine sp_ok G C1 ((hR x).mp k1) (fun fq ff frm que vis pix stk => ?_)
      dsimp only
      unfold wpY_common
      refine yb_ok g2 hx (br_t rfl (yt_ok G (fun seen live over T => ?_)))
      have m1 : ¬ live x = 0 := by rw [T.1 x (by omega)]; exact yb_t ((hR x).mp k1)
      simp only [cx, vx, m1, forall_eq, true_and, and_true, not_true_eq_false, not_false_eq_true, false_implies, true_implies, implies_true, forall_const]
      exact yd_ok g2 (by omega) T ⟨rfl, zz_in G D⟩
    · have n1 : ¬ (0 : Int32) ≤ a_number x := by rw [N2 x hx k1]; exact wk_m1'
      simp only [cx, vx, n1, forall_eq, true_and, and_true, not_true_eq_false, not_false_eq_true, false_implies, true_implies, implies_true, forall_const]
      unfold wpY_common
      refine yb_ok g2 hx (br_t rfl (yt_ok G (fun seen live over T => ?_)))
      have m1 : live x = 0 := by rw [T.1 x (by omega)]; exact yb_f (fun q => k1 ((hR x).mpr q))
      simp only [cx, vx, m1, forall_eq, true_and, and_true, not_true_eq_false, not_false_eq_true, false_implies, true_implies, implies_true, forall_const]
      exact zz_in G D
theorem i_vc_below {k : Nat} {u : SX} {v : SY} (I : i_Rel k u v) (hk : k + 3 ≤ 1537) (v1 : Int32) : wpX_below (fun r u' => wpY_below (fun r' v' => r' = r ∧ i_Rel (k + 3) u' v') v v1) u v1 := by
  refine zz_el (P := fun u v => wpX_below (fun r u' => wpY_below (fun r' v' => r' = r ∧ i_Rel (k + 3) u' v') v v1) u v1) ?_ I
  intro n m tl hd f_reached f_current f_queued f_farthest a_tail a_head a_outFirst a_outNext a_inFirst a_inNext a_cursor a_stack a_number a_atNumber a_parent a_semi a_label a_ancestor a_bucketFirst a_bucketNext a_idom a_level a_size a_enter a_pathIndex a_from a_queue a_visited a_seen a_live a_over G C
  have g1 := G.1
  have g2 := G.2.1
  have bad : (v1 < 0 ∨ nI n ≤ v1) → wpX_below (fun r u' => wpY_below (fun r' v' => r' = r ∧ i_Rel (k + 3) u' v') (nI n, nI m, a_tail, a_head, a_seen, a_live, a_over) v1) ((nI n), (nI m), f_reached, f_current, f_queued, f_farthest, a_tail, a_head, a_outFirst, a_outNext, a_inFirst, a_inNext, a_cursor, a_stack, a_number, a_atNumber, a_parent, a_semi, a_label, a_ancestor, a_bucketFirst, a_bucketNext, a_idom, a_level, a_size, a_enter, a_pathIndex, a_from, a_queue, a_visited) v1 := by
    intro h
    unfold wpX_below
    refine iv_bad h (br_t rfl ?_)
    unfold wpY_below
    exact yb_bad h (br_f (by decide) ⟨rfl, zz_in G C⟩)
  rcases pk_ix v1 (n := n) (by omega) with h | h | ⟨x, hx, rfl⟩
  · exact bad (Or.inl h)
  · exact bad (Or.inr h)
  · have cx : (nI x).toNatClampNeg = x := nI_clamp (by omega)
    have vx : vp_in (nI x) 24 := vp_in_nI (by omega) (by decide)
    unfold wpX_below
    refine iv_ok g2 hx (br_f (by decide) ?_)
    refine rf_ok G C (fun a_outFirst a_outNext a_inFirst a_inNext a_cursor a_stack a_number a_atNumber a_parent a_semi a_label a_ancestor a_bucketFirst a_bucketNext a_idom a_level a_size a_enter f_reached f_current rc R d vt g en hc H => ?_)
    have D : gd_C n m tl hd f_current f_reached a_outFirst a_outNext a_inFirst a_inNext a_number a_idom a_level a_size a_enter := Or.inr ⟨hc, rc, R, d, vt, g, en, H⟩
    have H' := H
    obtain ⟨H1, H2, L, LE, hR, C1, C2, N1, N2, I1, V1, Z1, E1⟩ := H'
    dsimp only
    rcases Classical.em (R x) with k1 | k1
    · have n1 : (0 : Int32) ≤ a_number x := by rw [N1 x k1]; exact nI_pos' (by have := (L.2.1 x k1).2.1; omega)
      have z1 := Z1 x k1
      simp only [cx, vx, n1, z1, forall_eq, true_and, and_true, not_true_eq_false, not_false_eq_true, false_implies, true_implies, implies_true, forall_const]
      unfold wpY_below
      refine yb_ok g2 hx (br_t rfl (yt_ok G (fun seen live over T => ?_)))
      have m1 : ¬ live x = 0 := by rw [T.1 x (by omega)]; exact yb_t ((hR x).mp k1)
      simp only [cx, vx, m1, forall_eq, true_and, and_true, not_true_eq_false, not_false_eq_true, false_implies, true_implies, implies_true, forall_const]
      exact ⟨n + 1, ye_30 g2 (by omega) T ⟨rfl, zz_in G D⟩ n 0 (by omega) (n + 1) (by omega)⟩
    · have n1 : ¬ (0 : Int32) ≤ a_number x := by rw [N2 x hx k1]; exact wk_m1'
      simp only [cx, vx, n1, forall_eq, true_and, and_true, not_true_eq_false, not_false_eq_true, false_implies, true_implies, implies_true, forall_const]
      unfold wpY_below
      refine yb_ok g2 hx (br_t rfl (yt_ok G (fun seen live over T => ?_)))
      have m1 : live x = 0 := by rw [T.1 x (by omega)]; exact yb_f (fun q => k1 ((hR x).mpr q))
      simp only [cx, vx, m1, forall_eq, true_and, and_true, not_true_eq_false, not_false_eq_true, false_implies, true_implies, implies_true, forall_const]
      exact zz_in G D
theorem i_vc_children {k : Nat} {u : SX} {v : SY} (I : i_Rel k u v) (hk : k + 3 ≤ 1537) (v1 : Int32) : wpX_children (fun r u' => wpY_children (fun r' v' => r' = r ∧ i_Rel (k + 3) u' v') v v1) u v1 := by
  refine zz_el (P := fun u v => wpX_children (fun r u' => wpY_children (fun r' v' => r' = r ∧ i_Rel (k + 3) u' v') v v1) u v1) ?_ I
  intro n m tl hd f_reached f_current f_queued f_farthest a_tail a_head a_outFirst a_outNext a_inFirst a_inNext a_cursor a_stack a_number a_atNumber a_parent a_semi a_label a_ancestor a_bucketFirst a_bucketNext a_idom a_level a_size a_enter a_pathIndex a_from a_queue a_visited a_seen a_live a_over G C
  have g1 := G.1
  have g2 := G.2.1
  have bad : (v1 < 0 ∨ nI n ≤ v1) → wpX_children (fun r u' => wpY_children (fun r' v' => r' = r ∧ i_Rel (k + 3) u' v') (nI n, nI m, a_tail, a_head, a_seen, a_live, a_over) v1) ((nI n), (nI m), f_reached, f_current, f_queued, f_farthest, a_tail, a_head, a_outFirst, a_outNext, a_inFirst, a_inNext, a_cursor, a_stack, a_number, a_atNumber, a_parent, a_semi, a_label, a_ancestor, a_bucketFirst, a_bucketNext, a_idom, a_level, a_size, a_enter, a_pathIndex, a_from, a_queue, a_visited) v1 := by
    intro h
    unfold wpX_children
    refine iv_bad h (br_t rfl ?_)
    unfold wpY_children
    exact yb_bad h (br_f (by decide) ⟨rfl, zz_in G C⟩)
  rcases pk_ix v1 (n := n) (by omega) with h | h | ⟨x, hx, rfl⟩
  · exact bad (Or.inl h)
  · exact bad (Or.inr h)
  · have cx : (nI x).toNatClampNeg = x := nI_clamp (by omega)
    have vx : vp_in (nI x) 24 := vp_in_nI (by omega) (by decide)
    unfold wpX_children
    refine iv_ok g2 hx (br_f (by decide) ?_)
    refine rf_ok G C (fun a_outFirst a_outNext a_inFirst a_inNext a_cursor a_stack a_number a_atNumber a_parent a_semi a_label a_ancestor a_bucketFirst a_bucketNext a_idom a_level a_size a_enter f_reached f_current rc R d vt g en hc H => ?_)
    have D : gd_C n m tl hd f_current f_reached a_outFirst a_outNext a_inFirst a_inNext a_number a_idom a_level a_size a_enter := Or.inr ⟨hc, rc, R, d, vt, g, en, H⟩
    have H' := H
    obtain ⟨H1, H2, L, LE, hR, C1, C2, N1, N2, I1, V1, Z1, E1⟩ := H'
    dsimp only
    have c10 : ba_cn (fun y => 0 < y ∧ R y ∧ g y = x) 1 = 0 := by
      rw [ba_cns, ba_f (fun q => by omega)]; rfl
    rcases Classical.em (R x) with k1 | k1
    · have n1 : (0 : Int32) ≤ a_number x := by rw [N1 x k1]; exact nI_pos' (by have := (L.2.1 x k1).2.1; omega)
      simp only [cx, vx, n1, forall_eq, true_and, and_true, not_true_eq_false, not_false_eq_true, false_implies, true_implies, implies_true, forall_const]
      refine ⟨n, ?_⟩
      have X := cd_30 (post := fun r u' => wpY_children (fun r' v' => r' = r ∧ i_Rel (k + 3) u' v') (nI n, nI m, a_tail, a_head, a_seen, a_live, a_over) (nI x)) (u := x) (f_current := f_current) (f_queued := f_queued) (f_farthest := f_farthest) (a_tail := a_tail) (a_head := a_head) (a_cursor := a_cursor) (a_stack := a_stack) (a_atNumber := a_atNumber) (a_parent := a_parent) (a_semi := a_semi) (a_label := a_label) (a_ancestor := a_ancestor) (a_bucketFirst := a_bucketFirst) (a_bucketNext := a_bucketNext) (a_pathIndex := a_pathIndex) (a_from := a_from) (a_queue := a_queue) (a_visited := a_visited)
        g2 H hx ?_ (n - 1) 1 (by omega) (by omega) n (by omega)
      · rw [c10] at X
        exact X
      · unfold wpY_children
        refine yb_ok g2 hx (br_t rfl (yt_ok G (fun seen live over T => ?_)))
        have m1 : ¬ live x = 0 := by rw [T.1 x (by omega)]; exact yb_t ((hR x).mp k1)
        simp only [cx, vx, m1, forall_eq, true_and, and_true, not_true_eq_false, not_false_eq_true, false_implies, true_implies, implies_true, forall_const]
        refine ⟨n, ?_⟩
        refine wk_at (P := fun z => wY_children_30 _ (nI x) (nI n) (nI m) a_tail a_head seen live over n z 1) (show (0 : Int32) = nI (ba_cn (fun y => 0 < y ∧ R y ∧ g y = x) 1) by rw [c10]; rfl) ?_
        exact yk_30 g2 L hR hx T ⟨rfl, zz_in G D⟩ (n - 1) 1 (by omega) (by omega) n (by omega)
    · have n1 : ¬ (0 : Int32) ≤ a_number x := by rw [N2 x hx k1]; exact wk_m1'
      simp only [cx, vx, n1, forall_eq, true_and, and_true, not_true_eq_false, not_false_eq_true, false_implies, true_implies, implies_true, forall_const]
      unfold wpY_children
      refine yb_ok g2 hx (br_t rfl (yt_ok G (fun seen live over T => ?_)))
      have m1 : live x = 0 := by rw [T.1 x (by omega)]; exact yb_f (fun q => k1 ((hR x).mpr q))
      simp only [cx, vx, m1, forall_eq, true_and, and_true, not_true_eq_false, not_false_eq_true, false_implies, true_implies, implies_true, forall_const]
      exact zz_in G D
end
section
/-! the questions about two vertices, about edges, about all -/
theorem i_vc_dominates {k : Nat} {u : SX} {v : SY} (I : i_Rel k u v) (hk : k + 3 ≤ 1537) (v1 : Int32) (v2 : Int32) : wpX_dominates (fun r u' => wpY_dominates (fun r' v' => r' = r ∧ i_Rel (k + 3) u' v') v v1 v2) u v1 v2 := by
  refine zz_el (P := fun u v => wpX_dominates (fun r u' => wpY_dominates (fun r' v' => r' = r ∧ i_Rel (k + 3) u' v') v v1 v2) u v1 v2) ?_ I
  intro n m tl hd f_reached f_current f_queued f_farthest a_tail a_head a_outFirst a_outNext a_inFirst a_inNext a_cursor a_stack a_number a_atNumber a_parent a_semi a_label a_ancestor a_bucketFirst a_bucketNext a_idom a_level a_size a_enter a_pathIndex a_from a_queue a_visited a_seen a_live a_over G C
  have g1 := G.1
  have g2 := G.2.1
  have bad1 : (v1 < 0 ∨ nI n ≤ v1) → wpX_dominates (fun r u' => wpY_dominates (fun r' v' => r' = r ∧ i_Rel (k + 3) u' v') (nI n, nI m, a_tail, a_head, a_seen, a_live, a_over) v1 v2) ((nI n), (nI m), f_reached, f_current, f_queued, f_farthest, a_tail, a_head, a_outFirst, a_outNext, a_inFirst, a_inNext, a_cursor, a_stack, a_number, a_atNumber, a_parent, a_semi, a_label, a_ancestor, a_bucketFirst, a_bucketNext, a_idom, a_level, a_size, a_enter, a_pathIndex, a_from, a_queue, a_visited) v1 v2 := by
    intro h
    unfold wpX_dominates
    refine iv_bad h (br_t rfl ?_)
    unfold wpY_dominates
    exact yb_bad h (br_f (by decide) ⟨rfl, zz_in G C⟩)
  rcases pk_ix v1 (n := n) (by omega) with h | h | ⟨x, hx, rfl⟩
  · exact bad1 (Or.inl h)
  · exact bad1 (Or.inr h)
  · have bad2 : (v2 < 0 ∨ nI n ≤ v2) → wpX_dominates (fun r u' => wpY_dominates (fun r' v' => r' = r ∧ i_Rel (k + 3) u' v') (nI n, nI m, a_tail, a_head, a_seen, a_live, a_over) (nI x) v2) ((nI n), (nI m), f_reached, f_current, f_queued, f_farthest, a_tail, a_head, a_outFirst, a_outNext, a_inFirst, a_inNext, a_cursor, a_stack, a_number, a_atNumber, a_parent, a_semi, a_label, a_ancestor, a_bucketFirst, a_bucketNext, a_idom, a_level, a_size, a_enter, a_pathIndex, a_from, a_queue, a_visited) (nI x) v2 := by
      intro h
      unfold wpX_dominates
      refine iv_ok g2 hx (br_f (by decide) (iv_bad h (br_t rfl ?_)))
      unfold wpY_dominates
      exact yb_ok g2 hx (br_t rfl (yb_bad h (br_f (by decide) ⟨rfl, zz_in G C⟩)))
    rcases pk_ix v2 (n := n) (by omega) with h | h | ⟨y, hy, rfl⟩
    · exact bad2 (Or.inl h)
    · exact bad2 (Or.inr h)
    · have cx : (nI x).toNatClampNeg = x := nI_clamp (by omega)
      have vx : vp_in (nI x) 24 := vp_in_nI (by omega) (by decide)
      have cy : (nI y).toNatClampNeg = y := nI_clamp (by omega)
      have vy : vp_in (nI y) 24 := vp_in_nI (by omega) (by decide)
      have co : (nI (24 * x + y)).toNatClampNeg = 24 * x + y := nI_clamp (by omega)
      have vo : vp_in (nI (24 * x + y)) 576 := vp_in_nI (by omega) (by decide)
      unfold wpX_dominates
      refine iv_ok g2 hx (br_f (by decide) (iv_ok g2 hy (br_f (by decide) ?_)))
      refine rf_ok G C (fun a_outFirst a_outNext a_inFirst a_inNext a_cursor a_stack a_number a_atNumber a_parent a_semi a_label a_ancestor a_bucketFirst a_bucketNext a_idom a_level a_size a_enter f_reached f_current rc R d vt g en hc H => ?_)
      have D : gd_C n m tl hd f_current f_reached a_outFirst a_outNext a_inFirst a_inNext a_number a_idom a_level a_size a_enter := Or.inr ⟨hc, rc, R, d, vt, g, en, H⟩
      have H' := H
      obtain ⟨H1, H2, L, LE, hR, C1, C2, N1, N2, I1, V1, Z1, E1⟩ := H'
      dsimp only
      rcases Classical.em (R y) with k1 | k1
      · have n1 : (0 : Int32) ≤ a_number y := by rw [N1 y k1]; exact nI_pos' (by have := (L.2.1 y k1).2.1; omega)
        simp only [cy, vy, n1, forall_eq, true_and, and_true, not_true_eq_false, not_false_eq_true, false_implies, true_implies, implies_true, forall_const]
        refine ov_ok g2 H hx k1 (fun q => ?_) (fun q => ?_)
        · refine br_f (by decide) ?_
          unfold wpY_dominates
          refine yb_ok g2 hx (br_t rfl (yb_ok g2 hy (br_t rfl (yt_ok G (fun seen live over T => ?_)))))
          have m1 : ¬ live y = 0 := by rw [T.1 y (by omega)]; exact yb_t ((hR y).mp k1)
          have m2 : ¬ over (24 * x + y) = 0 := by rw [T.2 x y (by omega) (by omega)]; exact yb_t q
          simp only [cy, vy, m1, y24, nI_add, co, vo, m2, forall_eq, true_and, and_true, not_true_eq_false, not_false_eq_true, false_implies, true_implies, implies_true, forall_const]
          exact zz_in G D
        · refine br_t rfl ?_
          unfold wpY_dominates
          refine yb_ok g2 hx (br_t rfl (yb_ok g2 hy (br_t rfl (yt_ok G (fun seen live over T => ?_)))))
          have m1 : ¬ live y = 0 := by rw [T.1 y (by omega)]; exact yb_t ((hR y).mp k1)
          have m2 : over (24 * x + y) = 0 := by rw [T.2 x y (by omega) (by omega)]; exact yb_f q
          simp only [cy, vy, m1, y24, nI_add, co, vo, m2, forall_eq, true_and, and_true, not_true_eq_false, not_false_eq_true, false_implies, true_implies, implies_true, forall_const]
          exact zz_in G D
      · have n1 : ¬ (0 : Int32) ≤ a_number y := by rw [N2 y hy k1]; exact wk_m1'
        simp only [cy, vy, n1, forall_eq, true_and, and_true, not_true_eq_false, not_false_eq_true, false_implies, true_implies, implies_true, forall_const]
        unfold wpY_dominates
        refine yb_ok g2 hx (br_t rfl (yb_ok g2 hy (br_t rfl (yt_ok G (fun seen live over T => ?_)))))
        have m1 : live y = 0 := by rw [T.1 y (by omega)]; exact yb_f (fun q => k1 ((hR y).mpr q))
        simp only [cy, vy, m1, forall_eq, true_and, and_true, not_true_eq_false, not_false_eq_true, false_implies, true_implies, implies_true, forall_const]
        exact zz_in G D
theorem i_vc_nearest {k : Nat} {u : SX} {v : SY} (I : i_Rel k u v) (hk : k + 3 ≤ 1537) (v1 : Int32) (v2 : Int32) : wpX_nearest (fun r u' => wpY_nearest (fun r' v' => r' = r ∧ i_Rel (k + 3) u' v') v v1 v2) u v1 v2 := by
  refine zz_el (P := fun u v => wpX_nearest (fun r u' => wpY_nearest (fun r' v' => r' = r ∧ i_Rel (k + 3) u' v') v v1 v2) u v1 v2) ?_ I
  intro n m tl hd f_reached f_current f_queued f_farthest a_tail a_head a_outFirst a_outNext a_inFirst a_inNext a_cursor a_stack a_number a_atNumber a_parent a_semi a_label a_ancestor a_bucketFirst a_bucketNext a_idom a_level a_size a_enter a_pathIndex a_from a_queue a_visited a_seen a_live a_over G C
  have g1 := G.1
  have g2 := G.2.1
  have bad1 : (v1 < 0 ∨ nI n ≤ v1) → wpX_nearest (fun r u' => wpY_nearest (fun r' v' => r' = r ∧ i_Rel (k + 3) u' v') (nI n, nI m, a_tail, a_head, a_seen, a_live, a_over) v1 v2) ((nI n), (nI m), f_reached, f_current, f_queued, f_farthest, a_tail, a_head, a_outFirst, a_outNext, a_inFirst, a_inNext, a_cursor, a_stack, a_number, a_atNumber, a_parent, a_semi, a_label, a_ancestor, a_bucketFirst, a_bucketNext, a_idom, a_level, a_size, a_enter, a_pathIndex, a_from, a_queue, a_visited) v1 v2 := by
    intro h
    unfold wpX_nearest
    refine iv_bad h (br_t rfl ?_)
    unfold wpY_nearest
    exact yb_bad h (br_f (by decide) ⟨rfl, zz_in G C⟩)
  rcases pk_ix v1 (n := n) (by omega) with h | h | ⟨x, hx, rfl⟩
  · exact bad1 (Or.inl h)
  · exact bad1 (Or.inr h)
  · have bad2 : (v2 < 0 ∨ nI n ≤ v2) → wpX_nearest (fun r u' => wpY_nearest (fun r' v' => r' = r ∧ i_Rel (k + 3) u' v') (nI n, nI m, a_tail, a_head, a_seen, a_live, a_over) (nI x) v2) ((nI n), (nI m), f_reached, f_current, f_queued, f_farthest, a_tail, a_head, a_outFirst, a_outNext, a_inFirst, a_inNext, a_cursor, a_stack, a_number, a_atNumber, a_parent, a_semi, a_label, a_ancestor, a_bucketFirst, a_bucketNext, a_idom, a_level, a_size, a_enter, a_pathIndex, a_from, a_queue, a_visited) (nI x) v2 := by
      intro h
      unfold wpX_nearest
      refine iv_ok g2 hx (br_f (by decide) (iv_bad h (br_t rfl ?_)))
      unfold wpY_nearest
      exact yb_ok g2 hx (br_t rfl (yb_bad h (br_f (by decide) ⟨rfl, zz_in G C⟩)))
    rcases pk_ix v2 (n := n) (by omega) with h | h | ⟨y, hy, rfl⟩
    · exact bad2 (Or.inl h)
    · exact bad2 (Or.inr h)
    · have cx : (nI x).toNatClampNeg = x := nI_clamp (by omega)
      have vx : vp_in (nI x) 24 := vp_in_nI (by omega) (by decide)
      have cy : (nI y).toNatClampNeg = y := nI_clamp (by omega)
      have vy : vp_in (nI y) 24 := vp_in_nI (by omega) (by decide)
      have co : (nI (24 * x + y)).toNatClampNeg = 24 * x + y := nI_clamp (by omega)
      have vo : vp_in (nI (24 * x + y)) 576 := vp_in_nI (by omega) (by decide)
      unfold wpX_nearest
      refine iv_ok g2 hx (br_f (by decide) (iv_ok g2 hy (br_f (by decide) ?_)))
      refine rf_ok G C (fun a_outFirst a_outNext a_inFirst a_inNext a_cursor a_stack a_number a_atNumber a_parent a_semi a_label a_ancestor a_bucketFirst a_bucketNext a_idom a_level a_size a_enter f_reached f_current rc R d vt g en hc H => ?_)
      have D : gd_C n m tl hd f_current f_reached a_outFirst a_outNext a_inFirst a_inNext a_number a_idom a_level a_size a_enter := Or.inr ⟨hc, rc, R, d, vt, g, en, H⟩
      have H' := H
      obtain ⟨H1, H2, L, LE, hR, C1, C2, N1, N2, I1, V1, Z1, E1⟩ := H'
      dsimp only
      rcases Classical.em (R x) with k1 | k1
      · have n1 : ¬ a_number x < 0 := by rw [N1 x k1]; exact nI_pos (by have := (L.2.1 x k1).2.1; omega)
        rcases Classical.em (R y) with k2 | k2
        · have n2 : (0 : Int32) ≤ a_number y := by rw [N1 y k2]; exact nI_pos' (by have := (L.2.1 y k2).2.1; omega)
          simp only [cx, vx, n1, cy, vy, n2, forall_eq, true_and, and_true, not_true_eq_false, not_false_eq_true, false_implies, true_implies, implies_true, forall_const]
          refine ⟨n + 1, ?_⟩
          refine ne_48 g2 H k1 k2 (fun s hs hcs => ?_) n 0 (by omega) x k1 (la_r L k1) (fun w a _ => a) (by omega) (n + 1) (by omega)
          unfold wpY_nearest
          refine yb_ok g2 hx (br_t rfl (yb_ok g2 hy (br_t rfl (yt_ok G (fun seen live over T => ?_)))))
          have m1 : ¬ live x = 0 := by rw [T.1 x (by omega)]; exact yb_t ((hR x).mp k1)
          have m2 : ¬ live y = 0 := by rw [T.1 y (by omega)]; exact yb_t ((hR y).mp k2)
          simp only [cx, vx, m1, cy, vy, m2, forall_eq, true_and, and_true, not_true_eq_false, not_false_eq_true, false_implies, true_implies, implies_true, forall_const]
          exact ⟨n + 1, yn_51 g2 (by omega) (by omega) L hs hcs T ⟨rfl, zz_in G D⟩ n 0 (by omega) 0 0 (by omega) ⟨fun h => by omega, fun _ => br_Lp L hs⟩ (n + 1) (by omega)⟩
        · have n2 : ¬ (0 : Int32) ≤ a_number y := by rw [N2 y hy k2]; exact wk_m1'
          simp only [cx, vx, n1, cy, vy, n2, forall_eq, true_and, and_true, not_true_eq_false, not_false_eq_true, false_implies, true_implies, implies_true, forall_const]
          unfold wpY_nearest
          refine yb_ok g2 hx (br_t rfl (yb_ok g2 hy (br_t rfl (yt_ok G (fun seen live over T => ?_)))))
          have m1 : ¬ live x = 0 := by rw [T.1 x (by omega)]; exact yb_t ((hR x).mp k1)
          have m2 : live y = 0 := by rw [T.1 y (by omega)]; exact yb_f (fun q => k2 ((hR y).mpr q))
          simp only [cx, vx, m1, cy, vy, m2, forall_eq, true_and, and_true, not_true_eq_false, not_false_eq_true, false_implies, true_implies, implies_true, forall_const]
          exact zz_in G D
      · have n1 : a_number x < 0 := by rw [N2 x hx k1]; exact wk_m1
        simp only [cx, vx, n1, forall_eq, true_and, and_true, not_true_eq_false, not_false_eq_true, false_implies, true_implies, implies_true, forall_const]
        unfold wpY_nearest
        refine yb_ok g2 hx (br_t rfl (yb_ok g2 hy (br_t rfl (yt_ok G (fun seen live over T => ?_)))))
        have m1 : live x = 0 := by rw [T.1 x (by omega)]; exact yb_f (fun q => k1 ((hR x).mpr q))
        simp only [cx, vx, m1, forall_eq, true_and, and_true, not_true_eq_false, not_false_eq_true, false_implies, true_implies, implies_true, forall_const]
        exact zz_in G D
theorem i_vc_border {k : Nat} {u : SX} {v : SY} (I : i_Rel k u v) (hk : k + 3 ≤ 1537) (v1 : Int32) (v2 : Int32) : wpX_border (fun r u' => wpY_border (fun r' v' => r' = r ∧ i_Rel (k + 3) u' v') v v1 v2) u v1 v2 := by
  refine zz_el (P := fun u v => wpX_border (fun r u' => wpY_border (fun r' v' => r' = r ∧ i_Rel (k + 3) u' v') v v1 v2) u v1 v2) ?_ I
  intro n m tl hd f_reached f_current f_queued f_farthest a_tail a_head a_outFirst a_outNext a_inFirst a_inNext a_cursor a_stack a_number a_atNumber a_parent a_semi a_label a_ancestor a_bucketFirst a_bucketNext a_idom a_level a_size a_enter a_pathIndex a_from a_queue a_visited a_seen a_live a_over G C
  have g1 := G.1
  have g2 := G.2.1
  have bad1 : (v1 < 0 ∨ nI n ≤ v1) → wpX_border (fun r u' => wpY_border (fun r' v' => r' = r ∧ i_Rel (k + 3) u' v') (nI n, nI m, a_tail, a_head, a_seen, a_live, a_over) v1 v2) ((nI n), (nI m), f_reached, f_current, f_queued, f_farthest, a_tail, a_head, a_outFirst, a_outNext, a_inFirst, a_inNext, a_cursor, a_stack, a_number, a_atNumber, a_parent, a_semi, a_label, a_ancestor, a_bucketFirst, a_bucketNext, a_idom, a_level, a_size, a_enter, a_pathIndex, a_from, a_queue, a_visited) v1 v2 := by
    intro h
    unfold wpX_border
    refine iv_bad h (br_t rfl ?_)
    unfold wpY_border
    exact yb_bad h (br_f (by decide) ⟨rfl, zz_in G C⟩)
  rcases pk_ix v1 (n := n) (by omega) with h | h | ⟨x, hx, rfl⟩
  · exact bad1 (Or.inl h)
  · exact bad1 (Or.inr h)
  · have bad2 : (v2 < 0 ∨ nI n ≤ v2) → wpX_border (fun r u' => wpY_border (fun r' v' => r' = r ∧ i_Rel (k + 3) u' v') (nI n, nI m, a_tail, a_head, a_seen, a_live, a_over) (nI x) v2) ((nI n), (nI m), f_reached, f_current, f_queued, f_farthest, a_tail, a_head, a_outFirst, a_outNext, a_inFirst, a_inNext, a_cursor, a_stack, a_number, a_atNumber, a_parent, a_semi, a_label, a_ancestor, a_bucketFirst, a_bucketNext, a_idom, a_level, a_size, a_enter, a_pathIndex, a_from, a_queue, a_visited) (nI x) v2 := by
      intro h
      unfold wpX_border
      refine iv_ok g2 hx (br_f (by decide) (iv_bad h (br_t rfl ?_)))
      unfold wpY_border
      exact yb_ok g2 hx (br_t rfl (yb_bad h (br_f (by decide) ⟨rfl, zz_in G C⟩)))
    rcases pk_ix v2 (n := n) (by omega) with h | h | ⟨y, hy, rfl⟩
    · exact bad2 (Or.inl h)
    · exact bad2 (Or.inr h)
    · have cx : (nI x).toNatClampNeg = x := nI_clamp (by omega)
      have vx : vp_in (nI x) 24 := vp_in_nI (by omega) (by decide)
      have cy : (nI y).toNatClampNeg = y := nI_clamp (by omega)
      have vy : vp_in (nI y) 24 := vp_in_nI (by omega) (by decide)
      have co : (nI (24 * x + y)).toNatClampNeg = 24 * x + y := nI_clamp (by omega)
      have vo : vp_in (nI (24 * x + y)) 576 := vp_in_nI (by omega) (by decide)
      unfold wpX_border
      refine iv_ok g2 hx (br_f (by decide) (iv_ok g2 hy (br_f (by decide) ?_)))
      refine rf_ok G C (fun a_outFirst a_outNext a_inFirst a_inNext a_cursor a_stack a_number a_atNumber a_parent a_semi a_label a_ancestor a_bucketFirst a_bucketNext a_idom a_level a_size a_enter f_reached f_current rc R d vt g en hc H => ?_)
      have D : gd_C n m tl hd f_current f_reached a_outFirst a_outNext a_inFirst a_inNext a_number a_idom a_level a_size a_enter := Or.inr ⟨hc, rc, R, d, vt, g, en, H⟩
      have H' := H
      obtain ⟨H1, H2, L, LE, hR, C1, C2, N1, N2, I1, V1, Z1, E1⟩ := H'
      dsimp only
      rcases Classical.em (R x) with k1 | k1
      · have n1 : ¬ a_number x < 0 := by rw [N1 x k1]; exact nI_pos (by have := (L.2.1 x k1).2.1; omega)
        rcases Classical.em (R y) with k2 | k2
        · have n2 : (0 : Int32) ≤ a_number y := by rw [N1 y k2]; exact nI_pos' (by have := (L.2.1 y k2).2.1; omega)
          -- what the reference does once it scans the edges
          have YS : ∀ (r : Int32) (Q : SX), ((∃ e, e < m ∧ hd e = y ∧ re_D (re_E m tl hd 60) x (tl e)) → r = 1) → ((¬ ∃ e, e < m ∧ hd e = y ∧ re_D (re_E m tl hd 60) x (tl e)) → r = 0) → (x ≠ y → ¬ re_D (re_E m tl hd 60) x y) →
              (∀ seen live over : Nat → Int32, i_Rel (k + 3) Q (nI n, nI m, a_tail, a_head, seen, live, over)) → wpY_border (fun r' v' => r' = r ∧ i_Rel (k + 3) Q v') (nI n, nI m, a_tail, a_head, a_seen, a_live, a_over) (nI x) (nI y) := by
            intro r Q h1 h0 hxy hQ
            unfold wpY_border
            refine yb_ok g2 hx (br_t rfl (yb_ok g2 hy (br_t rfl (yt_ok G (fun seen live over T => ?_)))))
            have m1 : ¬ live x = 0 := by rw [T.1 x (by omega)]; exact yb_t ((hR x).mp k1)
            have m2 : ¬ live y = 0 := by rw [T.1 y (by omega)]; exact yb_t ((hR y).mp k2)
            have sc : ∃ n66 : Nat, wY_border_66 (fun r' v' => r' = r ∧ i_Rel (k + 3) Q v') (nI x) (nI y) (nI n) (nI m) a_tail a_head seen live over n66 0 :=
              ⟨m + 1, yo_66 G hx hy T (fun e => ⟨(h1 e).symm, hQ _ _ _⟩) (fun e => ⟨(h0 e).symm, hQ _ _ _⟩) m 0 (by omega) (fun e he => by omega) (m + 1) (by omega)⟩
            simp only [cx, vx, m1, cy, vy, m2, forall_eq, true_and, and_true, not_true_eq_false, not_false_eq_true, false_implies, true_implies, implies_true, forall_const]
            refine pk_eq x y (fun _ => sc) (fun z => ?_) rfl rfl (by omega) (by omega)
            have m3 : over (24 * x + y) = 0 := by rw [T.2 x y (by omega) (by omega)]; exact yb_f (hxy z)
            simp only [y24, nI_add, co, vo, m3, forall_eq, true_and, and_true, not_true_eq_false, not_false_eq_true, false_implies, true_implies, implies_true, forall_const]
            exact sc
          have XS : (x ≠ y → ¬ re_D (re_E m tl hd 60) x y) → ∃ n69 : Nat, wX_border_69 (fun r u' => wpY_border (fun r' v' => r' = r ∧ i_Rel (k + 3) u' v') (nI n, nI m, a_tail, a_head, a_seen, a_live, a_over) (nI x) (nI y)) (nI x) (nI n) (nI m) f_reached f_current f_queued f_farthest a_tail a_head a_outFirst a_outNext a_inFirst a_inNext a_cursor a_stack a_number a_atNumber a_parent a_semi a_label a_ancestor a_bucketFirst a_bucketNext a_idom a_level a_size a_enter a_pathIndex a_from a_queue a_visited n69 (a_inFirst y) 0 := by
            intro hxy
            refine ⟨61, ?_⟩
            exact bo_69 (v := y) G H hx (fun e => YS 1 _ (fun _ => rfl) (fun c => absurd e c) hxy (fun _ _ _ => zz_in G D)) (fun e => YS 0 _ (fun c => absurd c e) (fun _ => rfl) hxy (fun _ _ _ => zz_in G D)) 60 0 (by omega) 0 _ (by omega) (C2.1 y hy) (fun e he => by omega) 61 (by omega)
          simp only [cx, vx, n1, cy, vy, n2, forall_eq, true_and, and_true, not_true_eq_false, not_false_eq_true, false_implies, true_implies, implies_true, forall_const]
          refine pk_eq x y (fun z => XS (fun c => absurd z c)) (fun z => ?_) rfl rfl (by omega) (by omega)
          refine ov_ok g2 H hx k2 (fun q => br_f (by decide) ?_) (fun q => br_t rfl (XS (fun _ => q)))
          unfold wpY_border
          refine yb_ok g2 hx (br_t rfl (yb_ok g2 hy (br_t rfl (yt_ok G (fun seen live over T => ?_)))))
          have m1 : ¬ live x = 0 := by rw [T.1 x (by omega)]; exact yb_t ((hR x).mp k1)
          have m2 : ¬ live y = 0 := by rw [T.1 y (by omega)]; exact yb_t ((hR y).mp k2)
          have m3 : ¬ over (24 * x + y) = 0 := by rw [T.2 x y (by omega) (by omega)]; exact yb_t q
          have m4 : ¬ nI x = nI y := fun w => z ((nI_eq (by omega) (by omega)).mp w)
          simp only [cx, vx, m1, cy, vy, m2, m4, y24, nI_add, co, vo, m3, forall_eq, true_and, and_true, not_true_eq_false, not_false_eq_true, false_implies, true_implies, implies_true, forall_const]
          exact zz_in G D
        · have n2 : ¬ (0 : Int32) ≤ a_number y := by rw [N2 y hy k2]; exact wk_m1'
          simp only [cx, vx, n1, cy, vy, n2, forall_eq, true_and, and_true, not_true_eq_false, not_false_eq_true, false_implies, true_implies, implies_true, forall_const]
          unfold wpY_border
          refine yb_ok g2 hx (br_t rfl (yb_ok g2 hy (br_t rfl (yt_ok G (fun seen live over T => ?_)))))
          have m1 : ¬ live x = 0 := by rw [T.1 x (by omega)]; exact yb_t ((hR x).mp k1)
          have m2 : live y = 0 := by rw [T.1 y (by omega)]; exact yb_f (fun q => k2 ((hR y).mpr q))
          simp only [cx, vx, m1, cy, vy, m2, forall_eq, true_and, and_true, not_true_eq_false, not_false_eq_true, false_implies, true_implies, implies_true, forall_const]
          exact zz_in G D
      · have n1 : a_number x < 0 := by rw [N2 x hx k1]; exact wk_m1
        simp only [cx, vx, n1, forall_eq, true_and, and_true, not_true_eq_false, not_false_eq_true, false_implies, true_implies, implies_true, forall_const]
        unfold wpY_border
        refine yb_ok g2 hx (br_t rfl (yb_ok g2 hy (br_t rfl (yt_ok G (fun seen live over T => ?_)))))
        have m1 : live x = 0 := by rw [T.1 x (by omega)]; exact yb_f (fun q => k1 ((hR x).mpr q))
        simp only [cx, vx, m1, forall_eq, true_and, and_true, not_true_eq_false, not_false_eq_true, false_implies, true_implies, implies_true, forall_const]
        exact zz_in G D
end
section
/-! needs, reachableCount, bridges, height -/
theorem i_vc_needs {k : Nat} {u : SX} {v : SY} (I : i_Rel k u v) (hk : k + 3 ≤ 1537) (v1 : Int32) (v2 : Int32) : wpX_needs (fun r u' => wpY_needs (fun r' v' => r' = r ∧ i_Rel (k + 3) u' v') v v1 v2) u v1 v2 := by
  refine zz_el (P := fun u v => wpX_needs (fun r u' => wpY_needs (fun r' v' => r' = r ∧ i_Rel (k + 3) u' v') v v1 v2) u v1 v2) ?_ I
  intro n m tl hd f_reached f_current f_queued f_farthest a_tail a_head a_outFirst a_outNext a_inFirst a_inNext a_cursor a_stack a_number a_atNumber a_parent a_semi a_label a_ancestor a_bucketFirst a_bucketNext a_idom a_level a_size a_enter a_pathIndex a_from a_queue a_visited a_seen a_live a_over G C
  have G' := G
  obtain ⟨g1, g2, g3, g4⟩ := G'
  rcases pk_ix v1 (n := m) (by omega) with h | h | ⟨i, hi, rfl⟩
  · exact br_t h (br_t h ⟨rfl, zz_in G C⟩)
  · have h0 : ¬ v1 < nI m := Int32.not_lt.mpr h
    have h1 : ¬ v1 < 0 := fun q => absurd (Int32.lt_of_lt_of_le q (Int32.le_trans (nI_pos' (by omega)) h)) Int32.lt_irrefl
    exact br_f h1 (br_f h0 (br_f h1 (br_f h0 ⟨rfl, zz_in G C⟩)))
  · have h0 : nI i < nI m := nI_lt hi (by omega)
    have h1 : ¬ nI i < 0 := nI_pos (by omega)
    have ci : (nI i).toNatClampNeg = i := nI_clamp (by omega)
    have vi : vp_in (nI i) 60 := vp_in_nI (by omega) (by decide)
    have bad : (v2 < 0 ∨ nI n ≤ v2) → wpX_needs (fun r u' => wpY_needs (fun r' v' => r' = r ∧ i_Rel (k + 3) u' v') (nI n, nI m, a_tail, a_head, a_seen, a_live, a_over) (nI i) v2) ((nI n), (nI m), f_reached, f_current, f_queued, f_farthest, a_tail, a_head, a_outFirst, a_outNext, a_inFirst, a_inNext, a_cursor, a_stack, a_number, a_atNumber, a_parent, a_semi, a_label, a_ancestor, a_bucketFirst, a_bucketNext, a_idom, a_level, a_size, a_enter, a_pathIndex, a_from, a_queue, a_visited) (nI i) v2 := by
      intro h
      refine br_f h1 (br_t h0 (iv_bad h (br_t rfl ?_)))
      exact br_f h1 (br_t h0 (yb_bad h (br_f (by decide) ⟨rfl, zz_in G C⟩)))
    rcases pk_ix v2 (n := n) (by omega) with h | h | ⟨y, hy, rfl⟩
    · exact bad (Or.inl h)
    · exact bad (Or.inr h)
    · have cy : (nI y).toNatClampNeg = y := nI_clamp (by omega)
      have vy : vp_in (nI y) 24 := vp_in_nI (by omega) (by decide)
      unfold wpX_needs
      refine br_f h1 (br_t h0 (iv_ok g2 hy (br_f (by decide) ?_)))
      refine rf_ok G C (fun a_outFirst a_outNext a_inFirst a_inNext a_cursor a_stack a_number a_atNumber a_parent a_semi a_label a_ancestor a_bucketFirst a_bucketNext a_idom a_level a_size a_enter f_reached f_current rc R d vt g en hc H => ?_)
      have D : gd_C n m tl hd f_current f_reached a_outFirst a_outNext a_inFirst a_inNext a_number a_idom a_level a_size a_enter := Or.inr ⟨hc, rc, R, d, vt, g, en, H⟩
      have H' := H
      obtain ⟨H1, H2, L, LE, hR, C1, C2, N1, N2, I1, V1, Z1, E1⟩ := H'
      dsimp only
      obtain ⟨t1, t2, t3, t4⟩ := g4 i hi
      rcases Classical.em (R y) with k1 | k1
      · have n1 : (0 : Int32) ≤ a_number y := by rw [N1 y k1]; exact nI_pos' (by have := (L.2.1 y k1).2.1; omega)
        have key := br_iff g3 (fun e he => by have := (g4 e he).2.1; omega) L hR hi k1
        -- the reference
        have YS : ∀ (r : Int32) (Q : SX), ((br_B m tl hd R g i ∧ re_D (re_E m tl hd 60) (hd i) y) → r = 1) → (¬ (br_B m tl hd R g i ∧ re_D (re_E m tl hd 60) (hd i) y) → r = 0) →
            (∀ seen : Nat → Int32, i_Rel (k + 3) Q (nI n, nI m, a_tail, a_head, seen, a_live, a_over)) → wpY_needs (fun r' v' => r' = r ∧ i_Rel (k + 3) Q v') (nI n, nI m, a_tail, a_head, a_seen, a_live, a_over) (nI i) (nI y) := by
          intro r Q q1 q0 hQ
          unfold wpY_needs
          refine br_f h1 (br_t h0 (yb_ok g2 hy (br_t rfl (yr_ok G yr_n24 yr_n60 (fun seen hs => ?_)))))
          have m1 : ¬ seen y = 0 := by rw [hs y (by omega)]; exact yb_t ((hR y).mp k1)
          simp only [cy, vy, m1, forall_eq, true_and, and_true, not_true_eq_false, not_false_eq_true, false_implies, true_implies, implies_true, forall_const]
          refine yr_ok G yr_n24 (yr_i (i := i) (by omega)) (fun seen' hs' => ?_)
          rcases Classical.em (re_R (re_E m tl hd i) 24 y) with z | z
          · have m2 : ¬ seen' y = 0 := by rw [hs' y (by omega)]; exact yb_t z
            have e := q0 (fun w => key.mpr w z)
            simp only [cy, vy, m2, e, forall_eq, true_and, and_true, not_true_eq_false, not_false_eq_true, false_implies, true_implies, implies_true, forall_const]
            exact hQ _
          · have m2 : seen' y = 0 := by rw [hs' y (by omega)]; exact yb_f z
            have e := q1 (key.mp z)
            simp only [cy, vy, m2, e, forall_eq, true_and, and_true, not_true_eq_false, not_false_eq_true, false_implies, true_implies, implies_true, forall_const]
            exact hQ _
        simp only [cy, vy, n1, forall_eq, true_and, and_true, not_true_eq_false, not_false_eq_true, false_implies, true_implies, implies_true, forall_const]
        refine ib_ok G H hi (fun q => ?_) (fun q => ?_)
        · refine br_f (by decide) ⟨vi, ?_⟩
          simp only [ci, t4]
          refine ov_ok g2 H t2 k1 (fun q2 => ?_) (fun q2 => ?_)
          · exact br_f (by decide) (YS 1 _ (fun _ => rfl) (fun c => absurd ⟨q, q2⟩ c) (fun _ => zz_in G D))
          · exact br_t rfl (YS 0 _ (fun c => absurd c.2 q2) (fun _ => rfl) (fun _ => zz_in G D))
        · exact br_t rfl (YS 0 _ (fun c => absurd c.1 q) (fun _ => rfl) (fun _ => zz_in G D))
      · have n1 : ¬ (0 : Int32) ≤ a_number y := by rw [N2 y hy k1]; exact wk_m1'
        simp only [cy, vy, n1, forall_eq, true_and, and_true, not_true_eq_false, not_false_eq_true, false_implies, true_implies, implies_true, forall_const]
        unfold wpY_needs
        refine br_f h1 (br_t h0 (yb_ok g2 hy (br_t rfl (yr_ok G yr_n24 yr_n60 (fun seen hs => ?_)))))
        have m1 : seen y = 0 := by rw [hs y (by omega)]; exact yb_f (fun q => k1 ((hR y).mpr q))
        simp only [cy, vy, m1, forall_eq, true_and, and_true, not_true_eq_false, not_false_eq_true, false_implies, true_implies, implies_true, forall_const]
        exact zz_in G D
theorem i_vc_reachableCount {k : Nat} {u : SX} {v : SY} (I : i_Rel k u v) (hk : k + 3 ≤ 1537) : wpX_reachableCount (fun r u' => wpY_reachableCount (fun r' v' => r' = r ∧ i_Rel (k + 3) u' v') v) u := by
  refine zz_el (P := fun u v => wpX_reachableCount (fun r u' => wpY_reachableCount (fun r' v' => r' = r ∧ i_Rel (k + 3) u' v') v) u) ?_ I
  intro n m tl hd f_reached f_current f_queued f_farthest a_tail a_head a_outFirst a_outNext a_inFirst a_inNext a_cursor a_stack a_number a_atNumber a_parent a_semi a_label a_ancestor a_bucketFirst a_bucketNext a_idom a_level a_size a_enter a_pathIndex a_from a_queue a_visited a_seen a_live a_over G C
  have g2 := G.2.1
  unfold wpX_reachableCount
  refine rf_ok G C (fun a_outFirst a_outNext a_inFirst a_inNext a_cursor a_stack a_number a_atNumber a_parent a_semi a_label a_ancestor a_bucketFirst a_bucketNext a_idom a_level a_size a_enter f_reached f_current rc R d vt g en hc H => ?_)
  have D : gd_C n m tl hd f_current f_reached a_outFirst a_outNext a_inFirst a_inNext a_number a_idom a_level a_size a_enter := Or.inr ⟨hc, rc, R, d, vt, g, en, H⟩
  have H' := H
  obtain ⟨H1, H2, L, LE, hR, C1, C2, N1, N2, I1, V1, Z1, E1⟩ := H'
  dsimp only
  unfold wpY_reachableCount
  refine yt_ok G (fun seen live over T => ?_)
  dsimp only
  have e : ba_cn (fun x => re_R (re_E m tl hd 60) 24 x) n = rc := by
    rw [← rn_ok L]
    exact ba_cn_congr (fun j _ => (hR j).symm)
  exact ⟨n + 1, yc_8 g2 T ⟨by rw [e]; exact H1.symm, zz_in G D⟩ n 0 (by omega) (n + 1) (by omega)⟩
theorem i_vc_bridges {k : Nat} {u : SX} {v : SY} (I : i_Rel k u v) (hk : k + 3 ≤ 1537) : wpX_bridges (fun r u' => wpY_bridges (fun r' v' => r' = r ∧ i_Rel (k + 3) u' v') v) u := by
  refine zz_el (P := fun u v => wpX_bridges (fun r u' => wpY_bridges (fun r' v' => r' = r ∧ i_Rel (k + 3) u' v') v) u) ?_ I
  intro n m tl hd f_reached f_current f_queued f_farthest a_tail a_head a_outFirst a_outNext a_inFirst a_inNext a_cursor a_stack a_number a_atNumber a_parent a_semi a_label a_ancestor a_bucketFirst a_bucketNext a_idom a_level a_size a_enter a_pathIndex a_from a_queue a_visited a_seen a_live a_over G C
  have G' := G
  obtain ⟨g1, g2, g3, g4⟩ := G'
  unfold wpX_bridges
  refine rf_ok G C (fun a_outFirst a_outNext a_inFirst a_inNext a_cursor a_stack a_number a_atNumber a_parent a_semi a_label a_ancestor a_bucketFirst a_bucketNext a_idom a_level a_size a_enter f_reached f_current rc R d vt g en hc H => ?_)
  have D : gd_C n m tl hd f_current f_reached a_outFirst a_outNext a_inFirst a_inNext a_number a_idom a_level a_size a_enter := Or.inr ⟨hc, rc, R, d, vt, g, en, H⟩
  have H' := H
  obtain ⟨H1, H2, L, LE, hR, C1, C2, N1, N2, I1, V1, Z1, E1⟩ := H'
  dsimp only
  refine ⟨m + 1, bs_8 G H ?_ m 0 (by omega) (m + 1) (by omega)⟩
  unfold wpY_bridges
  refine yt_ok G (fun seen live over T => ?_)
  dsimp only
  refine ⟨m + 1, yz_8 G T (B := br_B m tl hd R g) (fun i hi => ?_) (fun seen' => ⟨rfl, zz_in G D⟩) m 0 (by omega) seen (m + 1) (by omega)⟩
  rw [← br_ex g3 (fun e he => by have := (g4 e he).2.1; omega) L hR hi]
  exact ⟨fun ⟨v, a, b, c⟩ => ⟨v, a, (hR v).mpr b, c⟩, fun ⟨v, a, b, c⟩ => ⟨v, a, (hR v).mp b, c⟩⟩
theorem i_vc_height {k : Nat} {u : SX} {v : SY} (I : i_Rel k u v) (hk : k + 3 ≤ 1537) : wpX_height (fun r u' => wpY_height (fun r' v' => r' = r ∧ i_Rel (k + 3) u' v') v) u := by
  refine zz_el (P := fun u v => wpX_height (fun r u' => wpY_height (fun r' v' => r' = r ∧ i_Rel (k + 3) u' v') v) u) ?_ I
  intro n m tl hd f_reached f_current f_queued f_farthest a_tail a_head a_outFirst a_outNext a_inFirst a_inNext a_cursor a_stack a_number a_atNumber a_parent a_semi a_label a_ancestor a_bucketFirst a_bucketNext a_idom a_level a_size a_enter a_pathIndex a_from a_queue a_visited a_seen a_live a_over G C
  have g2 := G.2.1
  unfold wpX_height
  refine rf_ok G C (fun a_outFirst a_outNext a_inFirst a_inNext a_cursor a_stack a_number a_atNumber a_parent a_semi a_label a_ancestor a_bucketFirst a_bucketNext a_idom a_level a_size a_enter f_reached f_current rc R d vt g en hc H => ?_)
  have D : gd_C n m tl hd f_current f_reached a_outFirst a_outNext a_inFirst a_inNext a_number a_idom a_level a_size a_enter := Or.inr ⟨hc, rc, R, d, vt, g, en, H⟩
  have H' := H
  obtain ⟨H1, H2, L, LE, hR, C1, C2, N1, N2, I1, V1, Z1, E1⟩ := H'
  dsimp only
  refine ⟨n + 1, hg_8 g2 H ?_ n 0 (by omega) (n + 1) (by omega)⟩
  unfold wpY_height
  refine yt_ok G (fun seen live over T => ?_)
  dsimp only
  exact ⟨n + 1, yh_8 g2 hR T ⟨rfl, zz_in G D⟩ n 0 (by omega) (n + 1) (by omega)⟩
end
