section
/-! whole numbers as ints -/
def sw_z (z : Int) : Int32 := Int32.ofInt z
theorem sw_zn (n : Nat) : nI n = sw_z (n : Int) := Int32.ofInt_eq_ofNat.symm
theorem sw_add (a b : Int) : sw_z a + sw_z b = sw_z (a + b) := (Int32.ofInt_add a b).symm
theorem sw_sub (a b : Int) : sw_z a - sw_z b = sw_z (a - b) := (Int32.ofInt_sub a b).symm
theorem sw_mul (a b : Int) : sw_z a * sw_z b = sw_z (a * b) := (Int32.ofInt_mul a b).symm
theorem sw_ti {a : Int} (h : -2147483648 ≤ a ∧ a < 2147483648) : (sw_z a).toInt = a := Int32.toInt_ofInt_of_le (by omega) (by omega)
theorem sw_le {a b : Int} (ha : -2147483648 ≤ a ∧ a < 2147483648) (hb : -2147483648 ≤ b ∧ b < 2147483648) : sw_z a ≤ sw_z b ↔ a ≤ b := by
  rw [Int32.le_iff_toInt_le, sw_ti ha, sw_ti hb]
theorem sw_lt {a b : Int} (ha : -2147483648 ≤ a ∧ a < 2147483648) (hb : -2147483648 ≤ b ∧ b < 2147483648) : sw_z a < sw_z b ↔ a < b := by
  rw [Int32.lt_iff_toInt_lt, sw_ti ha, sw_ti hb]
theorem sw_eq {a b : Int} (ha : -2147483648 ≤ a ∧ a < 2147483648) (hb : -2147483648 ≤ b ∧ b < 2147483648) : sw_z a = sw_z b ↔ a = b := by
  rw [← Int32.toInt_inj, sw_ti ha, sw_ti hb]
theorem sw_ble {x y : Int32} {A B : Prop} (a b : Int) (hx : x = sw_z a) (hy : y = sw_z b) (f : a ≤ b → A) (g : b < a → B) (ha : -2147483648 ≤ a ∧ a < 2147483648 := by omega) (hb : -2147483648 ≤ b ∧ b < 2147483648 := by omega) : (x ≤ y → A) ∧ (¬ x ≤ y → B) := by
  subst hx hy
  rw [sw_le ha hb]
  exact ⟨f, fun z => g (by omega)⟩
theorem sw_blt {x y : Int32} {A B : Prop} (a b : Int) (hx : x = sw_z a) (hy : y = sw_z b) (f : a < b → A) (g : b ≤ a → B) (ha : -2147483648 ≤ a ∧ a < 2147483648 := by omega) (hb : -2147483648 ≤ b ∧ b < 2147483648 := by omega) : (x < y → A) ∧ (¬ x < y → B) := by
  subst hx hy
  rw [sw_lt ha hb]
  exact ⟨f, fun z => g (by omega)⟩
theorem sw_beq {x y : Int32} {A B : Prop} (a b : Int) (hx : x = sw_z a) (hy : y = sw_z b) (f : a = b → A) (g : a ≠ b → B) (ha : -2147483648 ≤ a ∧ a < 2147483648 := by omega) (hb : -2147483648 ≤ b ∧ b < 2147483648 := by omega) : (x = y → A) ∧ (¬ x = y → B) := by
  subst hx hy
  rw [sw_eq ha hb]
  exact ⟨f, fun z => g z⟩
theorem sw_pos {a : Int} (h : 0 ≤ a) : ∃ n : Nat, a = (n : Int) ∧ sw_z a = nI n := by
  obtain ⟨n, hn⟩ := Int.eq_ofNat_of_zero_le h
  exact ⟨n, hn, by rw [hn]; exact (sw_zn n).symm⟩
theorem sw_k (c n : Nat) : nI c * nI n = nI (c * n) := pk_mul c n
/-! the lesser and the greater -/
def sw_mn (a b : Int32) : Int32 := if a ≤ b then a else b
def sw_mx (a b : Int32) : Int32 := if b ≤ a then a else b
theorem sw_mnT (a b : Int32) : (sw_mn a b).toInt = min a.toInt b.toInt := by
  unfold sw_mn
  by_cases h : a ≤ b
  · rw [if_pos h]
    rw [Int32.le_iff_toInt_le] at h
    omega
  · rw [if_neg h]
    rw [Int32.le_iff_toInt_le] at h
    omega
theorem sw_mxT (a b : Int32) : (sw_mx a b).toInt = max a.toInt b.toInt := by
  unfold sw_mx
  by_cases h : b ≤ a
  · rw [if_pos h]
    rw [Int32.le_iff_toInt_le] at h
    omega
  · rw [if_neg h]
    rw [Int32.le_iff_toInt_le] at h
    omega
/-! sums over the events that a predicate picks: how many, their sum, the least, the greatest -/
abbrev sw_T4 : Type := Nat × Int32 × Int32 × Int32
def sw_0 : sw_T4 := (0, 0, 1000, -1000)
def sw_in (g : sw_T4) (x : Int32) : sw_T4 := (g.1 + 1, g.2.1 + x, sw_mn g.2.2.1 x, sw_mx g.2.2.2 x)
def sw_j (g h : sw_T4) : sw_T4 := (g.1 + h.1, g.2.1 + h.2.1, sw_mn g.2.2.1 h.2.2.1, sw_mx g.2.2.2 h.2.2.2)
theorem sw_ext {g h : sw_T4} (h1 : g.1 = h.1) (h2 : g.2.1 = h.2.1) (h3 : g.2.2.1.toInt = h.2.2.1.toInt) (h4 : g.2.2.2.toInt = h.2.2.2.toInt) : g = h := by
  obtain ⟨a, b, c, d⟩ := g
  obtain ⟨a', b', c', d'⟩ := h
  have e3 : c = c' := Int32.toInt_inj.mp h3
  have e4 : d = d' := Int32.toInt_inj.mp h4
  have e1 : a = a' := h1
  have e2 : b = b' := h2
  rw [e1, e2, e3, e4]
theorem sw_jin (g h : sw_T4) (x : Int32) : sw_j (sw_in g x) h = sw_in (sw_j g h) x := by
  apply sw_ext
  · show g.1 + 1 + h.1 = g.1 + h.1 + 1
    omega
  · show g.2.1 + x + h.2.1 = g.2.1 + h.2.1 + x
    rw [Int32.add_assoc, Int32.add_assoc, Int32.add_comm x]
  · show (sw_mn (sw_mn g.2.2.1 x) h.2.2.1).toInt = (sw_mn (sw_mn g.2.2.1 h.2.2.1) x).toInt
    simp only [sw_mnT]
    omega
  · show (sw_mx (sw_mx g.2.2.2 x) h.2.2.2).toInt = (sw_mx (sw_mx g.2.2.2 h.2.2.2) x).toInt
    simp only [sw_mxT]
    omega
theorem sw_jni (g h : sw_T4) (x : Int32) : sw_j g (sw_in h x) = sw_in (sw_j g h) x := by
  apply sw_ext
  · show g.1 + (h.1 + 1) = g.1 + h.1 + 1
    omega
  · show g.2.1 + (h.2.1 + x) = g.2.1 + h.2.1 + x
    rw [Int32.add_assoc]
  · show (sw_mn g.2.2.1 (sw_mn h.2.2.1 x)).toInt = (sw_mn (sw_mn g.2.2.1 h.2.2.1) x).toInt
    simp only [sw_mnT]
    omega
  · show (sw_mx g.2.2.2 (sw_mx h.2.2.2 x)).toInt = (sw_mx (sw_mx g.2.2.2 h.2.2.2) x).toInt
    simp only [sw_mxT]
    omega
theorem sw_j00 : sw_j sw_0 sw_0 = sw_0 := by decide +kernel
def sw_ag (v : Nat → Int32) (P : Nat → Bool) : Nat → sw_T4
  | 0 => sw_0
  | n + 1 => if P n = true then sw_in (sw_ag v P n) (v n) else sw_ag v P n
theorem sw_ag_t {v : Nat → Int32} {P : Nat → Bool} {n : Nat} (h : P n = true) : sw_ag v P (n + 1) = sw_in (sw_ag v P n) (v n) := if_pos h
theorem sw_ag_f {v : Nat → Int32} {P : Nat → Bool} {n : Nat} (h : P n = false) : sw_ag v P (n + 1) = sw_ag v P n := if_neg (by rw [h]; decide)
theorem sw_agc {v : Nat → Int32} {P Q : Nat → Bool} : ∀ {n : Nat}, (∀ j, j < n → P j = Q j) → sw_ag v P n = sw_ag v Q n := by
  intro n
  induction n with
  | zero => intro _; rfl
  | succ n ih =>
    intro h
    have e := ih (fun j hj => h j (by omega))
    have e2 := h n (by omega)
    cases hq : Q n with
    | false => rw [sw_ag_f hq, sw_ag_f (by rw [e2, hq]), e]
    | true => rw [sw_ag_t hq, sw_ag_t (by rw [e2, hq]), e]
theorem sw_agj {v : Nat → Int32} {P Q R : Nat → Bool} : ∀ {n : Nat}, (∀ j, j < n → ¬ (P j = true ∧ Q j = true)) → (∀ j, j < n → R j = (P j || Q j)) → sw_ag v R n = sw_j (sw_ag v P n) (sw_ag v Q n) := by
  intro n
  induction n with
  | zero => intro _ _; exact sw_j00.symm
  | succ n ih =>
    intro h hR
    have e := ih (fun j hj => h j (by omega)) (fun j hj => hR j (by omega))
    have d := h n (by omega)
    have r := hR n (by omega)
    cases hp : P n with
    | false =>
      cases hq : Q n with
      | false => rw [sw_ag_f hp, sw_ag_f hq, sw_ag_f (by rw [r, hp, hq]; rfl), e]
      | true => rw [sw_ag_f hp, sw_ag_t hq, sw_ag_t (by rw [r, hp, hq]; rfl), e, sw_jni]
    | true =>
      cases hq : Q n with
      | false => rw [sw_ag_t hp, sw_ag_f hq, sw_ag_t (by rw [r, hp, hq]; rfl), e, sw_jin]
      | true => exact absurd ⟨hp, hq⟩ d
theorem sw_ag_c0 {v : Nat → Int32} {P : Nat → Bool} : ∀ {n : Nat}, (sw_ag v P n).1 = 0 → sw_ag v P n = sw_0 := by
  intro n
  induction n with
  | zero => intro _; rfl
  | succ n ih =>
    cases hp : P n with
    | false => rw [sw_ag_f hp]; exact ih
    | true =>
      rw [sw_ag_t hp]
      intro h
      have h' : (sw_ag v P n).1 + 1 = 0 := h
      omega
theorem sw_ag_none {v : Nat → Int32} {P : Nat → Bool} : ∀ {n : Nat}, (∀ j, j < n → P j = false) → sw_ag v P n = sw_0 := by
  intro n
  induction n with
  | zero => intro _; rfl
  | succ n ih =>
    intro h
    rw [sw_ag_f (h n (by omega))]
    exact ih (fun j hj => h j (by omega))
theorem sw_ag_pos {v : Nat → Int32} {P : Nat → Bool} : ∀ {n j : Nat}, j < n → P j = true → 0 < (sw_ag v P n).1 := by
  intro n
  induction n with
  | zero => intro j hj; omega
  | succ n ih =>
    intro j hj hp
    cases hn : P n with
    | true =>
      rw [sw_ag_t hn]
      show 0 < (sw_ag v P n).1 + 1
      omega
    | false =>
      rw [sw_ag_f hn]
      have : j ≠ n := fun e => by rw [e, hn] at hp; exact absurd hp (by decide)
      exact ih (by omega) hp
theorem sw_ag_ex {v : Nat → Int32} {P : Nat → Bool} : ∀ {n : Nat}, 0 < (sw_ag v P n).1 → ∃ j, j < n ∧ P j = true := by
  intro n
  induction n with
  | zero => intro h; exact absurd h (Nat.lt_irrefl 0)
  | succ n ih =>
    intro h
    cases hn : P n with
    | true => exact ⟨n, by omega, hn⟩
    | false =>
      rw [sw_ag_f hn] at h
      obtain ⟨j, hj, hp⟩ := ih h
      exact ⟨j, by omega, hp⟩
theorem sw_ag_le {v : Nat → Int32} {P : Nat → Bool} : ∀ {n : Nat}, (sw_ag v P n).1 ≤ n := by
  intro n
  induction n with
  | zero => exact Nat.le_refl 0
  | succ n ih =>
    cases hn : P n with
    | true =>
      rw [sw_ag_t hn]
      show (sw_ag v P n).1 + 1 ≤ n + 1
      omega
    | false =>
      rw [sw_ag_f hn]
      omega
theorem sw_ag_b {v : Nat → Int32} {P : Nat → Bool} : ∀ {n : Nat}, (sw_ag v P n).2.2.1.toInt ≤ 1000 ∧ -1000 ≤ (sw_ag v P n).2.2.2.toInt := by
  intro n
  induction n with
  | zero => exact ⟨show (1000 : Int32).toInt ≤ 1000 by decide, show -1000 ≤ (-1000 : Int32).toInt by decide⟩
  | succ n ih =>
    cases hn : P n with
    | true =>
      rw [sw_ag_t hn]
      show (sw_mn (sw_ag v P n).2.2.1 (v n)).toInt ≤ 1000 ∧ -1000 ≤ (sw_mx (sw_ag v P n).2.2.2 (v n)).toInt
      rw [sw_mnT, sw_mxT]
      omega
    | false =>
      rw [sw_ag_f hn]
      exact ih
theorem sw_j0 {v : Nat → Int32} {P : Nat → Bool} {n : Nat} : sw_j sw_0 (sw_ag v P n) = sw_ag v P n := by
  have hb := @sw_ag_b v P n
  have e1 : (1000 : Int32).toInt = 1000 := by decide
  have e2 : (-1000 : Int32).toInt = -1000 := by decide
  apply sw_ext
  · show 0 + (sw_ag v P n).1 = (sw_ag v P n).1
    omega
  · show 0 + (sw_ag v P n).2.1 = (sw_ag v P n).2.1
    exact Int32.zero_add _
  · show (sw_mn 1000 (sw_ag v P n).2.2.1).toInt = _
    rw [sw_mnT, e1]
    omega
  · show (sw_mx (-1000) (sw_ag v P n).2.2.2).toInt = _
    rw [sw_mxT, e2]
    omega
theorem sw_j0r {v : Nat → Int32} {P : Nat → Bool} {n : Nat} : sw_j (sw_ag v P n) sw_0 = sw_ag v P n := by
  have hb := @sw_ag_b v P n
  have e1 : (1000 : Int32).toInt = 1000 := by decide
  have e2 : (-1000 : Int32).toInt = -1000 := by decide
  apply sw_ext
  · show (sw_ag v P n).1 + 0 = (sw_ag v P n).1
    omega
  · show (sw_ag v P n).2.1 + 0 = (sw_ag v P n).2.1
    exact Int32.add_zero _
  · show (sw_mn (sw_ag v P n).2.2.1 1000).toInt = _
    rw [sw_mnT, e1]
    omega
  · show (sw_mx (sw_ag v P n).2.2.2 (-1000)).toInt = _
    rw [sw_mxT, e2]
    omega
/-- a value of the law's: small -/
def sw_v (x : Int32) : Prop := -50 ≤ x.toInt ∧ x.toInt ≤ 50
theorem sw_in0 {x : Int32} (h : sw_v x) : sw_in sw_0 x = (1, x, x, x) := by
  have e1 : (1000 : Int32).toInt = 1000 := by decide
  have e2 : (-1000 : Int32).toInt = -1000 := by decide
  obtain ⟨h1, h2⟩ := h
  apply sw_ext
  · show 0 + 1 = 1
    rfl
  · show 0 + x = x
    exact Int32.zero_add _
  · show (sw_mn 1000 x).toInt = x.toInt
    rw [sw_mnT, e1]
    omega
  · show (sw_mx (-1000) x).toInt = x.toInt
    rw [sw_mxT, e2]
    omega
end
section
/-! events: times te, keys ke, values ve -/
def sw_E (te ke : Nat → Nat) (ve : Nat → Int32) : Prop := (∀ j, te j < 64) ∧ (∀ j, te j ≤ te (j + 1)) ∧ (∀ j, ke j < 4) ∧ (∀ j, sw_v (ve j))
theorem sw_E_mono {te ke : Nat → Nat} {ve : Nat → Int32} (h : sw_E te ke ve) {i j : Nat} (hij : i ≤ j) : te i ≤ te j := by
  obtain ⟨d, rfl⟩ : ∃ d, j = i + d := ⟨j - i, by omega⟩
  induction d with
  | zero => exact Nat.le_refl _
  | succ d ih => exact Nat.le_trans (ih (by omega)) (h.2.1 (i + d))
def sw_P (te ke : Nat → Nat) (k : Nat) (a b : Int) : Nat → Bool := fun j => decide (ke j = k ∧ a ≤ (te j : Int) ∧ (te j : Int) < b)
/-- the events of a key in [a, b) among the first N -/
def sw_g (te ke : Nat → Nat) (ve : Nat → Int32) (k : Nat) (a b : Int) (N : Nat) : sw_T4 := sw_ag ve (sw_P te ke k a b) N
section
variable {te ke : Nat → Nat} {ve : Nat → Int32}
theorem sw_P_t {k j : Nat} {a b : Int} : sw_P te ke k a b j = true ↔ (ke j = k ∧ a ≤ (te j : Int) ∧ (te j : Int) < b) := decide_eq_true_iff
theorem sw_P_f {k j : Nat} {a b : Int} (h : ¬ (ke j = k ∧ a ≤ (te j : Int) ∧ (te j : Int) < b)) : sw_P te ke k a b j = false := decide_eq_false h
theorem sw_P_eq {k k' j : Nat} {a b a' b' : Int} (h : (ke j = k ∧ a ≤ (te j : Int) ∧ (te j : Int) < b) ↔ (ke j = k' ∧ a' ≤ (te j : Int) ∧ (te j : Int) < b')) : sw_P te ke k a b j = sw_P te ke k' a' b' j := decide_eq_decide.mpr h
theorem sw_g_j {k N : Nat} {a b c : Int} (h1 : a ≤ b) (h2 : b ≤ c) : sw_g te ke ve k a c N = sw_j (sw_g te ke ve k a b N) (sw_g te ke ve k b c N) := by
  refine sw_agj (fun j _ => ?_) (fun j _ => ?_)
  · rw [sw_P_t, sw_P_t]
    omega
  · unfold sw_P
    rw [← Bool.decide_or]
    apply decide_eq_decide.mpr
    omega
theorem sw_g_nil {k N : Nat} {a b : Int} (h : ∀ j, j < N → ke j = k → ¬ (a ≤ (te j : Int) ∧ (te j : Int) < b)) : sw_g te ke ve k a b N = sw_0 :=
  sw_ag_none (fun j hj => sw_P_f (fun t => h j hj t.1 t.2))
theorem sw_g_eq {k N : Nat} {a b a' b' : Int} (h : ∀ j, j < N → ke j = k → ((a ≤ (te j : Int) ∧ (te j : Int) < b) ↔ (a' ≤ (te j : Int) ∧ (te j : Int) < b'))) : sw_g te ke ve k a b N = sw_g te ke ve k a' b' N :=
  sw_agc (fun j hj => sw_P_eq ⟨fun t => ⟨t.1, (h j hj t.1).mp t.2⟩, fun t => ⟨t.1, (h j hj t.1).mpr t.2⟩⟩)
theorem sw_g_s1 {k N : Nat} {a b : Int} (h1 : ke N = k) (h2 : a ≤ (te N : Int)) (h3 : (te N : Int) < b) : sw_g te ke ve k a b (N + 1) = sw_in (sw_g te ke ve k a b N) (ve N) := sw_ag_t (sw_P_t.mpr ⟨h1, h2, h3⟩)
theorem sw_g_s0 {k N : Nat} {a b : Int} (h : ¬ (ke N = k ∧ a ≤ (te N : Int) ∧ (te N : Int) < b)) : sw_g te ke ve k a b (N + 1) = sw_g te ke ve k a b N := sw_ag_f (sw_P_f h)
theorem sw_g_pos {k N j : Nat} {a b : Int} (hj : j < N) (h1 : ke j = k) (h2 : a ≤ (te j : Int)) (h3 : (te j : Int) < b) : 0 < (sw_g te ke ve k a b N).1 := sw_ag_pos hj (sw_P_t.mpr ⟨h1, h2, h3⟩)
theorem sw_g_0 {k : Nat} {a b : Int} : sw_g te ke ve k a b 0 = sw_0 := rfl
/-- the closed events: those ahead of their key's bound -/
def sw_Q (te ke : Nat → Nat) (B : Nat → Int) : Nat → Bool := fun j => decide ((te j : Int) < B (ke j))
def sw_q (te ke : Nat → Nat) (ve : Nat → Int32) (B : Nat → Int) (N : Nat) : sw_T4 := sw_ag ve (sw_Q te ke B) N
theorem sw_q_s0 {N : Nat} {B : Nat → Int} (h : B (ke N) ≤ (te N : Int)) : sw_q te ke ve B (N + 1) = sw_q te ke ve B N := sw_ag_f (decide_eq_false (by omega))
theorem sw_q_up {N k : Nat} {B B' : Nat → Int} {b : Int} (h1 : B k ≤ b) (h2 : B' k = b) (h3 : ∀ i, i ≠ k → B' i = B i) : sw_q te ke ve B' N = sw_j (sw_q te ke ve B N) (sw_g te ke ve k (B k) b N) := by
  refine sw_agj (fun j _ => ?_) (fun j _ => ?_)
  · unfold sw_Q sw_P
    rw [decide_eq_true_iff, decide_eq_true_iff]
    intro t
    have e := t.2.1
    rw [← e] at t
    omega
  · unfold sw_Q sw_P
    rw [← Bool.decide_or]
    apply decide_eq_decide.mpr
    by_cases e : ke j = k
    · rw [e, h2]
      omega
    · rw [h3 _ e]
      omega
theorem sw_q_eq {N : Nat} {B B' : Nat → Int} (h : ∀ i, B' i = B i) : sw_q te ke ve B' N = sw_q te ke ve B N := by
  rw [show B' = B from funext h]
/-- what the class holds for such a sum -/
def sw_G (g : sw_T4) (c s l m : Int32) : Prop := c = nI g.1 ∧ s = g.2.1 ∧ (0 < g.1 → l = g.2.2.1 ∧ m = g.2.2.2)
theorem sw_G_0 {l m : Int32} : sw_G sw_0 0 0 l m := ⟨rfl, rfl, fun h => absurd h (by decide)⟩
/-! results: seven cells each -/
def sw_u7 (a : Nat → Int32) (R : Nat) (x0 x1 x2 x3 x4 x5 x6 : Int32) : Nat → Int32 := upd (upd (upd (upd (upd (upd (upd a (7 * R) x0) (7 * R + 1) x1) (7 * R + 2) x2) (7 * R + 3) x3) (7 * R + 4) x4) (7 * R + 5) x5) (7 * R + 6) x6
theorem sw_u7_lo {a : Nat → Int32} {R j : Nat} {x0 x1 x2 x3 x4 x5 x6 : Int32} (h : j < 7 * R) : sw_u7 a R x0 x1 x2 x3 x4 x5 x6 j = a j := by
  unfold sw_u7
  rw [pk_un (by omega), pk_un (by omega), pk_un (by omega), pk_un (by omega), pk_un (by omega), pk_un (by omega), pk_un (by omega)]
theorem sw_u7_at {a : Nat → Int32} {R : Nat} {x0 x1 x2 x3 x4 x5 x6 : Int32} : sw_u7 a R x0 x1 x2 x3 x4 x5 x6 (7 * R) = x0 ∧ sw_u7 a R x0 x1 x2 x3 x4 x5 x6 (7 * R + 1) = x1 ∧ sw_u7 a R x0 x1 x2 x3 x4 x5 x6 (7 * R + 2) = x2 ∧ sw_u7 a R x0 x1 x2 x3 x4 x5 x6 (7 * R + 3) = x3 ∧ sw_u7 a R x0 x1 x2 x3 x4 x5 x6 (7 * R + 4) = x4 ∧ sw_u7 a R x0 x1 x2 x3 x4 x5 x6 (7 * R + 5) = x5 ∧ sw_u7 a R x0 x1 x2 x3 x4 x5 x6 (7 * R + 6) = x6 := by
  unfold sw_u7
  refine ⟨?_, ?_, ?_, ?_, ?_, ?_, ?_⟩
  · rw [pk_un (by omega), pk_un (by omega), pk_un (by omega), pk_un (by omega), pk_un (by omega), pk_un (by omega), pk_us]
  · rw [pk_un (by omega), pk_un (by omega), pk_un (by omega), pk_un (by omega), pk_un (by omega), pk_us]
  · rw [pk_un (by omega), pk_un (by omega), pk_un (by omega), pk_un (by omega), pk_us]
  · rw [pk_un (by omega), pk_un (by omega), pk_un (by omega), pk_us]
  · rw [pk_un (by omega), pk_un (by omega), pk_us]
  · rw [pk_un (by omega), pk_us]
  · rw [pk_us]
/-- the sum of one column of the results -/
def sw_S (o : Nat) (a : Nat → Int32) : Nat → Int32
  | 0 => 0
  | n + 1 => sw_S o a n + a (7 * n + o)
theorem sw_S_c {o : Nat} {a b : Nat → Int32} : ∀ {n : Nat}, (∀ j, j < n → a (7 * j + o) = b (7 * j + o)) → sw_S o a n = sw_S o b n := by
  intro n
  induction n with
  | zero => intro _; rfl
  | succ n ih =>
    intro h
    show sw_S o a n + a (7 * n + o) = sw_S o b n + b (7 * n + o)
    rw [ih (fun j hj => h j (by omega)), h n (by omega)]
/-- one result is right: its key, start and end, and the sums over all events of the key in between -/
def sw_ro (te ke : Nat → Nat) (ve : Nat → Int32) (X : Int → Int → Prop) (N : Nat) (E : Int) (a : Nat → Int32) (i : Nat) : Prop :=
  ∃ (k : Nat) (s e : Int), k < 4 ∧ a (7 * i) = nI k ∧ a (7 * i + 1) = sw_z s ∧ a (7 * i + 2) = sw_z e ∧ -100 ≤ s ∧ s < e ∧ e ≤ E ∧ X s e ∧
    0 < (sw_g te ke ve k s e N).1 ∧ a (7 * i + 3) = nI (sw_g te ke ve k s e N).1 ∧ a (7 * i + 4) = (sw_g te ke ve k s e N).2.1 ∧ a (7 * i + 5) = (sw_g te ke ve k s e N).2.2.1 ∧ a (7 * i + 6) = (sw_g te ke ve k s e N).2.2.2
/-- the results so far: all right, their ends in order, E the last end (or less than all to come) -/
def sw_RS (te ke : Nat → Nat) (ve : Nat → Int32) (X : Int → Int → Prop) (N R : Nat) (E : Int) (a : Nat → Int32) : Prop :=
  (∀ i, i < R → sw_ro te ke ve X N E a i) ∧ (∀ i, i + 1 < R → (a (7 * i + 2)).toInt ≤ (a (7 * (i + 1) + 2)).toInt) ∧ E ≤ 64
theorem sw_ro_c {X : Int → Int → Prop} {N i : Nat} {E E' : Int} {a b : Nat → Int32} (h : sw_ro te ke ve X N E a i) (hE : E ≤ E') (hb : ∀ o, o < 7 → b (7 * i + o) = a (7 * i + o)) : sw_ro te ke ve X N E' b i := by
  obtain ⟨k, s, e, h1, h2, h3, h4, h5, h6, h7, h8, h9, h10, h11, h12, h13⟩ := h
  exact ⟨k, s, e, h1, (hb 0 (by omega)).trans h2, (hb 1 (by omega)).trans h3, (hb 2 (by omega)).trans h4, h5, h6, by omega, h8, h9, (hb 3 (by omega)).trans h10, (hb 4 (by omega)).trans h11, (hb 5 (by omega)).trans h12, (hb 6 (by omega)).trans h13⟩
theorem sw_RS_0 {X : Int → Int → Prop} {E : Int} {a : Nat → Int32} (hE : E ≤ 64) : sw_RS te ke ve X 0 0 E a := ⟨fun i hi => absurd hi (by omega), fun i hi => absurd hi (by omega), hE⟩
theorem sw_RS_ev {X : Int → Int → Prop} {N R : Nat} {E : Int} {a : Nat → Int32} (h : sw_RS te ke ve X N R E a) (hE : E ≤ (te N : Int)) : sw_RS te ke ve X (N + 1) R E a := by
  refine ⟨fun i hi => ?_, h.2.1, h.2.2⟩
  obtain ⟨k, s, e, h1, h2, h3, h4, h5, h6, h7, h8, hr⟩ := h.1 i hi
  refine ⟨k, s, e, h1, h2, h3, h4, h5, h6, h7, h8, ?_⟩
  rw [sw_g_s0 (N := N) (show ¬ (ke N = k ∧ s ≤ (te N : Int) ∧ (te N : Int) < e) by omega)]
  exact hr
theorem sw_RS_add {X : Int → Int → Prop} {N R k : Nat} {E s e : Int} {a : Nat → Int32} {c t l m : Int32} (h : sw_RS te ke ve X N R E a) (hk : k < 4) (hs : -100 ≤ s) (hse : s < e) (hE : E ≤ e) (he : e ≤ 64) (hX : X s e)
    (hp : 0 < (sw_g te ke ve k s e N).1) (hG : sw_G (sw_g te ke ve k s e N) c t l m) : sw_RS te ke ve X N (R + 1) e (sw_u7 a R (nI k) (sw_z s) (sw_z e) c t l m) := by
  obtain ⟨g1, g2, g3⟩ := hG
  obtain ⟨g4, g5⟩ := g3 hp
  obtain ⟨u0, u1, u2, u3, u4, u5, u6⟩ := @sw_u7_at a R (nI k) (sw_z s) (sw_z e) c t l m
  have lo : ∀ i, i < R → ∀ o, o < 7 → sw_u7 a R (nI k) (sw_z s) (sw_z e) c t l m (7 * i + o) = a (7 * i + o) := fun i hi o ho => sw_u7_lo (by omega)
  refine ⟨fun i hi => ?_, fun i hi => ?_, he⟩
  · by_cases ei : i = R
    · subst ei
      exact ⟨k, s, e, hk, u0, u1, u2, hs, hse, Int.le_refl e, hX, hp, by rw [u3, g1], by rw [u4, g2], by rw [u5, g4], by rw [u6, g5]⟩
    · exact sw_ro_c (h.1 i (by omega)) hE (lo i (by omega))
  · rw [lo i (by omega) 2 (by omega)]
    by_cases ei : i + 1 = R
    · obtain ⟨k', s', e', h1, h2, h3, h4, h5, h6, h7, _⟩ := h.1 i (by omega)
      rw [ei, u2, h4, sw_ti (by omega), sw_ti (by omega)]
      omega
    · rw [lo (i + 1) (by omega) 2 (by omega)]
      exact h.2.1 i (by omega)
theorem sw_RS_E {X : Int → Int → Prop} {N R : Nat} {E E' : Int} {a : Nat → Int32} (h : sw_RS te ke ve X N R E a) (hE : E ≤ E') (h2 : E' ≤ 64) : sw_RS te ke ve X N R E' a :=
  ⟨fun i hi => sw_ro_c (h.1 i hi) hE (fun _ _ => rfl), h.2.1, h2⟩
theorem sw_S_u7 {R : Nat} {a : Nat → Int32} {x0 x1 x2 x3 x4 x5 x6 : Int32} : sw_S 3 (sw_u7 a R x0 x1 x2 x3 x4 x5 x6) (R + 1) = sw_S 3 a R + x3 ∧ sw_S 4 (sw_u7 a R x0 x1 x2 x3 x4 x5 x6) (R + 1) = sw_S 4 a R + x4 := by
  obtain ⟨u0, u1, u2, u3, u4, u5, u6⟩ := @sw_u7_at a R x0 x1 x2 x3 x4 x5 x6
  constructor
  · show sw_S 3 (sw_u7 a R x0 x1 x2 x3 x4 x5 x6) R + _ = _
    rw [u3, sw_S_c (a := sw_u7 a R x0 x1 x2 x3 x4 x5 x6) (b := a) (fun j hj => sw_u7_lo (by omega))]
  · show sw_S 4 (sw_u7 a R x0 x1 x2 x3 x4 x5 x6) R + _ = _
    rw [u4, sw_S_c (a := sw_u7 a R x0 x1 x2 x3 x4 x5 x6) (b := a) (fun j hj => sw_u7_lo (by omega))]
/-- the sums over the results are those over the closed events -/
def sw_SQ (te ke : Nat → Nat) (ve : Nat → Int32) (B : Nat → Int) (N R : Nat) (a : Nat → Int32) : Prop := sw_S 3 a R = nI (sw_q te ke ve B N).1 ∧ sw_S 4 a R = (sw_q te ke ve B N).2.1
theorem sw_SQ_add {N R k : Nat} {B B' : Nat → Int} {b : Int} {a : Nat → Int32} {c t l m x0 x1 x2 : Int32} (h : sw_SQ te ke ve B N R a) (h1 : B k ≤ b) (h2 : B' k = b) (h3 : ∀ i, i ≠ k → B' i = B i) (hG : sw_G (sw_g te ke ve k (B k) b N) c t l m) :
    sw_SQ te ke ve B' N (R + 1) (sw_u7 a R x0 x1 x2 c t l m) := by
  obtain ⟨s3, s4⟩ := @sw_S_u7 R a x0 x1 x2 c t l m
  unfold sw_SQ
  rw [s3, s4, sw_q_up h1 h2 h3, h.1, h.2, hG.1, hG.2.1, nI_add]
  exact ⟨rfl, rfl⟩
theorem sw_SQ_skip {N R k : Nat} {B B' : Nat → Int} {b : Int} {a : Nat → Int32} (h : sw_SQ te ke ve B N R a) (h1 : B k ≤ b) (h2 : B' k = b) (h3 : ∀ i, i ≠ k → B' i = B i) (hG : (sw_g te ke ve k (B k) b N).1 = 0) :
    sw_SQ te ke ve B' N R a := by
  unfold sw_SQ
  rw [sw_q_up h1 h2 h3, show sw_g te ke ve k (B k) b N = sw_0 from sw_ag_c0 hG, show sw_j (sw_q te ke ve B N) sw_0 = sw_q te ke ve B N from sw_j0r]
  exact h
theorem sw_SQ_ev {N R : Nat} {B : Nat → Int} {a : Nat → Int32} (h : sw_SQ te ke ve B N R a) (hB : B (ke N) ≤ (te N : Int)) : sw_SQ te ke ve B (N + 1) R a := by
  unfold sw_SQ
  rw [sw_q_s0 hB]
  exact h
theorem sw_SQ_0 {B : Nat → Int} {a : Nat → Int32} : sw_SQ te ke ve B 0 0 a := ⟨rfl, rfl⟩
end
end
section
/-! steps of the printed predicates -/
theorem sw_ad {x : Int32} {n : Nat} (c : Nat) (h : x = nI n) : x + nI c = nI (n + c) := by rw [h, nI_add]
theorem sw_st {a : Nat → Int32} {v x : Int32} {N : Nat} {P : (Nat → Int32) → Prop} (n : Nat) (hx : x = nI n) (h : n < N) (H : P (upd a n v)) (hN : N < 2 ^ 31 := by omega) : vp_in x N ∧ ∀ b, b = upd a x.toNatClampNeg v → P b := by
  subst hx
  exact ⟨vp_in_nI h hN, nm_r (by rw [nI_clamp (by omega)]) H⟩
section
variable {kd wd pn lt mk lc nw rc km kl kw kr tc ts tl tm : Int32} {a1 a2 a3 a4 a5 a6 a7 a8 a9 a10 a11 a12 a13 a14 a15 a16 a17 a18 a19 a20 a21 a22 a23 a24 : Nat → Int32}
theorem sw_addResult {post : St2 → Prop} {R : Nat} {p0 p1 p2 : Int32} (hR : R < 300) (H : post (kd, wd, pn, lt, mk, lc, nw, (nI (R + 1)), km, kl, kw, kr, tc, ts, tl, tm, a1, a2, a3, a4, a5, a6, a7, a8, a9, a10, a11, a12, a13, a14, a15, a16, a17, a18, (sw_u7 a19 R p0 p1 p2 tc ts tl tm), a20, a21, a22, a23, a24)) : wpX_addResult post (kd, wd, pn, lt, mk, lc, nw, (nI R), km, kl, kw, kr, tc, ts, tl, tm, a1, a2, a3, a4, a5, a6, a7, a8, a9, a10, a11, a12, a13, a14, a15, a16, a17, a18, a19, a20, a21, a22, a23, a24) p0 p1 p2 := by
  have e0 : (7 : Int32) * nI R = nI (7 * R) := pk_mul 7 R
  unfold wpX_addResult
  refine nm_r e0 ?_
  exact sw_st (7 * R) rfl (by omega) (sw_st (7 * R + 1) (nI_add _ 1) (by omega) (sw_st (7 * R + 2) (nI_add _ 2) (by omega) (sw_st (7 * R + 3) (nI_add _ 3) (by omega) (sw_st (7 * R + 4) (nI_add _ 4) (by omega) (sw_st (7 * R + 5) (nI_add _ 5) (by omega) (sw_st (7 * R + 6) (nI_add _ 6) (by omega) (nm_r (nI_1 R) H)))))))
theorem sw_copy {post : St2 → Prop} {p0 p1 : Int32} (i j : Nat) (h0 : p0 = nI i) (h1 : p1 = nI j) (hi : i < 128) (hj : j < 128)
    (H : post (kd, wd, pn, lt, mk, lc, nw, rc, km, kl, kw, kr, tc, ts, tl, tm, a1, a2, a3, a4, a5, a6, a7, a8, a9, a10, a11, a12, (upd a13 j (a13 i)), (upd a14 j (a14 i)), (upd a15 j (a15 i)), (upd a16 j (a16 i)), (upd a17 j (a17 i)), (upd a18 j (a18 i)), a19, a20, a21, a22, a23, a24)) : wpX_copySession post (kd, wd, pn, lt, mk, lc, nw, rc, km, kl, kw, kr, tc, ts, tl, tm, a1, a2, a3, a4, a5, a6, a7, a8, a9, a10, a11, a12, a13, a14, a15, a16, a17, a18, a19, a20, a21, a22, a23, a24) p0 p1 := by
  subst h0 h1
  have c0 : (nI i).toNatClampNeg = i := nI_clamp (by omega)
  have c1 : (nI j).toNatClampNeg = j := nI_clamp (by omega)
  have v0 : vp_in (nI i) 128 := vp_in_nI hi (by omega)
  have v1 : vp_in (nI j) 128 := vp_in_nI hj (by omega)
  unfold wpX_copySession
  dsimp only
  rw [c0, c1]
  exact ⟨v0, v1, nm_e ⟨v0, v1, nm_e ⟨v0, v1, nm_e ⟨v0, v1, nm_e ⟨v0, v1, nm_e ⟨v0, v1, nm_e H⟩⟩⟩⟩⟩⟩
end
/-! a row of places moved down by one -/
def sw_sh (a : Nat → Int32) (lo hi : Nat) : Nat → Int32 := fun j => if lo ≤ j ∧ j < hi then a (j + 1) else a j
theorem sw_sh_s {a : Nat → Int32} {lo i : Nat} (h : lo ≤ i) : upd (sw_sh a lo i) i (sw_sh a lo i (i + 1)) = sw_sh a lo (i + 1) := by
  funext j
  unfold upd sw_sh
  by_cases e : j = i
  · subst e
    rw [if_pos rfl, if_neg (by omega), if_pos (by omega)]
  · rw [if_neg e]
    by_cases c : lo ≤ j ∧ j < i
    · rw [if_pos c, if_pos (by omega)]
    · rw [if_neg c, if_neg (by omega)]
theorem sw_sh_0 {a : Nat → Int32} {lo : Nat} : sw_sh a lo lo = a := by
  funext j
  unfold sw_sh
  rw [if_neg (by omega)]
theorem sw_sh_in {a : Nat → Int32} {lo hi j : Nat} (h : lo ≤ j ∧ j < hi) : sw_sh a lo hi j = a (j + 1) := if_pos h
theorem sw_sh_out {a : Nat → Int32} {lo hi j : Nat} (h : ¬ (lo ≤ j ∧ j < hi)) : sw_sh a lo hi j = a j := if_neg h
section
variable {kd wd pn lt mk lc nw rc km kl kw kr tc ts tl tm : Int32} {a1 a2 a3 a4 a5 a6 a7 a8 a9 a10 a11 a12 a13 a14 a15 a16 a17 a18 a19 a20 a21 a22 a23 a24 : Nat → Int32}
theorem sw_rem12 {post : St2 → Prop} {k ns lo : Nat} (hk : k < 4) (h12 : a12 k = nI ns) (hn : ns < 32)
    (H : post (kd, wd, pn, lt, mk, lc, nw, rc, km, kl, kw, kr, tc, ts, tl, tm, a1, a2, a3, a4, a5, a6, a7, a8, a9, a10, a11, a12, (sw_sh a13 lo (32 * k + ns)), (sw_sh a14 lo (32 * k + ns)), (sw_sh a15 lo (32 * k + ns)), (sw_sh a16 lo (32 * k + ns)), (sw_sh a17 lo (32 * k + ns)), (sw_sh a18 lo (32 * k + ns)), a19, a20, a21, a22, a23, a24)) :
    ∀ d i : Nat, i + d = 32 * k + ns → lo ≤ i → wX_removeSession_12 post (nI k) (d + 1) (nI i) kd wd pn lt mk lc nw rc km kl kw kr tc ts tl tm a1 a2 a3 a4 a5 a6 a7 a8 a9 a10 a11 a12 (sw_sh a13 lo i) (sw_sh a14 lo i) (sw_sh a15 lo i) (sw_sh a16 lo i) (sw_sh a17 lo i) (sw_sh a18 lo i) a19 a20 a21 a22 a23 a24 := by
  have e0 : (32 : Int32) * nI k + a12 (nI k).toNatClampNeg = nI (32 * k + ns) := by
    rw [nI_clamp (by omega), h12]
    exact sw_ad ns (pk_mul 32 k)
  intro d
  induction d with
  | zero =>
    intro i hi hlo
    have ei : i = 32 * k + ns := by omega
    subst ei
    exact ⟨pk_in k 4 hk, pk_le (32 * k + ns) (32 * k + ns) (fun _ => H) (fun z => absurd z (by omega)) e0 rfl⟩
  | succ d ih =>
    intro i hi hlo
    have t := ih (i + 1) (by omega) (by omega)
    rw [← sw_sh_s (a := a13) hlo, ← sw_sh_s (a := a14) hlo, ← sw_sh_s (a := a15) hlo, ← sw_sh_s (a := a16) hlo, ← sw_sh_s (a := a17) hlo, ← sw_sh_s (a := a18) hlo] at t
    exact ⟨pk_in k 4 hk, pk_le (32 * k + ns) i (fun z => absurd z (by omega)) (fun _ => sw_copy (i + 1) i (nI_1 i) rfl (by omega) (by omega) (nm_r (nI_1 i) t)) e0 rfl⟩
theorem sw_remove {post : St2 → Prop} {k ns : Nat} {p1 : Int32} (lo : Nat) (hk : k < 4) (h12 : a12 k = nI (ns + 1)) (hn : ns < 32) (hp : p1 = nI lo) (hlo : lo ≤ 32 * k + ns)
    (H : post (kd, wd, pn, lt, mk, lc, nw, rc, km, kl, kw, kr, tc, ts, tl, tm, a1, a2, a3, a4, a5, a6, a7, a8, a9, a10, a11, (upd a12 k (nI ns)), (sw_sh a13 lo (32 * k + ns)), (sw_sh a14 lo (32 * k + ns)), (sw_sh a15 lo (32 * k + ns)), (sw_sh a16 lo (32 * k + ns)), (sw_sh a17 lo (32 * k + ns)), (sw_sh a18 lo (32 * k + ns)), a19, a20, a21, a22, a23, a24)) :
    wpX_removeSession post (kd, wd, pn, lt, mk, lc, nw, rc, km, kl, kw, kr, tc, ts, tl, tm, a1, a2, a3, a4, a5, a6, a7, a8, a9, a10, a11, a12, a13, a14, a15, a16, a17, a18, a19, a20, a21, a22, a23, a24) (nI k) p1 := by
  subst hp
  have c0 : (nI k).toNatClampNeg = k := nI_clamp (by omega)
  unfold wpX_removeSession
  dsimp only
  rw [c0, h12, nI_pred ns]
  refine ⟨pk_in k 4 hk, pk_in k 4 hk, nm_e ⟨32 * k + ns - lo + 1, ?_⟩⟩
  have t := sw_rem12 (a12 := upd a12 k (nI ns)) (lo := lo) hk (by rw [pk_us]) hn H (32 * k + ns - lo) lo (by omega) (by omega)
  rw [sw_sh_0, sw_sh_0, sw_sh_0, sw_sh_0, sw_sh_0, sw_sh_0] at t
  exact t
/-! keep and crash -/
theorem sw_k275 {post : Int32 → St2 → Prop}
    (H : ∀ b24 : Nat → Int32, (∀ j, j < 768 → b24 j = a24 j) → (∀ j, j < 4 → b24 (768 + j) = a12 j) → post kr (kd, wd, pn, lt, mk, lc, nw, rc, km, kl, kw, kr, tc, ts, tl, tm, a1, a2, a3, a4, a5, a6, a7, a8, a9, a10, a11, a12, a13, a14, a15, a16, a17, a18, a19, a20, a21, a22, a23, b24)) :
    ∃ n, wX_keep_275 post kd wd pn lt mk lc nw rc km kl kw kr tc ts tl tm n 0 a1 a2 a3 a4 a5 a6 a7 a8 a9 a10 a11 a12 a13 a14 a15 a16 a17 a18 a19 a20 a21 a22 a23 a24 :=
  pk_loop (fun n i s => wX_keep_275 post kd wd pn lt mk lc nw rc km kl kw kr tc ts tl tm n (nI i) a1 a2 a3 a4 a5 a6 a7 a8 a9 a10 a11 a12 a13 a14 a15 a16 a17 a18 a19 a20 a21 a22 a23 s) (fun i s => (∀ j, j < 768 → s j = a24 j) ∧ (∀ j, j < i → s (768 + j) = a12 j)) 4 0 a24 (by omega) ⟨fun _ _ => rfl, fun j hj => absurd hj (by omega)⟩
    (fun n s h => pk_le 4 4 (fun _ => H s h.1 h.2) (fun z => absurd z (by omega)))
    (fun n i s hi h hw => pk_le 4 i (fun z => absurd z (by omega)) (fun _ => ⟨pk_in i 4 hi, sw_st (768 + i) (nI_add 768 i) (by omega) (nm_r (nI_1 i) (hw _ (by
      rw [nI_clamp (show i < 2 ^ 31 by omega)]
      refine ⟨fun j hj => ?_, fun j hj => ?_⟩
      · rw [pk_un (by omega)]
        exact h.1 j hj
      · by_cases e : j = i
        · rw [e, pk_us]
        · rw [pk_un (by omega)]
          exact h.2 j (by omega))))⟩))
theorem sw_k160 {post : Int32 → St2 → Prop}
    (H : ∀ b24 : Nat → Int32, (∀ j, j < 128 → b24 (6 * j) = a13 j ∧ b24 (6 * j + 1) = a14 j) → (∀ j, j < 4 → b24 (768 + j) = a12 j) → post kr (kd, wd, pn, lt, mk, lc, nw, rc, km, kl, kw, kr, tc, ts, tl, tm, a1, a2, a3, a4, a5, a6, a7, a8, a9, a10, a11, a12, a13, a14, a15, a16, a17, a18, a19, a20, a21, a22, a23, b24)) :
    ∃ n, wX_keep_160 post kd wd pn lt mk lc nw rc km kl kw kr tc ts tl tm n 0 a1 a2 a3 a4 a5 a6 a7 a8 a9 a10 a11 a12 a13 a14 a15 a16 a17 a18 a19 a20 a21 a22 a23 a24 :=
  pk_loop (fun n i s => wX_keep_160 post kd wd pn lt mk lc nw rc km kl kw kr tc ts tl tm n (nI i) a1 a2 a3 a4 a5 a6 a7 a8 a9 a10 a11 a12 a13 a14 a15 a16 a17 a18 a19 a20 a21 a22 a23 s) (fun i s => ∀ j, j < i → s (6 * j) = a13 j ∧ s (6 * j + 1) = a14 j) 128 0 a24 (by omega) (fun j hj => absurd hj (by omega))
    (fun n s h => pk_le 128 128 (fun _ => sw_k275 (fun b h1 h2 => H b (fun j hj => ⟨(h1 _ (by omega)).trans (h j hj).1, (h1 _ (by omega)).trans (h j hj).2⟩) h2)) (fun z => absurd z (by omega)))
    (fun n i s hi h hw => pk_le 128 i (fun z => absurd z (by omega)) (fun _ => ⟨pk_in i 128 hi, sw_st (6 * i) (pk_mul 6 i) (by omega) ⟨pk_in i 128 hi, sw_st (6 * i + 1) (sw_ad 1 (pk_mul 6 i)) (by omega) ⟨pk_in i 128 hi, sw_st (6 * i + 2) (sw_ad 2 (pk_mul 6 i)) (by omega) ⟨pk_in i 128 hi, sw_st (6 * i + 3) (sw_ad 3 (pk_mul 6 i)) (by omega) ⟨pk_in i 128 hi, sw_st (6 * i + 4) (sw_ad 4 (pk_mul 6 i)) (by omega) ⟨pk_in i 128 hi, sw_st (6 * i + 5) (sw_ad 5 (pk_mul 6 i)) (by omega) (nm_r (nI_1 i) (hw _ (by
      rw [nI_clamp (show i < 2 ^ 31 by omega)]
      intro j hj
      by_cases e : j = i
      · subst e
        constructor
        · rw [pk_un (by omega), pk_un (by omega), pk_un (by omega), pk_un (by omega), pk_un (by omega), pk_us]
        · rw [pk_un (by omega), pk_un (by omega), pk_un (by omega), pk_un (by omega), pk_us]
      · have t := h j (by omega)
        constructor
        · rw [pk_un (by omega), pk_un (by omega), pk_un (by omega), pk_un (by omega), pk_un (by omega), pk_un (by omega)]
          exact t.1
        · rw [pk_un (by omega), pk_un (by omega), pk_un (by omega), pk_un (by omega), pk_un (by omega), pk_un (by omega)]
          exact t.2)))⟩⟩⟩⟩⟩⟩))
theorem sw_k83 {post : Int32 → St2 → Prop}
    (H : ∀ b23 b24 : Nat → Int32, (∀ j, j < 128 → b24 (6 * j) = a13 j ∧ b24 (6 * j + 1) = a14 j) → (∀ j, j < 4 → b24 (768 + j) = a12 j) → post kr (kd, wd, pn, lt, mk, lc, nw, rc, km, kl, kw, kr, tc, ts, tl, tm, a1, a2, a3, a4, a5, a6, a7, a8, a9, a10, a11, a12, a13, a14, a15, a16, a17, a18, a19, a20, a21, a22, b23, b24)) :
    ∃ n, wX_keep_83 post kd wd pn lt mk lc nw rc km kl kw kr tc ts tl tm n 0 a1 a2 a3 a4 a5 a6 a7 a8 a9 a10 a11 a12 a13 a14 a15 a16 a17 a18 a19 a20 a21 a22 a23 a24 :=
  pk_loop (fun n i s => wX_keep_83 post kd wd pn lt mk lc nw rc km kl kw kr tc ts tl tm n (nI i) a1 a2 a3 a4 a5 a6 a7 a8 a9 a10 a11 a12 a13 a14 a15 a16 a17 a18 a19 a20 a21 a22 s a24) (fun _ _ => True) 256 0 a23 (by omega) trivial
    (fun n s h => pk_le 256 256 (fun _ => sw_k160 (H s)) (fun z => absurd z (by omega)))
    (fun n i s hi h hw => pk_le 256 i (fun z => absurd z (by omega)) (fun _ => ⟨pk_in i 256 hi, sw_st (4 * i) (pk_mul 4 i) (by omega) ⟨pk_in i 256 hi, sw_st (4 * i + 1) (sw_ad 1 (pk_mul 4 i)) (by omega) ⟨pk_in i 256 hi, sw_st (4 * i + 2) (sw_ad 2 (pk_mul 4 i)) (by omega) ⟨pk_in i 256 hi, sw_st (4 * i + 3) (sw_ad 3 (pk_mul 4 i)) (by omega) (nm_r (nI_1 i) (hw _ trivial))⟩⟩⟩⟩))
theorem sw_keep {post : Int32 → St2 → Prop}
    (H : ∀ b20 b21 b22 b23 b24 : Nat → Int32, (∀ j, j < 3 → b20 j = a5 j ∧ b21 j = a6 j ∧ b22 j = vp_nar .boolean (a7 j)) → (∀ j, j < 128 → b24 (6 * j) = a13 j ∧ b24 (6 * j + 1) = a14 j) → (∀ j, j < 4 → b24 (768 + j) = a12 j) →
      post rc (kd, wd, pn, lt, mk, lc, nw, rc, mk, lc, nw, rc, tc, ts, tl, tm, a1, a2, a3, a4, a5, a6, a7, a8, a9, a10, a11, a12, a13, a14, a15, a16, a17, a18, a19, b20, b21, b22, b23, b24)) :
    wpX_keep post (kd, wd, pn, lt, mk, lc, nw, rc, km, kl, kw, kr, tc, ts, tl, tm, a1, a2, a3, a4, a5, a6, a7, a8, a9, a10, a11, a12, a13, a14, a15, a16, a17, a18, a19, a20, a21, a22, a23, a24) :=
  pk_loop (fun n i (s : (Nat → Int32) × (Nat → Int32) × (Nat → Int32)) => wX_keep_2 post kd wd pn lt mk lc nw rc km kl kw kr tc ts tl tm n (nI i) a1 a2 a3 a4 a5 a6 a7 a8 a9 a10 a11 a12 a13 a14 a15 a16 a17 a18 a19 s.1 s.2.1 s.2.2 a23 a24) (fun i s => ∀ j, j < i → s.1 j = a5 j ∧ s.2.1 j = a6 j ∧ s.2.2 j = vp_nar .boolean (a7 j)) 3 0 (a20, a21, a22) (by omega) (fun j hj => absurd hj (by omega))
    (fun n s h => pk_le 3 3 (fun _ => sw_k83 (fun b23 b24 h1 h2 => H s.1 s.2.1 s.2.2 b23 b24 h h1 h2)) (fun z => absurd z (by omega)))
    (fun n i s hi h hw => pk_le 3 i (fun z => absurd z (by omega)) (fun _ => ⟨pk_in i 3 hi, sw_st i rfl (by omega) ⟨pk_in i 3 hi, sw_st i rfl (by omega) ⟨pk_in i 3 hi, sw_st i rfl (by omega) (nm_r (nI_1 i) (hw (upd s.1 i (a5 (nI i).toNatClampNeg), upd s.2.1 i (a6 (nI i).toNatClampNeg), upd s.2.2 i (vp_nar .boolean (a7 (nI i).toNatClampNeg))) (by
      rw [nI_clamp (show i < 2 ^ 31 by omega)]
      intro j hj
      dsimp only
      by_cases e : j = i
      · rw [e, pk_us, pk_us, pk_us]
        exact ⟨rfl, rfl, rfl⟩
      · rw [pk_un e, pk_un e, pk_un e]
        exact h j (by omega))))⟩⟩⟩))
theorem sw_c275 {post : Int32 → St2 → Prop}
    (H : ∀ b12 : Nat → Int32, (∀ j, j < 4 → b12 j = a24 (768 + j)) → post rc (kd, wd, pn, lt, mk, lc, nw, rc, km, kl, kw, kr, tc, ts, tl, tm, a1, a2, a3, a4, a5, a6, a7, a8, a9, a10, a11, b12, a13, a14, a15, a16, a17, a18, a19, a20, a21, a22, a23, a24)) :
    ∃ n, wX_crash_275 post kd wd pn lt mk lc nw rc km kl kw kr tc ts tl tm n 0 a1 a2 a3 a4 a5 a6 a7 a8 a9 a10 a11 a12 a13 a14 a15 a16 a17 a18 a19 a20 a21 a22 a23 a24 :=
  pk_loop (fun n i s => wX_crash_275 post kd wd pn lt mk lc nw rc km kl kw kr tc ts tl tm n (nI i) a1 a2 a3 a4 a5 a6 a7 a8 a9 a10 a11 s a13 a14 a15 a16 a17 a18 a19 a20 a21 a22 a23 a24) (fun i s => ∀ j, j < i → s j = a24 (768 + j)) 4 0 a12 (by omega) (fun j hj => absurd hj (by omega))
    (fun n s h => pk_le 4 4 (fun _ => H s h) (fun z => absurd z (by omega)))
    (fun n i s hi h hw => pk_le 4 i (fun z => absurd z (by omega)) (fun _ => ⟨pk_in (768 + i) 772 (by omega) (nI_add 768 i), sw_st i rfl (by omega) (nm_r (nI_1 i) (hw _ (by
      rw [pk_cl (768 + i) (show (768 : Int32) + nI i = nI (768 + i) from nI_add 768 i)]
      intro j hj
      by_cases e : j = i
      · rw [e, pk_us]
      · rw [pk_un e]
        exact h j (by omega))))⟩))
theorem sw_c160 {post : Int32 → St2 → Prop}
    (H : ∀ b12 b13 b14 b15 b16 b17 b18 : Nat → Int32, (∀ j, j < 128 → b13 j = a24 (6 * j) ∧ b14 j = a24 (6 * j + 1)) → (∀ j, j < 4 → b12 j = a24 (768 + j)) → post rc (kd, wd, pn, lt, mk, lc, nw, rc, km, kl, kw, kr, tc, ts, tl, tm, a1, a2, a3, a4, a5, a6, a7, a8, a9, a10, a11, b12, b13, b14, b15, b16, b17, b18, a19, a20, a21, a22, a23, a24)) :
    ∃ n, wX_crash_160 post kd wd pn lt mk lc nw rc km kl kw kr tc ts tl tm n 0 a1 a2 a3 a4 a5 a6 a7 a8 a9 a10 a11 a12 a13 a14 a15 a16 a17 a18 a19 a20 a21 a22 a23 a24 :=
  pk_loop (fun n i (s : (Nat → Int32) × (Nat → Int32) × (Nat → Int32) × (Nat → Int32) × (Nat → Int32) × (Nat → Int32)) => wX_crash_160 post kd wd pn lt mk lc nw rc km kl kw kr tc ts tl tm n (nI i) a1 a2 a3 a4 a5 a6 a7 a8 a9 a10 a11 a12 s.1 s.2.1 s.2.2.1 s.2.2.2.1 s.2.2.2.2.1 s.2.2.2.2.2 a19 a20 a21 a22 a23 a24) (fun i s => ∀ j, j < i → s.1 j = a24 (6 * j) ∧ s.2.1 j = a24 (6 * j + 1)) 128 0 (a13, a14, a15, a16, a17, a18) (by omega) (fun j hj => absurd hj (by omega))
    (fun n s h => pk_le 128 128 (fun _ => sw_c275 (fun b12 h2 => H b12 _ _ _ _ _ _ h h2)) (fun z => absurd z (by omega)))
    (fun n i s hi h hw => pk_le 128 i (fun z => absurd z (by omega)) (fun _ => ⟨pk_in (6 * i) 772 (by omega) (pk_mul 6 i), sw_st i rfl (by omega) ⟨pk_in (6 * i + 1) 772 (by omega) (sw_ad 1 (pk_mul 6 i)), sw_st i rfl (by omega) ⟨pk_in (6 * i + 2) 772 (by omega) (sw_ad 2 (pk_mul 6 i)), sw_st i rfl (by omega) ⟨pk_in (6 * i + 3) 772 (by omega) (sw_ad 3 (pk_mul 6 i)), sw_st i rfl (by omega) ⟨pk_in (6 * i + 4) 772 (by omega) (sw_ad 4 (pk_mul 6 i)), sw_st i rfl (by omega) ⟨pk_in (6 * i + 5) 772 (by omega) (sw_ad 5 (pk_mul 6 i)), sw_st i rfl (by omega) (nm_r (nI_1 i) (hw (upd s.1 i (a24 ((6 : Int32) * nI i).toNatClampNeg), upd s.2.1 i (a24 ((6 : Int32) * nI i + 1).toNatClampNeg), upd s.2.2.1 i (a24 ((6 : Int32) * nI i + 2).toNatClampNeg), upd s.2.2.2.1 i (a24 ((6 : Int32) * nI i + 3).toNatClampNeg), upd s.2.2.2.2.1 i (a24 ((6 : Int32) * nI i + 4).toNatClampNeg), upd s.2.2.2.2.2 i (a24 ((6 : Int32) * nI i + 5).toNatClampNeg)) (by
      rw [pk_cl (6 * i) (show (6 : Int32) * nI i = nI (6 * i) from pk_mul 6 i), pk_cl (6 * i + 1) (show (6 : Int32) * nI i + 1 = nI (6 * i + 1) from sw_ad 1 (pk_mul 6 i))]
      intro j hj
      dsimp only
      by_cases e : j = i
      · rw [e, pk_us, pk_us]
        exact ⟨rfl, rfl⟩
      · rw [pk_un e, pk_un e]
        exact h j (by omega))))⟩⟩⟩⟩⟩⟩))
theorem sw_c83 {post : Int32 → St2 → Prop}
    (H : ∀ b8 b9 b10 b11 b12 b13 b14 b15 b16 b17 b18 : Nat → Int32, (∀ j, j < 128 → b13 j = a24 (6 * j) ∧ b14 j = a24 (6 * j + 1)) → (∀ j, j < 4 → b12 j = a24 (768 + j)) → post rc (kd, wd, pn, lt, mk, lc, nw, rc, km, kl, kw, kr, tc, ts, tl, tm, a1, a2, a3, a4, a5, a6, a7, b8, b9, b10, b11, b12, b13, b14, b15, b16, b17, b18, a19, a20, a21, a22, a23, a24)) :
    ∃ n, wX_crash_83 post kd wd pn lt mk lc nw rc km kl kw kr tc ts tl tm n 0 a1 a2 a3 a4 a5 a6 a7 a8 a9 a10 a11 a12 a13 a14 a15 a16 a17 a18 a19 a20 a21 a22 a23 a24 :=
  pk_loop (fun n i (s : (Nat → Int32) × (Nat → Int32) × (Nat → Int32) × (Nat → Int32)) => wX_crash_83 post kd wd pn lt mk lc nw rc km kl kw kr tc ts tl tm n (nI i) a1 a2 a3 a4 a5 a6 a7 s.1 s.2.1 s.2.2.1 s.2.2.2 a12 a13 a14 a15 a16 a17 a18 a19 a20 a21 a22 a23 a24) (fun _ _ => True) 256 0 (a8, a9, a10, a11) (by omega) trivial
    (fun n s h => pk_le 256 256 (fun _ => sw_c160 (H _ _ _ _)) (fun z => absurd z (by omega)))
    (fun n i s hi h hw => pk_le 256 i (fun z => absurd z (by omega)) (fun _ => ⟨pk_in (4 * i) 1024 (by omega) (pk_mul 4 i), sw_st i rfl (by omega) ⟨pk_in (4 * i + 1) 1024 (by omega) (sw_ad 1 (pk_mul 4 i)), sw_st i rfl (by omega) ⟨pk_in (4 * i + 2) 1024 (by omega) (sw_ad 2 (pk_mul 4 i)), sw_st i rfl (by omega) ⟨pk_in (4 * i + 3) 1024 (by omega) (sw_ad 3 (pk_mul 4 i)), sw_st i rfl (by omega) (nm_r (nI_1 i) (hw (_, _, _, _) trivial))⟩⟩⟩⟩))
theorem sw_crash {post : Int32 → St2 → Prop}
    (H : ∀ b5 b6 b7 b8 b9 b10 b11 b12 b13 b14 b15 b16 b17 b18 : Nat → Int32, (∀ j, j < 3 → b5 j = a20 j ∧ b6 j = a21 j ∧ b7 j = vp_nar .boolean (a22 j)) → (∀ j, j < 128 → b13 j = a24 (6 * j) ∧ b14 j = a24 (6 * j + 1)) → (∀ j, j < 4 → b12 j = a24 (768 + j)) →
      post kr (kd, wd, pn, lt, km, kl, kw, kr, km, kl, kw, kr, tc, ts, tl, tm, a1, a2, a3, a4, b5, b6, b7, b8, b9, b10, b11, b12, b13, b14, b15, b16, b17, b18, a19, a20, a21, a22, a23, a24)) :
    wpX_crash post (kd, wd, pn, lt, mk, lc, nw, rc, km, kl, kw, kr, tc, ts, tl, tm, a1, a2, a3, a4, a5, a6, a7, a8, a9, a10, a11, a12, a13, a14, a15, a16, a17, a18, a19, a20, a21, a22, a23, a24) :=
  pk_loop (fun n i (s : (Nat → Int32) × (Nat → Int32) × (Nat → Int32)) => wX_crash_2 post kd wd pn lt mk lc nw rc km kl kw kr tc ts tl tm n (nI i) a1 a2 a3 a4 s.1 s.2.1 s.2.2 a8 a9 a10 a11 a12 a13 a14 a15 a16 a17 a18 a19 a20 a21 a22 a23 a24) (fun i s => ∀ j, j < i → s.1 j = a20 j ∧ s.2.1 j = a21 j ∧ s.2.2 j = vp_nar .boolean (a22 j)) 3 0 (a5, a6, a7) (by omega) (fun j hj => absurd hj (by omega))
    (fun n s h => pk_le 3 3 (fun _ => sw_c83 (fun b8 b9 b10 b11 b12 b13 b14 b15 b16 b17 b18 h1 h2 => H s.1 s.2.1 s.2.2 b8 b9 b10 b11 b12 b13 b14 b15 b16 b17 b18 h h1 h2)) (fun z => absurd z (by omega)))
    (fun n i s hi h hw => pk_le 3 i (fun z => absurd z (by omega)) (fun _ => ⟨pk_in i 3 hi, sw_st i rfl (by omega) ⟨pk_in i 3 hi, sw_st i rfl (by omega) ⟨pk_in i 3 hi, sw_st i rfl (by omega) (nm_r (nI_1 i) (hw (upd s.1 i (a20 (nI i).toNatClampNeg), upd s.2.1 i (a21 (nI i).toNatClampNeg), upd s.2.2 i (vp_nar .boolean (a22 (nI i).toNatClampNeg))) (by
      rw [nI_clamp (show i < 2 ^ 31 by omega)]
      intro j hj
      dsimp only
      by_cases e : j = i
      · rw [e, pk_us, pk_us, pk_us]
        exact ⟨rfl, rfl, rfl⟩
      · rw [pk_un e, pk_un e, pk_un e]
        exact h j (by omega))))⟩⟩⟩))
end
end
section
/-! windows: the pure part -/
theorem sw_mm {a b : Int} (W : Nat) (h : a ≤ b) : a * (W : Int) ≤ b * (W : Int) := Int.mul_le_mul_of_nonneg_right h (Int.natCast_nonneg W)
theorem sw_dv {t W : Nat} (hW : 0 < W) : ((t / W : Nat) : Int) * (W : Int) ≤ (t : Int) ∧ (t : Int) < (((t / W : Nat) : Int) + 1) * (W : Int) := by
  have h1 := Nat.div_mul_le_self t W
  have h2 := Nat.lt_div_mul_add (a := t) hW
  have e : ((t / W * W : Nat) : Int) = ((t / W : Nat) : Int) * (W : Int) := Int.natCast_mul _ _
  have e2 : (((t / W : Nat) : Int) + 1) * (W : Int) = ((t / W : Nat) : Int) * (W : Int) + W := by rw [Int.add_mul, Int.one_mul]
  omega
theorem sw_c0 {n : Nat} (h : n < 1000) : nI n = 0 ↔ n = 0 := by
  rw [← nI_0, nI_eq (by omega) (by omega)]
theorem sw_G_in {v : Nat → Int32} {P : Nat → Bool} {n : Nat} {c s l m x : Int32} (hn : n < 1000) (h : sw_G (sw_ag v P n) c s l m) (hx : sw_v x) :
    sw_G (sw_in (sw_ag v P n) x) (c + 1) (s + x) (if c = 0 then x else sw_mn l x) (if c = 0 then x else sw_mx m x) := by
  obtain ⟨h1, h2, h3⟩ := h
  have hle := @sw_ag_le v P n
  by_cases e : (sw_ag v P n).1 = 0
  · have e0 := sw_ag_c0 e
    rw [e0] at h1 h2
    have c0 : c = 0 := h1
    have s0 : s = 0 := h2
    rw [e0, sw_in0 hx, if_pos c0, if_pos c0, c0, s0]
    exact ⟨(show (0 : Int32) + 1 = nI 1 by decide), Int32.zero_add x, fun _ => ⟨rfl, rfl⟩⟩
  · have c0 : ¬ c = 0 := by rw [h1, sw_c0 (by omega)]; exact e
    obtain ⟨h4, h5⟩ := h3 (by omega)
    rw [if_neg c0, if_neg c0, h1, h2, h4, h5]
    exact ⟨nI_1 _, rfl, fun _ => ⟨rfl, rfl⟩⟩
theorem sw_G_j {v : Nat → Int32} {P Q : Nat → Bool} {n : Nat} {tc ts tl tm c s l m : Int32} (hn : n < 1000) (h : sw_G (sw_ag v P n) tc ts tl tm) (h' : sw_G (sw_ag v Q n) c s l m) (hp : 0 < (sw_ag v Q n).1) :
    sw_G (sw_j (sw_ag v P n) (sw_ag v Q n)) (tc + c) (ts + s) (if tc = 0 then l else sw_mn tl l) (if tc = 0 then m else sw_mx tm m) := by
  obtain ⟨h1, h2, h3⟩ := h
  obtain ⟨g1, g2, g3⟩ := h'
  obtain ⟨g4, g5⟩ := g3 hp
  have hle := @sw_ag_le v P n
  by_cases e : (sw_ag v P n).1 = 0
  · have e0 := sw_ag_c0 e
    rw [e0] at h1 h2
    have c0 : tc = 0 := h1
    have s0 : ts = 0 := h2
    rw [e0, sw_j0, if_pos c0, if_pos c0, c0, s0, g1, g2]
    exact ⟨Int32.zero_add _, Int32.zero_add _, fun _ => ⟨g4, g5⟩⟩
  · have c0 : ¬ tc = 0 := by rw [h1, sw_c0 (by omega)]; exact e
    obtain ⟨h4, h5⟩ := h3 (by omega)
    rw [if_neg c0, if_neg c0, h1, h2, h4, h5, g1, g2, g4, g5]
    exact ⟨nI_add _ _, rfl, fun _ => ⟨rfl, rfl⟩⟩
section
variable {te ke : Nat → Nat} {ve : Nat → Int32}
theorem sw_q_cg {N : Nat} {B B' : Nat → Int} (h : ∀ j, j < N → B' (ke j) = B (ke j)) : sw_q te ke ve B' N = sw_q te ke ve B N :=
  sw_agc (fun j hj => by
    unfold sw_Q
    rw [h j hj])
/-- the panes hold the events so far -/
def sw_PN (te ke : Nat → Nat) (ve : Nat → Int32) (W N : Nat) (a8 a9 a10 a11 : Nat → Int32) : Prop :=
  ∀ k p : Nat, k < 4 → p < 64 → sw_G (sw_g te ke ve k ((p : Int) * (W : Int)) (((p : Int) + 1) * (W : Int)) N) (a8 (64 * k + p)) (a9 (64 * k + p)) (a10 (64 * k + p)) (a11 (64 * k + p))
theorem sw_PN_0 {W : Nat} : sw_PN te ke ve W 0 (fun _ => 0) (fun _ => 0) (fun _ => 0) (fun _ => 0) := fun k p _ _ => ⟨rfl, rfl, fun h => absurd h (Nat.lt_irrefl 0)⟩
theorem sw_PN_s {W N p : Nat} {a8 a9 a10 a11 : Nat → Int32} (hE : sw_E te ke ve) (hN : N < 1000) (hW : 0 < W) (h : sw_PN te ke ve W N a8 a9 a10 a11) (hp : p = te N / W) :
    sw_PN te ke ve W (N + 1) (upd a8 (64 * ke N + p) (a8 (64 * ke N + p) + 1)) (upd a9 (64 * ke N + p) (a9 (64 * ke N + p) + ve N)) (upd a10 (64 * ke N + p) (if a8 (64 * ke N + p) = 0 then ve N else sw_mn (a10 (64 * ke N + p)) (ve N))) (upd a11 (64 * ke N + p) (if a8 (64 * ke N + p) = 0 then ve N else sw_mx (a11 (64 * ke N + p)) (ve N))) := by
  intro k' p' hk' hp'
  obtain ⟨d1, d2⟩ := @sw_dv (te N) W hW
  rw [← hp] at d1 d2
  have hk := hE.2.2.1 N
  have ht := hE.1 N
  have hp64 : p < 64 := by
    rw [hp]
    exact Nat.lt_of_le_of_lt (Nat.div_le_self _ _) ht
  by_cases e : k' = ke N ∧ p' = p
  · obtain ⟨e1, e2⟩ := e
    subst e1 e2
    rw [pk_us, pk_us, pk_us, pk_us, sw_g_s1 rfl d1 d2]
    exact sw_G_in hN (h (ke N) p' hk' hp') (hE.2.2.2 N)
  · have ne : 64 * k' + p' ≠ 64 * ke N + p := by omega
    rw [pk_un ne, pk_un ne, pk_un ne, pk_un ne, sw_g_s0]
    · exact h k' p' hk' hp'
    · intro t
      have e1 : k' = ke N := t.1.symm
      have e2 : p' ≠ p := fun z => e ⟨e1, z⟩
      rcases Nat.lt_or_ge p' p with z | z
      · have := sw_mm W (show (p' : Int) + 1 ≤ (p : Int) by omega)
        omega
      · have := sw_mm W (show (p : Int) + 1 ≤ (p' : Int) by omega)
        omega
/-- windows: start and end -/
def sw_XW (W Pn : Nat) (s e : Int) : Prop := ∃ w : Int, s = w * (W : Int) ∧ e = (w + (Pn : Int)) * (W : Int)
/-- the windows below V are closed -/
def sw_IW (te ke : Nat → Nat) (ve : Nat → Int32) (W Pn : Nat) (M : Int) (N : Nat) (V : Int) (R : Nat) (E : Int) (a19 : Nat → Int32) : Prop :=
  sw_RS te ke ve (sw_XW W Pn) N R E a19 ∧ E ≤ M ∧ E ≤ (V + (Pn : Int)) * (W : Int) ∧ (R : Int) ≤ 4 * (V + (Pn : Int) - 1) ∧ 1 - (Pn : Int) ≤ V ∧ (V = 1 - (Pn : Int) ∨ (V - 1 + (Pn : Int)) * (W : Int) ≤ M) ∧ (Pn = 1 → sw_SQ te ke ve (fun _ => V * (W : Int)) N R a19)
theorem sw_IW_V {W Pn N R : Nat} {M V E : Int} {a19 : Nat → Int32} (hW : 0 < W) (hM : M ≤ 63) (hP : 1 ≤ Pn) (h : sw_IW te ke ve W Pn M N V R E a19) : V ≤ 63 := by
  obtain ⟨_, _, _, _, h5, h6, _⟩ := h
  rcases h6 with z | z
  · omega
  · rcases Int.lt_or_le 63 V with y | y
    · have t := sw_mm W (show (64 : Int) ≤ V - 1 + (Pn : Int) by omega)
      omega
    · exact y
theorem sw_IW_M {W Pn N R : Nat} {M M' V E : Int} {a19 : Nat → Int32} (h : sw_IW te ke ve W Pn M N V R E a19) (hM : M ≤ M') : sw_IW te ke ve W Pn M' N V R E a19 := by
  obtain ⟨h1, h2, h3, h4, h5, h6, h7⟩ := h
  exact ⟨h1, by omega, h3, h4, h5, by omega, h7⟩
theorem sw_IW_ev {W Pn N R : Nat} {M V E : Int} {a19 : Nat → Int32} (hM : M ≤ (te N : Int)) (hV : Pn = 1 → V * (W : Int) ≤ (te N : Int)) (h : sw_IW te ke ve W Pn M N V R E a19) : sw_IW te ke ve W Pn M (N + 1) V R E a19 := by
  obtain ⟨h1, h2, h3, h4, h5, h6, h7⟩ := h
  exact ⟨sw_RS_ev h1 (by omega), h2, h3, h4, h5, h6, fun z => sw_SQ_ev (h7 z) (hV z)⟩
theorem sw_IW_hV {W Pn N R : Nat} {M V E : Int} {a19 : Nat → Int32} (h : sw_IW te ke ve W Pn M N V R E a19) (hM : M ≤ (te N : Int)) : Pn = 1 → V * (W : Int) ≤ (te N : Int) := by
  intro hp
  obtain ⟨_, _, _, _, h5, h6, _⟩ := h
  subst hp
  rcases h6 with z | z
  · have : V = 0 := by omega
    rw [this]
    omega
  · rw [show V - 1 + ((1 : Nat) : Int) = V by omega] at z
    omega
end
end
section
/-! windows: the walks -/
section
variable {kd wd pn lt mk lc nw rc km kl kw kr tc ts tl tm : Int32} {a1 a2 a3 a4 a5 a6 a7 a8 a9 a10 a11 a12 a13 a14 a15 a16 a17 a18 a19 a20 a21 a22 a23 a24 : Nat → Int32}
theorem sw_ap71 {post : St2 → Prop} {q : Nat} {z : Int32} (hq : q < 256) (H : post (kd, wd, pn, lt, mk, lc, nw, rc, km, kl, kw, kr, (tc + a8 q), (ts + a9 q), tl, z, a1, a2, a3, a4, a5, a6, a7, a8, a9, a10, a11, a12, a13, a14, a15, a16, a17, a18, a19, a20, a21, a22, a23, a24)) : wX_addPane_71 post (nI q) z kd wd pn lt mk lc nw rc km kl kw kr tc ts tl tm a1 a2 a3 a4 a5 a6 a7 a8 a9 a10 a11 a12 a13 a14 a15 a16 a17 a18 a19 a20 a21 a22 a23 a24 := by
  have v : vp_in (nI q) 256 := vp_in_nI hq (by omega)
  unfold wX_addPane_71
  rw [nI_clamp (show q < 2 ^ 31 by omega)]
  exact ⟨v, nm_e ⟨v, nm_e H⟩⟩
theorem sw_ap58 {post : St2 → Prop} {q : Nat} (hq : q < 256) (H : post (kd, wd, pn, lt, mk, lc, nw, rc, km, kl, kw, kr, (tc + a8 q), (ts + a9 q), tl, (a11 q), a1, a2, a3, a4, a5, a6, a7, a8, a9, a10, a11, a12, a13, a14, a15, a16, a17, a18, a19, a20, a21, a22, a23, a24)) : wX_addPane_58 post (nI q) kd wd pn lt mk lc nw rc km kl kw kr tc ts tl tm a1 a2 a3 a4 a5 a6 a7 a8 a9 a10 a11 a12 a13 a14 a15 a16 a17 a18 a19 a20 a21 a22 a23 a24 := by
  unfold wX_addPane_58
  rw [nI_clamp (show q < 2 ^ 31 by omega)]
  exact ⟨vp_in_nI hq (by omega), sw_ap71 hq H⟩
theorem sw_ap34 {post : St2 → Prop} {q : Nat} {z : Int32} (hq : q < 256) (H : post (kd, wd, pn, lt, mk, lc, nw, rc, km, kl, kw, kr, (tc + a8 q), (ts + a9 q), z, (if tc = 0 then a11 q else sw_mx tm (a11 q)), a1, a2, a3, a4, a5, a6, a7, a8, a9, a10, a11, a12, a13, a14, a15, a16, a17, a18, a19, a20, a21, a22, a23, a24)) : wX_addPane_34 post (nI q) z kd wd pn lt mk lc nw rc km kl kw kr tc ts tl tm a1 a2 a3 a4 a5 a6 a7 a8 a9 a10 a11 a12 a13 a14 a15 a16 a17 a18 a19 a20 a21 a22 a23 a24 := by
  unfold wX_addPane_34
  rw [nI_clamp (show q < 2 ^ 31 by omega)]
  by_cases c : tc = 0
  · rw [if_pos c] at H
    exact br_t c (sw_ap58 hq H)
  · rw [if_neg c] at H
    refine br_f c ⟨vp_in_nI hq (by omega), ?_⟩
    unfold sw_mx at H
    by_cases c2 : a11 q ≤ tm
    · rw [if_pos c2] at H
      exact br_t c2 (sw_ap71 hq H)
    · rw [if_neg c2] at H
      exact br_f c2 (sw_ap58 hq H)
theorem sw_ap21 {post : St2 → Prop} {q : Nat} (hq : q < 256) (H : post (kd, wd, pn, lt, mk, lc, nw, rc, km, kl, kw, kr, (tc + a8 q), (ts + a9 q), (a10 q), (if tc = 0 then a11 q else sw_mx tm (a11 q)), a1, a2, a3, a4, a5, a6, a7, a8, a9, a10, a11, a12, a13, a14, a15, a16, a17, a18, a19, a20, a21, a22, a23, a24)) : wX_addPane_21 post (nI q) kd wd pn lt mk lc nw rc km kl kw kr tc ts tl tm a1 a2 a3 a4 a5 a6 a7 a8 a9 a10 a11 a12 a13 a14 a15 a16 a17 a18 a19 a20 a21 a22 a23 a24 := by
  unfold wX_addPane_21
  rw [nI_clamp (show q < 2 ^ 31 by omega)]
  exact ⟨vp_in_nI hq (by omega), sw_ap34 hq H⟩
theorem sw_addPane {post : St2 → Prop} {q : Nat} {x : Int32} (hx : x = nI q) (hq : q < 256) (H : post (kd, wd, pn, lt, mk, lc, nw, rc, km, kl, kw, kr, (tc + a8 q), (ts + a9 q), (if tc = 0 then a10 q else sw_mn tl (a10 q)), (if tc = 0 then a11 q else sw_mx tm (a11 q)), a1, a2, a3, a4, a5, a6, a7, a8, a9, a10, a11, a12, a13, a14, a15, a16, a17, a18, a19, a20, a21, a22, a23, a24)) : wpX_addPane post (kd, wd, pn, lt, mk, lc, nw, rc, km, kl, kw, kr, tc, ts, tl, tm, a1, a2, a3, a4, a5, a6, a7, a8, a9, a10, a11, a12, a13, a14, a15, a16, a17, a18, a19, a20, a21, a22, a23, a24) x := by
  subst hx
  unfold wpX_addPane
  dsimp only
  rw [nI_clamp (show q < 2 ^ 31 by omega)]
  by_cases c : tc = 0
  · rw [if_pos c] at H
    exact br_t c (sw_ap21 hq H)
  · rw [if_neg (c := tc = 0) (t := a10 q) c] at H
    refine br_f c ⟨vp_in_nI hq (by omega), ?_⟩
    unfold sw_mn at H
    by_cases c2 : tl ≤ a10 q
    · rw [if_pos c2] at H
      exact br_t c2 (sw_ap34 hq H)
    · rw [if_neg c2] at H
      exact br_f c2 (sw_ap21 hq H)
end
section
variable {kd wd pn lt mk lc nw rc km kl kw kr tc ts tl tm : Int32} {a1 a2 a3 a4 a5 a6 a7 a8 a9 a10 a11 a12 a13 a14 a15 a16 a17 a18 a19 a20 a21 a22 a23 a24 : Nat → Int32}
variable {te ke : Nat → Nat} {ve : Nat → Int32} {W Pn N : Nat}
theorem sw_pt22 {post : St2 → Prop} {k : Nat} {w : Int} (hE : sw_E te ke ve) (hN : N < 1000) (hW : 0 < W ∧ W ≤ 8) (hP : 0 < Pn ∧ Pn ≤ 4) (hPN : sw_PN te ke ve W N a8 a9 a10 a11) (hk : k < 4) (hw : -10 ≤ w ∧ w ≤ 64)
    (H : ∀ tc' ts' tl' tm' : Int32, sw_G (sw_g te ke ve k (w * (W : Int)) ((w + (Pn : Int)) * (W : Int)) N) tc' ts' tl' tm' → post (kd, wd, (nI Pn), lt, mk, lc, nw, rc, km, kl, kw, kr, tc', ts', tl', tm', a1, a2, a3, a4, a5, a6, a7, a8, a9, a10, a11, a12, a13, a14, a15, a16, a17, a18, a19, a20, a21, a22, a23, a24)) :
    ∀ (d : Nat) (p : Int) (tc ts tl tm : Int32), p + (d : Int) = w + (Pn : Int) → w ≤ p → sw_G (sw_g te ke ve k (w * (W : Int)) (p * (W : Int)) N) tc ts tl tm →
      wX_putTogether_22 post (sw_z w) (nI k) (d + 1) (sw_z p) kd wd (nI Pn) lt mk lc nw rc km kl kw kr tc ts tl tm a1 a2 a3 a4 a5 a6 a7 a8 a9 a10 a11 a12 a13 a14 a15 a16 a17 a18 a19 a20 a21 a22 a23 a24 := by
  have e0 : sw_z w + nI Pn = sw_z (w + (Pn : Int)) := by rw [sw_zn, sw_add]
  intro d
  induction d with
  | zero =>
    intro p tc ts tl tm hp hwp hG
    have ep : p = w + (Pn : Int) := by omega
    subst ep
    exact sw_ble (w + (Pn : Int)) (w + (Pn : Int)) e0 rfl (fun _ => H tc ts tl tm hG) (fun z => absurd z (by omega))
  | succ d ih =>
    intro p tc ts tl tm hp hwp hG
    have e1 : sw_z p + 1 = sw_z (p + 1) := sw_add p 1
    have m1 := sw_mm W hwp
    have m2 := sw_mm W (show p ≤ p + 1 by omega)
    have ej := sw_g_j (te := te) (ke := ke) (ve := ve) (k := k) (N := N) m1 m2
    have skip : sw_g te ke ve k (p * (W : Int)) ((p + 1) * (W : Int)) N = sw_0 → wX_putTogether_22 post (sw_z w) (nI k) (d + 1) (sw_z (p + 1)) kd wd (nI Pn) lt mk lc nw rc km kl kw kr tc ts tl tm a1 a2 a3 a4 a5 a6 a7 a8 a9 a10 a11 a12 a13 a14 a15 a16 a17 a18 a19 a20 a21 a22 a23 a24 := by
      intro z
      refine ih (p + 1) tc ts tl tm (by omega) (by omega) ?_
      rw [ej, z, show sw_j (sw_g te ke ve k (w * (W : Int)) (p * (W : Int)) N) sw_0 = sw_g te ke ve k (w * (W : Int)) (p * (W : Int)) N from sw_j0r]
      exact hG
    refine sw_ble (w + (Pn : Int)) p e0 rfl (fun z => absurd z (by omega)) (fun _ => ?_)
    refine sw_blt p 0 rfl rfl (fun z => nm_r e1 (skip ?_)) (fun z => ?_)
    · refine sw_g_nil (fun j _ _ t => ?_)
      have m3 := sw_mm W (show p + 1 ≤ 0 by omega)
      omega
    · obtain ⟨q, hq, eq⟩ := sw_pos z
      subst hq
      refine sw_ble 64 (q : Int) rfl rfl (fun z => nm_r e1 (skip ?_)) (fun z => ?_)
      · refine sw_g_nil (fun j _ _ t => ?_)
        have m3 := sw_mm W (show (64 : Int) ≤ (q : Int) by omega)
        have := hE.1 j
        omega
      · have ei : (64 : Int32) * nI k + sw_z (q : Int) = nI (64 * k + q) := by
          rw [eq]
          exact sw_ad q (pk_mul 64 k)
        have hG2 := hPN k q hk (by omega)
        have hle : (sw_g te ke ve k ((q : Int) * (W : Int)) (((q : Int) + 1) * (W : Int)) N).1 ≤ N := sw_ag_le
        refine ⟨pk_in (64 * k + q) 256 (by omega) ei, ?_⟩
        refine pk_le (sw_g te ke ve k ((q : Int) * (W : Int)) (((q : Int) + 1) * (W : Int)) N).1 0 (fun z2 => nm_r e1 (skip (sw_ag_c0 (Nat.le_zero.mp z2)))) (fun z2 => ?_) (by rw [pk_cl (64 * k + q) ei]; exact hG2.1) rfl
        refine sw_addPane ei (by omega) (nm_r e1 (ih ((q : Int) + 1) _ _ _ _ (by omega) (by omega) ?_))
        rw [ej]
        exact sw_G_j hN hG hG2 z2
theorem sw_put {post : St2 → Prop} {k : Nat} {w : Int} {x y : Int32} (hx : x = sw_z w) (hy : y = nI k) (hE : sw_E te ke ve) (hN : N < 1000) (hW : 0 < W ∧ W ≤ 8) (hP : 0 < Pn ∧ Pn ≤ 4) (hPN : sw_PN te ke ve W N a8 a9 a10 a11) (hk : k < 4) (hw : -10 ≤ w ∧ w ≤ 64)
    (H : ∀ tc' ts' tl' tm' : Int32, sw_G (sw_g te ke ve k (w * (W : Int)) ((w + (Pn : Int)) * (W : Int)) N) tc' ts' tl' tm' → post (kd, wd, (nI Pn), lt, mk, lc, nw, rc, km, kl, kw, kr, tc', ts', tl', tm', a1, a2, a3, a4, a5, a6, a7, a8, a9, a10, a11, a12, a13, a14, a15, a16, a17, a18, a19, a20, a21, a22, a23, a24)) : wpX_putTogether post (kd, wd, (nI Pn), lt, mk, lc, nw, rc, km, kl, kw, kr, tc, ts, tl, tm, a1, a2, a3, a4, a5, a6, a7, a8, a9, a10, a11, a12, a13, a14, a15, a16, a17, a18, a19, a20, a21, a22, a23, a24) x y := by
  subst hx hy
  refine ⟨Pn + 1, sw_pt22 hE hN hW hP hPN hk hw H Pn w 0 0 0 0 rfl (Int.le_refl w) ?_⟩
  rw [sw_g_nil (fun j _ _ t => by omega)]
  exact sw_G_0
/-- one window, the keys from k on -/
theorem sw_cw26 {post : St2 → Prop} {J0 : Int32 → Int32 → Int32 → Int32 → Int32 → Int32 → Int32 → Int32 → Int32 → Int32 → Int32 → Int32 → Int32 → Int32 → Int32 → Int32 → (Nat → Int32) → (Nat → Int32) → (Nat → Int32) → (Nat → Int32) → (Nat → Int32) → (Nat → Int32) → (Nat → Int32) → (Nat → Int32) → (Nat → Int32) → (Nat → Int32) → (Nat → Int32) → (Nat → Int32) → (Nat → Int32) → (Nat → Int32) → (Nat → Int32) → (Nat → Int32) → (Nat → Int32) → (Nat → Int32) → (Nat → Int32) → (Nat → Int32) → (Nat → Int32) → (Nat → Int32) → (Nat → Int32) → (Nat → Int32) → Prop} {V : Int} {R0 : Nat}
    (hE : sw_E te ke ve) (hN : N < 1000) (hW : 0 < W ∧ W ≤ 8) (hP : 0 < Pn ∧ Pn ≤ 4) (hPN : sw_PN te ke ve W N a8 a9 a10 a11) (hV : 1 - (Pn : Int) ≤ V ∧ V ≤ 63) (hV2 : (V + (Pn : Int)) * (W : Int) ≤ 63)
    (H : ∀ (R' : Nat) (E' : Int) (tc' ts' tl' tm' : Int32) (b19 : Nat → Int32), R0 ≤ R' → (R' : Int) ≤ 4 * (V + (Pn : Int) - 1) + 4 → sw_RS te ke ve (sw_XW W Pn) N R' E' b19 → E' ≤ (V + (Pn : Int)) * (W : Int) → (Pn = 1 → sw_SQ te ke ve (fun _ => (V + 1) * (W : Int)) N R' b19) →
      J0 kd (nI W) (nI Pn) lt mk lc (sw_z (V + 1)) (nI R') km kl kw kr tc' ts' tl' tm' a1 a2 a3 a4 a5 a6 a7 a8 a9 a10 a11 a12 a13 a14 a15 a16 a17 a18 b19 a20 a21 a22 a23 a24) :
    ∀ (d k R : Nat) (E : Int) (tc ts tl tm : Int32) (a19 : Nat → Int32), k + d = 4 → R0 ≤ R → (R : Int) ≤ 4 * (V + (Pn : Int) - 1) + k → sw_RS te ke ve (sw_XW W Pn) N R E a19 → E ≤ (V + (Pn : Int)) * (W : Int) → (Pn = 1 → sw_SQ te ke ve (fun i => if i < k then (V + 1) * (W : Int) else V * (W : Int)) N R a19) →
      wX_closeWindows_26 post J0 (d + 1) (nI k) kd (nI W) (nI Pn) lt mk lc (sw_z V) (nI R) km kl kw kr tc ts tl tm a1 a2 a3 a4 a5 a6 a7 a8 a9 a10 a11 a12 a13 a14 a15 a16 a17 a18 a19 a20 a21 a22 a23 a24 := by
  have m0 := sw_mm W (show (-3 : Int) ≤ V by omega)
  have m1 : (V + 1) * (W : Int) = V * (W : Int) + W := by rw [Int.add_mul, Int.one_mul]
  have m2 : (V + (Pn : Int)) * (W : Int) = V * (W : Int) + (Pn : Int) * (W : Int) := Int.add_mul _ _ _
  have m3 := sw_mm W (show (1 : Int) ≤ (Pn : Int) by omega)
  intro d
  induction d with
  | zero =>
    intro k R E tc ts tl tm a19 hk hR0 hR hRS hEV hSQ
    have ek : k = 4 := by omega
    subst ek
    refine pk_le 4 4 (fun _ => nm_r (sw_add V 1) (H R E tc ts tl tm a19 hR0 (by omega) hRS hEV (fun z => ?_))) (fun z => absurd z (by omega))
    have t := hSQ z
    unfold sw_SQ at t ⊢
    rw [sw_q_cg (B := fun i => if i < 4 then (V + 1) * (W : Int) else V * (W : Int)) (fun j _ => by rw [if_pos (hE.2.2.1 j)])]
    exact t
  | succ d ih =>
    intro k R E tc ts tl tm a19 hk hR0 hR hRS hEV hSQ
    refine pk_le 4 k (fun z => absurd z (by omega)) (fun _ => ?_)
    refine sw_put rfl rfl hE hN hW hP hPN (show k < 4 by omega) (by omega) (fun tc' ts' tl' tm' hG => ?_)
    have hle : (sw_g te ke ve k (V * (W : Int)) ((V + (Pn : Int)) * (W : Int)) N).1 ≤ N := sw_ag_le
    have b1 : (fun i => if i < k then (V + 1) * (W : Int) else V * (W : Int)) k = V * (W : Int) := if_neg (by omega)
    have b2 : (fun i => if i < k + 1 then (V + 1) * (W : Int) else V * (W : Int)) k = (V + 1) * (W : Int) := if_pos (by omega)
    have b3 : ∀ i, i ≠ k → (fun i => if i < k + 1 then (V + 1) * (W : Int) else V * (W : Int)) i = (fun i => if i < k then (V + 1) * (W : Int) else V * (W : Int)) i := by
      intro i hi
      dsimp only
      by_cases c : i < k
      · rw [if_pos c, if_pos (by omega)]
      · rw [if_neg c, if_neg (by omega)]
    refine pk_le (sw_g te ke ve k (V * (W : Int)) ((V + (Pn : Int)) * (W : Int)) N).1 0 (fun z => nm_r (nI_1 k) ?_) (fun z => ?_) hG.1 rfl
    · refine ih (k + 1) R E tc' ts' tl' tm' a19 (by omega) hR0 (by omega) hRS hEV (fun y => ?_)
      subst y
      refine sw_SQ_skip (k := k) (b := (V + 1) * (W : Int)) (hSQ rfl) (by rw [if_neg (Nat.lt_irrefl k)]; omega) b2 b3 ?_
      rw [if_neg (Nat.lt_irrefl k)]
      exact (show (sw_g te ke ve k (V * (W : Int)) ((V + ((1 : Nat) : Int)) * (W : Int)) N).1 = 0 by omega)
    · unfold wpX_endOf
      dsimp only
      refine sw_addResult (show R < 300 by omega) (nm_r (nI_1 k) ?_)
      have es : sw_z V * nI W = sw_z (V * (W : Int)) := by rw [sw_zn, sw_mul]
      have ee : (sw_z V + nI Pn) * nI W = sw_z ((V + (Pn : Int)) * (W : Int)) := by rw [sw_zn, sw_zn, sw_add, sw_mul]
      rw [es, ee]
      refine ih (k + 1) (R + 1) _ tc' ts' tl' tm' _ (by omega) (by omega) (by omega) (sw_RS_add hRS (by omega) (by omega) (by omega) hEV (by omega) ⟨V, rfl, rfl⟩ z hG) (Int.le_refl _) (fun y => ?_)
      subst y
      refine sw_SQ_add (k := k) (b := (V + 1) * (W : Int)) (hSQ rfl) (by rw [if_neg (Nat.lt_irrefl k)]; omega) b2 b3 ?_
      rw [if_neg (Nat.lt_irrefl k)]
      exact hG
theorem sw_closeW {post : St2 → Prop} {M : Int} {R0 : Nat} (hE : sw_E te ke ve) (hN : N < 1000) (hW : 0 < W ∧ W ≤ 8) (hP : 0 < Pn ∧ Pn ≤ 4) (hPN : sw_PN te ke ve W N a8 a9 a10 a11) (hM : -2000 ≤ M ∧ M ≤ 63)
    (H : ∀ (V' : Int) (R' : Nat) (E' : Int) (tc' ts' tl' tm' : Int32) (b19 : Nat → Int32), R0 ≤ R' → sw_IW te ke ve W Pn M N V' R' E' b19 → M < (V' + (Pn : Int)) * (W : Int) → post (kd, (nI W), (nI Pn), lt, (sw_z M), lc, (sw_z V'), (nI R'), km, kl, kw, kr, tc', ts', tl', tm', a1, a2, a3, a4, a5, a6, a7, a8, a9, a10, a11, a12, a13, a14, a15, a16, a17, a18, b19, a20, a21, a22, a23, a24)) :
    ∀ (d : Nat) (V : Int) (R : Nat) (E : Int) (tc ts tl tm : Int32) (a19 : Nat → Int32), V + (d : Int) = 64 → R0 ≤ R → sw_IW te ke ve W Pn M N V R E a19 →
      wX_closeWindows_0 post (d + 1) kd (nI W) (nI Pn) lt (sw_z M) lc (sw_z V) (nI R) km kl kw kr tc ts tl tm a1 a2 a3 a4 a5 a6 a7 a8 a9 a10 a11 a12 a13 a14 a15 a16 a17 a18 a19 a20 a21 a22 a23 a24 := by
  intro d
  induction d with
  | zero =>
    intro V R E tc ts tl tm a19 hd hR hI
    have := sw_IW_V hW.1 hM.2 hP.1 hI
    omega
  | succ d ih =>
    intro V R E tc ts tl tm a19 hd hR hI
    have hV := sw_IW_V hW.1 hM.2 hP.1 hI
    have hI' := hI
    obtain ⟨h1, h2, h3, h4, h5, h6, h7⟩ := hI'
    have m0 := sw_mm W (show (-10 : Int) ≤ V + (Pn : Int) by omega)
    have m4 := sw_mm W (show V + (Pn : Int) ≤ 70 by omega)
    have ee : (sw_z V + nI Pn) * nI W = sw_z ((V + (Pn : Int)) * (W : Int)) := by rw [sw_zn, sw_zn, sw_add, sw_mul]
    refine sw_ble 64 V rfl rfl (fun z => absurd z (by omega)) (fun _ => ?_)
    refine sw_blt M ((V + (Pn : Int)) * (W : Int)) rfl ee (fun z => H V R E tc ts tl tm a19 hR hI z) (fun z => ⟨5, ?_⟩)
    have me : (V + 1 - 1 + (Pn : Int)) * (W : Int) = (V + (Pn : Int)) * (W : Int) := by rw [show V + 1 - 1 + (Pn : Int) = V + (Pn : Int) by omega]
    have m5 := sw_mm W (show V + (Pn : Int) ≤ V + 1 + (Pn : Int) by omega)
    refine sw_cw26 (R0 := R0) hE hN hW hP hPN ⟨h5, hV⟩ (by omega) (fun R' E' tc' ts' tl' tm' b19 g0 g1 g2 g3 g4 => ?_) 4 0 R E tc ts tl tm a19 rfl hR (by omega) h1 (by omega) (fun y => ?_)
    · exact ih (V + 1) R' E' tc' ts' tl' tm' b19 (by omega) g0 ⟨g2, by omega, by omega, by omega, by omega, Or.inr (by omega), g4⟩
    · have t := h7 y
      unfold sw_SQ at t ⊢
      rw [sw_q_cg (B := fun _ => V * (W : Int)) (fun j _ => by rw [if_neg (by omega)])]
      exact t
/-! an event into its pane -/
theorem sw_tp118 {post : St2 → Prop} {v z : Int32} {q : Nat} (hq : q < 256) (H : post (kd, wd, pn, lt, mk, lc, nw, rc, km, kl, kw, kr, tc, ts, tl, tm, a1, a2, a3, a4, a5, a6, a7, (upd a8 q (a8 q + 1)), (upd a9 q (a9 q + v)), a10, (upd a11 q z), a12, a13, a14, a15, a16, a17, a18, a19, a20, a21, a22, a23, a24)) : wX_takeIntoPane_118 post v (nI q) z (nI q) kd wd pn lt mk lc nw rc km kl kw kr tc ts tl tm a1 a2 a3 a4 a5 a6 a7 a8 a9 a10 a11 a12 a13 a14 a15 a16 a17 a18 a19 a20 a21 a22 a23 a24 := by
  have vi : vp_in (nI q) 256 := vp_in_nI hq (by omega)
  unfold wX_takeIntoPane_118
  rw [nI_clamp (show q < 2 ^ 31 by omega)]
  exact ⟨vi, nm_e ⟨vi, vi, nm_e ⟨vi, vi, nm_e H⟩⟩⟩
theorem sw_tp79 {post : St2 → Prop} {v z : Int32} {q : Nat} (hq : q < 256) (H : post (kd, wd, pn, lt, mk, lc, nw, rc, km, kl, kw, kr, tc, ts, tl, tm, a1, a2, a3, a4, a5, a6, a7, (upd a8 q (a8 q + 1)), (upd a9 q (a9 q + v)), (upd a10 q z), (upd a11 q (if a8 q = 0 then v else sw_mx (a11 q) v)), a12, a13, a14, a15, a16, a17, a18, a19, a20, a21, a22, a23, a24)) : wX_takeIntoPane_79 post v (nI q) z (nI q) kd wd pn lt mk lc nw rc km kl kw kr tc ts tl tm a1 a2 a3 a4 a5 a6 a7 a8 a9 a10 a11 a12 a13 a14 a15 a16 a17 a18 a19 a20 a21 a22 a23 a24 := by
  have vi : vp_in (nI q) 256 := vp_in_nI hq (by omega)
  unfold wX_takeIntoPane_79 wX_takeIntoPane_107
  rw [nI_clamp (show q < 2 ^ 31 by omega)]
  refine ⟨vi, nm_e ⟨vi, ?_⟩⟩
  by_cases c : a8 q = 0
  · rw [if_pos c] at H
    exact br_t c (sw_tp118 hq H)
  · rw [if_neg c] at H
    refine br_f c ⟨vi, ?_⟩
    unfold sw_mx at H
    by_cases c2 : v ≤ a11 q
    · rw [if_pos c2] at H
      exact br_t c2 ⟨vi, sw_tp118 hq H⟩
    · rw [if_neg c2] at H
      exact br_f c2 (sw_tp118 hq H)
theorem sw_tip {post : St2 → Prop} {t k p : Nat} {v p0 p1 : Int32} {M : Int} (h0 : p0 = nI t) (h1 : p1 = nI k) (hp0 : t / W = p) (ht : t < 64) (hk : k < 4) (hW : 0 < W ∧ W ≤ 8) (hP : 0 < Pn ∧ Pn ≤ 4) (hM : -2000 ≤ M ∧ M ≤ 63)
    (H1 : M < ((p : Int) + (Pn : Int)) * (W : Int) → post (kd, (nI W), (nI Pn), lt, (sw_z M), lc, nw, rc, km, kl, kw, kr, tc, ts, tl, tm, a1, a2, a3, a4, a5, a6, a7, (upd a8 (64 * k + p) (a8 (64 * k + p) + 1)), (upd a9 (64 * k + p) (a9 (64 * k + p) + v)), (upd a10 (64 * k + p) (if a8 (64 * k + p) = 0 then v else sw_mn (a10 (64 * k + p)) v)), (upd a11 (64 * k + p) (if a8 (64 * k + p) = 0 then v else sw_mx (a11 (64 * k + p)) v)), a12, a13, a14, a15, a16, a17, a18, a19, a20, a21, a22, a23, a24))
    (H2 : ((p : Int) + (Pn : Int)) * (W : Int) ≤ M → post (kd, (nI W), (nI Pn), lt, (sw_z M), (lc + 1), nw, rc, km, kl, kw, kr, tc, ts, tl, tm, a1, a2, a3, a4, a5, a6, a7, a8, a9, a10, a11, a12, a13, a14, a15, a16, a17, a18, a19, a20, a21, a22, a23, a24)) :
    wpX_takeIntoPane post (kd, (nI W), (nI Pn), lt, (sw_z M), lc, nw, rc, km, kl, kw, kr, tc, ts, tl, tm, a1, a2, a3, a4, a5, a6, a7, a8, a9, a10, a11, a12, a13, a14, a15, a16, a17, a18, a19, a20, a21, a22, a23, a24) p0 p1 v := by
  subst h0 h1
  have ed : nI t / nI W = nI p := by
    rw [← hp0]
    exact pk_div (by omega) hW.1 (by omega)
  have hp : p < 64 := by
    rw [← hp0]
    exact Nat.lt_of_le_of_lt (Nat.div_le_self _ _) ht
  have ee : (nI p + nI Pn) * nI W = sw_z (((p : Int) + (Pn : Int)) * (W : Int)) := by rw [sw_zn, sw_zn, sw_zn, sw_add, sw_mul]
  have m0 := sw_mm W (show (0 : Int) ≤ (p : Int) + (Pn : Int) by omega)
  have m1 := sw_mm W (show (p : Int) + (Pn : Int) ≤ 70 by omega)
  have ei : (64 : Int32) * nI k + nI p = nI (64 * k + p) := sw_ad p (pk_mul 64 k)
  have hq : 64 * k + p < 256 := by omega
  have vi : vp_in (nI (64 * k + p)) 256 := vp_in_nI hq (by omega)
  unfold wpX_takeIntoPane
  refine ⟨nI_ne0 hW.1 (by omega), nm_r ed ?_⟩
  refine sw_blt M (((p : Int) + (Pn : Int)) * (W : Int)) rfl ee (fun z => nm_r ei ?_) (fun z => nm_e (H2 z))
  have H := H1 z
  rw [nI_clamp (show 64 * k + p < 2 ^ 31 by omega)]
  refine ⟨vi, ?_⟩
  by_cases c : a8 (64 * k + p) = 0
  · refine br_t c (sw_tp79 hq ?_)
    rw [if_pos c] at H
    exact H
  · refine br_f c ⟨vi, ?_⟩
    rw [if_neg (c := a8 (64 * k + p) = 0) (e := sw_mn (a10 (64 * k + p)) v) c] at H
    unfold sw_mn at H
    by_cases c2 : a10 (64 * k + p) ≤ v
    · rw [if_pos c2] at H
      exact br_t c2 ⟨vi, sw_tp79 hq H⟩
    · rw [if_neg c2] at H
      exact br_f c2 (sw_tp79 hq H)
end
end
section
/-! sessions: the pure part -/
def sw_XS (W : Nat) (s e : Int) : Prop := s + (W : Int) ≤ e
/-- one slot: a session of the key k that is not closed -/
def sw_sl (te ke : Nat → Nat) (ve : Nat → Int32) (W N k : Nat) (E C : Int) (a13 a14 a15 a16 a17 a18 : Nat → Int32) (q F L : Nat) : Prop :=
  a13 q = nI F ∧ a14 q = nI L ∧ F ≤ L ∧ C ≤ (F : Int) ∧ E ≤ (L : Int) + (W : Int) ∧ (∃ j, j < N ∧ ke j = k ∧ te j = L) ∧
    a15 q = nI (sw_g te ke ve k (F : Int) ((L : Int) + 1) N).1 ∧ a16 q = (sw_g te ke ve k (F : Int) ((L : Int) + 1) N).2.1 ∧ a17 q = (sw_g te ke ve k (F : Int) ((L : Int) + 1) N).2.2.1 ∧ a18 q = (sw_g te ke ve k (F : Int) ((L : Int) + 1) N).2.2.2
def sw_IS (te ke : Nat → Nat) (ve : Nat → Int32) (W : Nat) (M : Int) (N R : Nat) (E : Int) (ns : Nat → Nat) (F L : Nat → Nat → Nat) (C : Nat → Int) (a12 a13 a14 a15 a16 a17 a18 a19 : Nat → Int32) : Prop :=
  sw_RS te ke ve (sw_XS W) N R E a19 ∧ E ≤ M ∧ sw_SQ te ke ve C N R a19 ∧ R + (ns 0 + ns 1 + ns 2 + ns 3) ≤ N ∧
    (∀ k, k < 4 → a12 k = nI (ns k) ∧ (C k ≤ 0 ∨ C k ≤ M)) ∧
    (∀ k i, k < 4 → i < ns k → sw_sl te ke ve W N k E (C k) a13 a14 a15 a16 a17 a18 (32 * k + i) (F k i) (L k i)) ∧
    (∀ k i, k < 4 → i + 1 < ns k → L k i + W < F k (i + 1)) ∧
    (∀ k j, k < 4 → j < N → ke j = k → ((te j : Int) < C k ∨ ∃ i, i < ns k ∧ F k i ≤ te j ∧ te j ≤ L k i))
theorem sw_sum4 {f g : Nat → Nat} {k : Nat} (hk : k < 4) (h1 : g k = f k + 1) (h2 : ∀ i, i ≠ k → g i = f i) : g 0 + g 1 + g 2 + g 3 = f 0 + f 1 + f 2 + f 3 + 1 := by
  rcases (show k = 0 ∨ k = 1 ∨ k = 2 ∨ k = 3 by omega) with z | z | z | z <;> subst z
  · have := h2 1 (by omega)
    have := h2 2 (by omega)
    have := h2 3 (by omega)
    omega
  · have := h2 0 (by omega)
    have := h2 2 (by omega)
    have := h2 3 (by omega)
    omega
  · have := h2 0 (by omega)
    have := h2 1 (by omega)
    have := h2 3 (by omega)
    omega
  · have := h2 0 (by omega)
    have := h2 1 (by omega)
    have := h2 2 (by omega)
    omega
theorem sw_le4 {f : Nat → Nat} {k : Nat} (hk : k < 4) : f k ≤ f 0 + f 1 + f 2 + f 3 := by
  rcases (show k = 0 ∨ k = 1 ∨ k = 2 ∨ k = 3 by omega) with z | z | z | z <;> subst z <;> omega
section
variable {te ke : Nat → Nat} {ve : Nat → Int32}
variable {W N R : Nat} {M E : Int} {ns : Nat → Nat} {F L : Nat → Nat → Nat} {C : Nat → Int} {a12 a13 a14 a15 a16 a17 a18 a19 : Nat → Int32}
theorem sw_IS_M {M' : Int} (h : sw_IS te ke ve W M N R E ns F L C a12 a13 a14 a15 a16 a17 a18 a19) (hM : M ≤ M') : sw_IS te ke ve W M' N R E ns F L C a12 a13 a14 a15 a16 a17 a18 a19 := by
  obtain ⟨h1, h2, h3, h4, h5, h6, h7, h8⟩ := h
  exact ⟨h1, by omega, h3, h4, fun k hk => ⟨(h5 k hk).1, by have := (h5 k hk).2; omega⟩, h6, h7, h8⟩
/-- the lasts of a key's sessions are in order -/
theorem sw_IS_mono (h : sw_IS te ke ve W M N R E ns F L C a12 a13 a14 a15 a16 a17 a18 a19) {k i d : Nat} (hk : k < 4) (hd : i + d < ns k) : L k i ≤ L k (i + d) := by
  obtain ⟨_, _, _, _, _, h6, h7, _⟩ := h
  induction d with
  | zero => exact Nat.le_refl _
  | succ d ih =>
    have t1 := ih (by omega)
    have t2 := h7 k (i + d) hk (by omega)
    obtain ⟨_, _, t3, _⟩ := h6 k (i + (d + 1)) hk hd
    have e : i + d + 1 = i + (d + 1) := rfl
    rw [e] at t2
    omega
theorem sw_IS_0 : sw_IS te ke ve W (-1000) 0 0 (-1000) (fun _ => 0) (fun _ _ => 0) (fun _ _ => 0) (fun _ => 0) (fun _ => 0) a13 a14 a15 a16 a17 a18 a19 :=
  ⟨sw_RS_0 (by omega), by omega, sw_SQ_0, Nat.le_refl 0, fun k _ => ⟨rfl, Or.inl (Int.le_refl 0)⟩, fun k i _ hi => absurd hi (Nat.not_lt_zero i), fun k i _ hi => absurd hi (Nat.not_lt_zero (i + 1)), fun k j _ hj => absurd hj (by omega)⟩
/-- a slot that the next event leaves as it is -/
theorem sw_sl_ev {k q f l : Nat} {c : Int} (h : sw_sl te ke ve W N k E c a13 a14 a15 a16 a17 a18 q f l) (hn : ¬ (ke N = k ∧ te N ≤ l)) : sw_sl te ke ve W (N + 1) k E c a13 a14 a15 a16 a17 a18 q f l := by
  obtain ⟨h1, h2, h3, h4, h5, ⟨j, hj, hkj, htj⟩, h7⟩ := h
  refine ⟨h1, h2, h3, h4, h5, ⟨j, by omega, hkj, htj⟩, ?_⟩
  rw [sw_g_s0 (N := N) (show ¬ (ke N = k ∧ (f : Int) ≤ (te N : Int) ∧ (te N : Int) < (l : Int) + 1) by omega)]
  exact h7
theorem sw_sl_c {k q q' f l : Nat} {c c' E' : Int} {b13 b14 b15 b16 b17 b18 : Nat → Int32} (h : sw_sl te ke ve W N k E c a13 a14 a15 a16 a17 a18 q f l) (hc : c' ≤ (f : Int)) (hE : E' ≤ (l : Int) + (W : Int)) (e13 : b13 q' = a13 q) (e14 : b14 q' = a14 q) (e15 : b15 q' = a15 q) (e16 : b16 q' = a16 q) (e17 : b17 q' = a17 q) (e18 : b18 q' = a18 q) : sw_sl te ke ve W N k E' c' b13 b14 b15 b16 b17 b18 q' f l := by
  obtain ⟨h1, h2, h3, h4, h5, h6, h7, h8, h9, h10⟩ := h
  exact ⟨e13.trans h1, e14.trans h2, h3, hc, hE, h6, e15.trans h7, e16.trans h8, e17.trans h9, e18.trans h10⟩
/-- an event that lengthens the last session of its key -/
theorem sw_IS_touch {m : Nat} (hE : sw_E te ke ve) (h : sw_IS te ke ve W M N R E ns F L C a12 a13 a14 a15 a16 a17 a18 a19) (hM : M ≤ (te N : Int)) (hm : ns (ke N) = m + 1) (hN : N < 30) :
    sw_IS te ke ve W M (N + 1) R E ns F (fun k i => if k = ke N ∧ i = m then te N else L k i) C a12 a13 (upd a14 (32 * ke N + m) (nI (te N))) (upd a15 (32 * ke N + m) (a15 (32 * ke N + m) + 1)) (upd a16 (32 * ke N + m) (a16 (32 * ke N + m) + ve N)) (upd a17 (32 * ke N + m) (sw_mn (a17 (32 * ke N + m)) (ve N))) (upd a18 (32 * ke N + m) (sw_mx (a18 (32 * ke N + m)) (ve N))) a19 := by
  have hmono := fun k i d hk hd => @sw_IS_mono te ke ve W N R M E ns F L C a12 a13 a14 a15 a16 a17 a18 a19 h k i d hk hd
  obtain ⟨h1, h2, h3, h4, h5, h6, h7, h8⟩ := h
  have hk := hE.2.2.1 N
  have hCN : C (ke N) ≤ (te N : Int) := by
    have := (h5 (ke N) hk).2
    omega
  have hns : ∀ k, k < 4 → ns k ≤ N := fun k hk => by
    have := @sw_le4 ns k hk
    omega
  have hlast : ∀ k i, k < 4 → i < ns k → L k i ≤ te N := fun k i hk hi => by
    obtain ⟨_, _, _, _, _, ⟨j, hj, _, htj⟩, _⟩ := h6 k i hk hi
    rw [← htj]
    exact sw_E_mono hE (by omega)
  refine ⟨sw_RS_ev h1 (by omega), h2, sw_SQ_ev h3 hCN, by omega, h5, fun k i hk' hi => ?_, fun k i hk' hi => ?_, fun k j hk' hj hkj => ?_⟩
  · by_cases e : k = ke N ∧ i = m
    · obtain ⟨e1, e2⟩ := e
      subst e1 e2
      dsimp only
      rw [if_pos ⟨rfl, rfl⟩]
      have hl := hlast (ke N) i hk' hi
      obtain ⟨s1, s2, s3, s4, s5, ⟨j0, hj0, hkj0, htj0⟩, s7, s8, s9, s10⟩ := h6 (ke N) i hk' hi
      have eg : sw_g te ke ve (ke N) (F (ke N) i : Int) ((te N : Int) + 1) N = sw_g te ke ve (ke N) (F (ke N) i : Int) ((L (ke N) i : Int) + 1) N := by
        refine sw_g_eq (fun j hj hkj => ?_)
        have hj2 := sw_E_mono hE (show j ≤ N by omega)
        rcases h8 (ke N) j hk' hj hkj with z | ⟨i', hi', z1, z2⟩
        · omega
        · have := hmono (ke N) i' (i - i') hk' (by omega)
          rw [show i' + (i - i') = i by omega] at this
          omega
      have eg2 : sw_g te ke ve (ke N) (F (ke N) i : Int) ((te N : Int) + 1) (N + 1) = sw_in (sw_g te ke ve (ke N) (F (ke N) i : Int) ((L (ke N) i : Int) + 1) N) (ve N) := by
        rw [sw_g_s1 rfl (by omega) (by omega), eg]
      refine ⟨s1, pk_us, by omega, s4, by omega, ⟨N, by omega, rfl, rfl⟩, ?_⟩
      rw [eg2, pk_us, pk_us, pk_us, pk_us, s7, s8, s9, s10]
      exact ⟨nI_1 _, rfl, rfl, rfl⟩
    · dsimp only
      rw [if_neg e]
      have n1 := hns k hk'
      have n2 := hns (ke N) hk
      have ne : 32 * k + i ≠ 32 * ke N + m := by omega
      refine sw_sl_c (sw_sl_ev (h6 k i hk' hi) ?_) (by obtain ⟨_, _, _, s4, _⟩ := h6 k i hk' hi; exact s4) (by obtain ⟨_, _, _, _, s5, _⟩ := h6 k i hk' hi; exact s5) rfl (pk_un ne) (pk_un ne) (pk_un ne) (pk_un ne) (pk_un ne)
      intro z
      have ek : k = ke N := z.1.symm
      subst ek
      have hi2 : i < m := by omega
      have t1 := h7 (ke N) i hk' (by omega)
      obtain ⟨_, _, t2, _⟩ := h6 (ke N) (i + 1) hk' (by omega)
      have t3 := hlast (ke N) (i + 1) hk' (by omega)
      omega
  · have t := h7 k i hk' hi
    have ne : ¬ (k = ke N ∧ i = m) := by
      intro z
      rw [z.1] at hi
      omega
    dsimp only
    rw [if_neg ne]
    exact t
  · by_cases ej : j = N
    · subst ej
      subst hkj
      refine Or.inr ⟨m, by omega, ?_, ?_⟩
      · obtain ⟨_, _, s3, _⟩ := h6 (ke j) m hk' (by omega)
        have := hlast (ke j) m hk' (by omega)
        omega
      · dsimp only
        rw [if_pos ⟨rfl, rfl⟩]
        exact Nat.le_refl _
    · rcases h8 k j hk' (by omega) hkj with z | ⟨i, hi, z1, z2⟩
      · exact Or.inl z
      · refine Or.inr ⟨i, hi, z1, ?_⟩
        dsimp only
        by_cases e : k = ke N ∧ i = m
        · rw [if_pos e]
          have := hlast k i hk' hi
          omega
        · rw [if_neg e]
          exact z2
/-- an event that begins a session -/
theorem sw_IS_new {m : Nat} (hE : sw_E te ke ve) (h : sw_IS te ke ve W M N R E ns F L C a12 a13 a14 a15 a16 a17 a18 a19) (hM : M ≤ (te N : Int)) (hm : ns (ke N) = m) (hN : N < 30) (hgap : ∀ i, i < m → L (ke N) i + W < te N) :
    sw_IS te ke ve W M (N + 1) R E (fun k => if k = ke N then m + 1 else ns k) (fun k i => if k = ke N ∧ i = m then te N else F k i) (fun k i => if k = ke N ∧ i = m then te N else L k i) C (upd a12 (ke N) (nI (m + 1))) (upd a13 (32 * ke N + m) (nI (te N))) (upd a14 (32 * ke N + m) (nI (te N))) (upd a15 (32 * ke N + m) 1) (upd a16 (32 * ke N + m) (ve N)) (upd a17 (32 * ke N + m) (ve N)) (upd a18 (32 * ke N + m) (ve N)) a19 := by
  obtain ⟨h1, h2, h3, h4, h5, h6, h7, h8⟩ := h
  have hk := hE.2.2.1 N
  have hCN : C (ke N) ≤ (te N : Int) := by
    have := (h5 (ke N) hk).2
    omega
  have hns : ∀ k, k < 4 → ns k ≤ N := fun k hk => by
    have := @sw_le4 ns k hk
    omega
  have hs4 := @sw_sum4 ns (fun k => if k = ke N then m + 1 else ns k) (ke N) hk (by rw [if_pos rfl, hm]) (fun i hi => if_neg hi)
  have hold : ∀ k i, k < 4 → i < (if k = ke N then m + 1 else ns k) → ¬ (k = ke N ∧ i = m) → i < ns k := by
    intro k i hk' hi ne
    by_cases e : k = ke N
    · rw [if_pos e] at hi
      rw [e, hm]
      have : i ≠ m := fun z => ne ⟨e, z⟩
      omega
    · rw [if_neg e] at hi
      exact hi
  refine ⟨sw_RS_ev h1 (by omega), h2, sw_SQ_ev h3 hCN, ?_, fun k hk' => ⟨?_, (h5 k hk').2⟩, fun k i hk' hi => ?_, fun k i hk' hi => ?_, fun k j hk' hj hkj => ?_⟩
  · rw [hs4]
    omega
  · dsimp only
    by_cases e : k = ke N
    · rw [if_pos e, e, pk_us]
    · rw [if_neg e, pk_un e]
      exact (h5 k hk').1
  · by_cases e : k = ke N ∧ i = m
    · obtain ⟨e1, e2⟩ := e
      subst e1 e2
      dsimp only
      rw [if_pos ⟨rfl, rfl⟩, if_pos ⟨rfl, rfl⟩]
      have eg : sw_g te ke ve (ke N) (te N : Int) ((te N : Int) + 1) N = sw_0 := by
        refine sw_g_nil (fun j hj hkj t => ?_)
        rcases h8 (ke N) j hk' hj hkj with z | ⟨i', hi', z1, z2⟩
        · omega
        · have := hgap i' (by omega)
          omega
      have eg2 : sw_g te ke ve (ke N) (te N : Int) ((te N : Int) + 1) (N + 1) = (1, ve N, ve N, ve N) := by
        rw [sw_g_s1 rfl (by omega) (by omega), eg, sw_in0 (hE.2.2.2 N)]
      refine ⟨pk_us, pk_us, Nat.le_refl _, hCN, by omega, ⟨N, by omega, rfl, rfl⟩, ?_⟩
      rw [eg2, pk_us, pk_us, pk_us, pk_us]
      exact ⟨rfl, rfl, rfl, rfl⟩
    · have hi' := hold k i hk' hi e
      dsimp only
      rw [if_neg e, if_neg e]
      have n1 := hns k hk'
      have n2 := hns (ke N) hk
      have ne : 32 * k + i ≠ 32 * ke N + m := by omega
      refine sw_sl_c (sw_sl_ev (h6 k i hk' hi') ?_) (by obtain ⟨_, _, _, s4, _⟩ := h6 k i hk' hi'; exact s4) (by obtain ⟨_, _, _, _, s5, _⟩ := h6 k i hk' hi'; exact s5) (pk_un ne) (pk_un ne) (pk_un ne) (pk_un ne) (pk_un ne) (pk_un ne)
      intro z
      have ek : k = ke N := z.1.symm
      subst ek
      have := hgap i (by omega)
      omega
  · dsimp only at hi ⊢
    have ne : ¬ (k = ke N ∧ i = m) := by
      intro z
      rw [if_pos z.1] at hi
      omega
    rw [if_neg ne]
    by_cases e : k = ke N ∧ i + 1 = m
    · rw [if_pos e, e.1]
      exact hgap i (by omega)
    · rw [if_neg e]
      exact h7 k i hk' (hold k (i + 1) hk' hi e)
  · by_cases ej : j = N
    · subst ej
      subst hkj
      refine Or.inr ⟨m, ?_, ?_, ?_⟩
      · dsimp only
        rw [if_pos rfl]
        omega
      · dsimp only
        rw [if_pos ⟨rfl, rfl⟩]
        exact Nat.le_refl _
      · dsimp only
        rw [if_pos ⟨rfl, rfl⟩]
        exact Nat.le_refl _
    · rcases h8 k j hk' (by omega) hkj with z | ⟨i, hi, z1, z2⟩
      · exact Or.inl z
      · have ne : ¬ (k = ke N ∧ i = m) := by
          intro z
          rw [z.1] at hi
          omega
        refine Or.inr ⟨i, ?_, ?_, ?_⟩
        · dsimp only
          by_cases e : k = ke N
          · rw [if_pos e]
            rw [e] at hi
            omega
          · rw [if_neg e]
            exact hi
        · dsimp only
          rw [if_neg ne]
          exact z1
        · dsimp only
          rw [if_neg ne]
          exact z2
/-- the first session of a key is closed: of all the one that ends first -/
theorem sw_IS_close {k m : Nat} {c t l mm : Int32} (hE : sw_E te ke ve) (h : sw_IS te ke ve W M N R E ns F L C a12 a13 a14 a15 a16 a17 a18 a19) (hW : 0 < W) (hM : M ≤ 63) (hk : k < 4) (hm : ns k = m + 1) (hN : N < 30) (hend : (L k 0 : Int) + (W : Int) ≤ M) (hmin : ∀ k', k' < 4 → 0 < ns k' → L k 0 ≤ L k' 0)
    (ec : c = a15 (32 * k)) (et : t = a16 (32 * k)) (el : l = a17 (32 * k)) (emm : mm = a18 (32 * k)) :
    sw_IS te ke ve W M N (R + 1) ((L k 0 : Int) + (W : Int)) (fun k' => if k' = k then m else ns k') (fun k' i => if k' = k then F k' (i + 1) else F k' i) (fun k' i => if k' = k then L k' (i + 1) else L k' i) (fun k' => if k' = k then (L k 0 : Int) + 1 else C k') (upd a12 k (nI m)) (sw_sh a13 (32 * k) (32 * k + m)) (sw_sh a14 (32 * k) (32 * k + m)) (sw_sh a15 (32 * k) (32 * k + m)) (sw_sh a16 (32 * k) (32 * k + m)) (sw_sh a17 (32 * k) (32 * k + m)) (sw_sh a18 (32 * k) (32 * k + m))
      (sw_u7 a19 R (nI k) (sw_z (F k 0 : Int)) (sw_z ((L k 0 : Int) + (W : Int))) c t l mm) := by
  have hmono := fun k i d hk hd => @sw_IS_mono te ke ve W N R M E ns F L C a12 a13 a14 a15 a16 a17 a18 a19 h k i d hk hd
  obtain ⟨h1, h2, h3, h4, h5, h6, h7, h8⟩ := h
  have hns : ∀ k, k < 4 → ns k ≤ N := fun k hk => by
    have := @sw_le4 ns k hk
    omega
  have hs4 := @sw_sum4 (fun k' => if k' = k then m else ns k') ns k hk (by rw [if_pos rfl, hm]) (fun i hi => (if_neg hi).symm)
  have hnk := hns k hk
  obtain ⟨s1, s2, s3, s4, s5, ⟨j0, hj0, hkj0, htj0⟩, s7, s8, s9, s10⟩ := h6 k 0 hk (by omega)
  have s7' : c = nI (sw_g te ke ve k (F k 0 : Int) ((L k 0 : Int) + 1) N).1 := ec.trans s7
  have s8' : t = (sw_g te ke ve k (F k 0 : Int) ((L k 0 : Int) + 1) N).2.1 := et.trans s8
  have s9' : l = (sw_g te ke ve k (F k 0 : Int) ((L k 0 : Int) + 1) N).2.2.1 := el.trans s9
  have s10' : mm = (sw_g te ke ve k (F k 0 : Int) ((L k 0 : Int) + 1) N).2.2.2 := emm.trans s10
  have hpos : 0 < (sw_g te ke ve k (F k 0 : Int) ((L k 0 : Int) + 1) N).1 := sw_g_pos hj0 hkj0 (by omega) (by omega)
  have later : ∀ i, 0 < i → i < ns k → L k 0 + W < F k i := by
    intro i hi hi2
    have t1 := h7 k 0 hk (by omega)
    rcases (show i = 1 ∨ 1 < i by omega) with z | z
    · rw [z]
      exact t1
    · have t2 := hmono k 1 (i - 1 - 1) hk (by omega)
      rw [show 1 + (i - 1 - 1) = i - 1 by omega] at t2
      have t3 := h7 k (i - 1) hk (by omega)
      rw [show i - 1 + 1 = i by omega] at t3
      obtain ⟨_, _, t4, _⟩ := h6 k 1 hk (by omega)
      have t5 : L k 0 + W < F k 1 := t1
      omega
  have inx : ∀ j, j < N → ke j = k → (te j : Int) < C k ∨ (F k 0 ≤ te j ∧ te j ≤ L k 0) ∨ L k 0 + W < te j := by
    intro j hj hkj
    rcases h8 k j hk hj hkj with z | ⟨i, hi, z1, z2⟩
    · exact Or.inl z
    · rcases Nat.eq_zero_or_pos i with z | z
      · subst z
        exact Or.inr (Or.inl ⟨z1, z2⟩)
      · have := later i z hi
        exact Or.inr (Or.inr (by omega))
  have eg : sw_g te ke ve k (F k 0 : Int) ((L k 0 : Int) + (W : Int)) N = sw_g te ke ve k (F k 0 : Int) ((L k 0 : Int) + 1) N := by
    refine sw_g_eq (fun j hj hkj => ?_)
    rcases inx j hj hkj with z | z | z <;> omega
  have eg2 : sw_g te ke ve k (C k) ((L k 0 : Int) + 1) N = sw_g te ke ve k (F k 0 : Int) ((L k 0 : Int) + 1) N := by
    refine sw_g_eq (fun j hj hkj => ?_)
    rcases inx j hj hkj with z | z | z <;> omega
  have hG : sw_G (sw_g te ke ve k (F k 0 : Int) ((L k 0 : Int) + 1) N) c t l mm := ⟨s7', s8', fun _ => ⟨s9', s10'⟩⟩
  have hall : ∀ k' i, k' < 4 → i < ns k' → L k 0 ≤ L k' i := by
    intro k' i hk' hi
    have t1 := hmin k' hk' (by omega)
    have t2 := hmono k' 0 i hk' (by omega)
    rw [Nat.zero_add] at t2
    omega
  refine ⟨?_, hend, ?_, ?_, fun k' hk' => ⟨?_, ?_⟩, fun k' i hk' hi => ?_, fun k' i hk' hi => ?_, fun k' j hk' hj hkj => ?_⟩
  · refine sw_RS_add h1 hk (by omega) (by omega) s5 (by omega) (show (F k 0 : Int) + (W : Int) ≤ (L k 0 : Int) + (W : Int) by omega) ?_ ?_
    · rw [eg]
      exact hpos
    · rw [eg]
      exact hG
  · refine sw_SQ_add (k := k) (b := (L k 0 : Int) + 1) h3 (by omega) (if_pos rfl) (fun i hi => if_neg hi) ?_
    rw [eg2]
    exact hG
  · dsimp only at hs4 ⊢
    omega
  · dsimp only
    by_cases e : k' = k
    · rw [if_pos e, e, pk_us]
    · rw [if_neg e, pk_un e]
      exact (h5 k' hk').1
  · dsimp only
    by_cases e : k' = k
    · rw [if_pos e]
      exact Or.inr (by omega)
    · rw [if_neg e]
      exact (h5 k' hk').2
  · dsimp only at hi ⊢
    by_cases e : k' = k
    · subst e
      rw [if_pos rfl] at hi
      rw [if_pos rfl, if_pos rfl, if_pos rfl]
      have hin : 32 * k' ≤ 32 * k' + i ∧ 32 * k' + i < 32 * k' + m := by omega
      have t1 := later (i + 1) (by omega) (by omega)
      have t2 := hall k' (i + 1) hk' (by omega)
      exact sw_sl_c (h6 k' (i + 1) hk' (by omega)) (by omega) (by omega) (sw_sh_in hin) (sw_sh_in hin) (sw_sh_in hin) (sw_sh_in hin) (sw_sh_in hin) (sw_sh_in hin)
    · rw [if_neg e] at hi
      rw [if_neg e, if_neg e, if_neg e]
      have n1 := hns k' hk'
      have hout : ¬ (32 * k ≤ 32 * k' + i ∧ 32 * k' + i < 32 * k + m) := by omega
      have t2 := hall k' i hk' hi
      exact sw_sl_c (h6 k' i hk' hi) (by obtain ⟨_, _, _, s4, _⟩ := h6 k' i hk' hi; exact s4) (by omega) (sw_sh_out hout) (sw_sh_out hout) (sw_sh_out hout) (sw_sh_out hout) (sw_sh_out hout) (sw_sh_out hout)
  · dsimp only at hi ⊢
    by_cases e : k' = k
    · subst e
      rw [if_pos rfl] at hi
      rw [if_pos rfl, if_pos rfl]
      exact h7 k' (i + 1) hk' (by omega)
    · rw [if_neg e] at hi
      rw [if_neg e, if_neg e]
      exact h7 k' i hk' hi
  · dsimp only
    by_cases e : k' = k
    · subst e
      rw [if_pos rfl, if_pos rfl]
      rcases h8 k' j hk' hj hkj with z | ⟨i, hi, z1, z2⟩
      · exact Or.inl (by omega)
      · rcases Nat.eq_zero_or_pos i with z | z
        · subst z
          exact Or.inl (by omega)
        · refine Or.inr ⟨i - 1, by omega, ?_, ?_⟩
          · rw [if_pos rfl, show i - 1 + 1 = i by omega]
            exact z1
          · rw [if_pos rfl, show i - 1 + 1 = i by omega]
            exact z2
    · rw [if_neg e, if_neg e]
      rcases h8 k' j hk' hj hkj with z | ⟨i, hi, z1, z2⟩
      · exact Or.inl z
      · refine Or.inr ⟨i, hi, ?_, ?_⟩
        · rw [if_neg e]
          exact z1
        · rw [if_neg e]
          exact z2
end
end
section
/-! sessions: the walks -/
/-- a key whose first session ends -/
def sw_en (W : Nat) (M : Int) (ns h : Nat → Nat) (k : Nat) : Prop := 0 < ns k ∧ (h k : Int) + (W : Int) ≤ M
/-- the best key below c -/
def sw_be (W : Nat) (M : Int) (ns h : Nat → Nat) (c : Nat) (x : Int32) : Prop :=
  (x = -1 ∧ ∀ k, k < c → ¬ sw_en W M ns h k) ∨ (∃ b, b < c ∧ x = nI b ∧ sw_en W M ns h b ∧ ∀ k, k < c → sw_en W M ns h k → h b ≤ h k)
section
variable {kd wd pn lt mk lc nw rc km kl kw kr tc ts tl tm : Int32} {a1 a2 a3 a4 a5 a6 a7 a8 a9 a10 a11 a12 a13 a14 a15 a16 a17 a18 a19 a20 a21 a22 a23 a24 : Nat → Int32}
variable {W : Nat} {M : Int} {ns h : Nat → Nat}
theorem sw_ne4 {post : Int32 → Prop} (hW : W ≤ 8) (hM : -2000 ≤ M ∧ M ≤ 63) (h12 : ∀ k, k < 4 → a12 k = nI (ns k) ∧ ns k < 1000) (h14 : ∀ k, k < 4 → 0 < ns k → a14 (32 * k) = nI (h k) ∧ h k < 64)
    (H : ∀ x, sw_be W M ns h 4 x → post x) :
    ∀ (d c : Nat) (x : Int32), c + d = 4 → sw_be W M ns h c x → wX_nextEnding_4 post kd (nI W) pn lt (sw_z M) lc nw rc km kl kw kr tc ts tl tm a1 a2 a3 a4 a5 a6 a7 a8 a9 a10 a11 a12 a13 a14 a15 a16 a17 a18 a19 a20 a21 a22 a23 a24 (d + 1) x (nI c) := by
  intro d
  induction d with
  | zero =>
    intro c x hc hb
    have ec : c = 4 := by omega
    subst ec
    exact pk_le 4 4 (fun _ => H x hb) (fun z => absurd z (by omega))
  | succ d ih =>
    intro c x hc hb
    have hc4 : c < 4 := by omega
    obtain ⟨e12, b12⟩ := h12 c hc4
    have ei : (32 : Int32) * nI c = nI (32 * c) := pk_mul 32 c
    have skip : ¬ sw_en W M ns h c → wX_nextEnding_4 post kd (nI W) pn lt (sw_z M) lc nw rc km kl kw kr tc ts tl tm a1 a2 a3 a4 a5 a6 a7 a8 a9 a10 a11 a12 a13 a14 a15 a16 a17 a18 a19 a20 a21 a22 a23 a24 (d + 1) x (nI (c + 1)) := by
      intro ne
      refine ih (c + 1) x (by omega) ?_
      rcases hb with ⟨hx, ha⟩ | ⟨b, hb1, hb2, hb3, hb4⟩
      · refine Or.inl ⟨hx, fun k hk => ?_⟩
        by_cases e : k = c
        · rw [e]
          exact ne
        · exact ha k (by omega)
      · refine Or.inr ⟨b, by omega, hb2, hb3, fun k hk hek => ?_⟩
        by_cases e : k = c
        · rw [e] at hek
          exact absurd hek ne
        · exact hb4 k (by omega) hek
    refine pk_le 4 c (fun z => absurd z (by omega)) (fun _ => ⟨pk_in c 4 hc4, ?_⟩)
    refine pk_le (ns c) 0 (fun z => br_t rfl (nm_r (nI_1 c) (skip (fun t => absurd t.1 (by omega))))) (fun z => ?_) (by rw [nI_clamp (by omega)]; exact e12) rfl
    obtain ⟨e14, b14⟩ := h14 c hc4 z
    have c14 : a14 ((32 : Int32) * nI c).toNatClampNeg = nI (h c) := by
      rw [pk_cl (32 * c) ei]
      exact e14
    refine ⟨pk_in (32 * c) 128 (by omega) ei, ?_⟩
    refine sw_blt M ((h c : Int) + (W : Int)) rfl (by rw [c14, sw_zn, sw_zn, sw_add]) (fun z2 => br_t rfl (nm_r (nI_1 c) (skip (fun t => absurd t.2 (by omega))))) (fun z2 => ?_)
    have hen : sw_en W M ns h c := ⟨z, z2⟩
    refine br_f (by decide) ?_
    rcases hb with ⟨hx, ha⟩ | ⟨b, hb1, hb2, hb3, hb4⟩
    · subst hx
      refine br_t (by decide) (nm_r (nI_1 c) (ih (c + 1) (nI c) (by omega) (Or.inr ⟨c, by omega, rfl, hen, fun k hk hek => ?_⟩)))
      by_cases e : k = c
      · rw [e]
        exact Nat.le_refl _
      · exact absurd hek (ha k (by omega))
    · subst hb2
      obtain ⟨e14b, b14b⟩ := h14 b (by omega) hb3.1
      have eb : (32 : Int32) * nI b = nI (32 * b) := pk_mul 32 b
      have c14b : a14 ((32 : Int32) * nI b).toNatClampNeg = nI (h b) := by
        rw [pk_cl (32 * b) eb]
        exact e14b
      refine br_f (nI_pos (by omega)) ⟨pk_in (32 * c) 128 (by omega) ei, pk_in (32 * b) 128 (by omega) eb, ?_⟩
      refine pk_le (h b) (h c) (fun z3 => nm_r (nI_1 c) (ih (c + 1) (nI b) (by omega) (Or.inr ⟨b, by omega, rfl, hb3, fun k hk hek => ?_⟩))) (fun z3 => nm_r (nI_1 c) (ih (c + 1) (nI c) (by omega) (Or.inr ⟨c, by omega, rfl, hen, fun k hk hek => ?_⟩))) c14b c14
      · by_cases e : k = c
        · rw [e]
          exact z3
        · exact hb4 k (by omega) hek
      · by_cases e : k = c
        · rw [e]
          exact Nat.le_refl _
        · have := hb4 k (by omega) hek
          omega
theorem sw_nextEnding {post : Int32 → Prop} (hW : W ≤ 8) (hM : -2000 ≤ M ∧ M ≤ 63) (h12 : ∀ k, k < 4 → a12 k = nI (ns k) ∧ ns k < 1000) (h14 : ∀ k, k < 4 → 0 < ns k → a14 (32 * k) = nI (h k) ∧ h k < 64)
    (H : ∀ x, sw_be W M ns h 4 x → post x) : wpX_nextEnding post (kd, (nI W), pn, lt, (sw_z M), lc, nw, rc, km, kl, kw, kr, tc, ts, tl, tm, a1, a2, a3, a4, a5, a6, a7, a8, a9, a10, a11, a12, a13, a14, a15, a16, a17, a18, a19, a20, a21, a22, a23, a24) :=
  ⟨5, sw_ne4 hW hM h12 h14 H 4 0 (-1) rfl (Or.inl ⟨rfl, fun k hk => absurd hk (by omega)⟩)⟩
/-- nothing ends -/
theorem sw_closeS0 {post : St2 → Prop} (hW : W ≤ 8) (hM : -2000 ≤ M ∧ M ≤ 63) (h12 : ∀ k, k < 4 → a12 k = nI (ns k) ∧ ns k < 1000) (h14 : ∀ k, k < 4 → 0 < ns k → a14 (32 * k) = nI (h k) ∧ h k < 64 ∧ M < (h k : Int) + (W : Int))
    (H : post (kd, (nI W), pn, lt, (sw_z M), lc, nw, rc, km, kl, kw, kr, tc, ts, tl, tm, a1, a2, a3, a4, a5, a6, a7, a8, a9, a10, a11, a12, a13, a14, a15, a16, a17, a18, a19, a20, a21, a22, a23, a24)) : wpX_closeSessions post (kd, (nI W), pn, lt, (sw_z M), lc, nw, rc, km, kl, kw, kr, tc, ts, tl, tm, a1, a2, a3, a4, a5, a6, a7, a8, a9, a10, a11, a12, a13, a14, a15, a16, a17, a18, a19, a20, a21, a22, a23, a24) := by
  unfold wpX_closeSessions
  refine sw_nextEnding hW hM h12 (fun k hk hn => ⟨(h14 k hk hn).1, (h14 k hk hn).2.1⟩) (fun x hx => ?_)
  rcases hx with ⟨hx, ha⟩ | ⟨b, hb1, hb2, hb3, hb4⟩
  · subst hx
    exact ⟨1, br_t (by decide) H⟩
  · have := (h14 b hb1 hb3.1).2.2
    exact absurd hb3.2 (by omega)
end
section
variable {kd wd pn lt mk lc nw rc km kl kw kr tc ts tl tm : Int32} {a1 a2 a3 a4 a5 a6 a7 a8 a9 a10 a11 a12 a13 a14 a15 a16 a17 a18 a19 a20 a21 a22 a23 a24 : Nat → Int32}
variable {te ke : Nat → Nat} {ve : Nat → Int32} {W N R0 : Nat} {M : Int}
theorem sw_cs5 {post : St2 → Prop} (hE : sw_E te ke ve) (hW : 0 < W ∧ W ≤ 8) (hN : N < 30) (hM : -2000 ≤ M ∧ M ≤ 63)
    (H : ∀ (R' : Nat) (E' : Int) (ns' : Nat → Nat) (F' L' : Nat → Nat → Nat) (C' : Nat → Int) (tc' ts' tl' tm' : Int32) (b12 b13 b14 b15 b16 b17 b18 b19 : Nat → Int32), R0 ≤ R' → sw_IS te ke ve W M N R' E' ns' F' L' C' b12 b13 b14 b15 b16 b17 b18 b19 → (∀ k, k < 4 → 0 < ns' k → M < (L' k 0 : Int) + (W : Int)) →
      post (kd, (nI W), pn, lt, (sw_z M), lc, nw, (nI R'), km, kl, kw, kr, tc', ts', tl', tm', a1, a2, a3, a4, a5, a6, a7, a8, a9, a10, a11, b12, b13, b14, b15, b16, b17, b18, b19, a20, a21, a22, a23, a24)) :
    ∀ (d R : Nat) (E : Int) (ns : Nat → Nat) (F L : Nat → Nat → Nat) (C : Nat → Int) (tc ts tl tm : Int32) (a12 a13 a14 a15 a16 a17 a18 a19 : Nat → Int32) (x : Int32), ns 0 + ns 1 + ns 2 + ns 3 ≤ d → R0 ≤ R → sw_IS te ke ve W M N R E ns F L C a12 a13 a14 a15 a16 a17 a18 a19 → sw_be W M ns (fun k => L k 0) 4 x →
      wX_closeSessions_5 post (d + 1) x kd (nI W) pn lt (sw_z M) lc nw (nI R) km kl kw kr tc ts tl tm a1 a2 a3 a4 a5 a6 a7 a8 a9 a10 a11 a12 a13 a14 a15 a16 a17 a18 a19 a20 a21 a22 a23 a24 := by
  intro d
  induction d with
  | zero =>
    intro R E ns F L C tc ts tl tm a12 a13 a14 a15 a16 a17 a18 a19 x hd hR hI hb
    rcases hb with ⟨hx, ha⟩ | ⟨b, hb1, hb2, hb3, hb4⟩
    · subst hx
      refine br_t (by decide) (H R E ns F L C tc ts tl tm a12 a13 a14 a15 a16 a17 a18 a19 hR hI (fun k hk hn => ?_))
      rcases Int.lt_or_le M ((L k 0 : Int) + (W : Int)) with z | z
      · exact z
      · exact absurd ⟨hn, z⟩ (ha k hk)
    · have := @sw_le4 ns b hb1
      have := hb3.1
      omega
  | succ d ih =>
    intro R E ns F L C tc ts tl tm a12 a13 a14 a15 a16 a17 a18 a19 x hd hR hI hb
    rcases hb with ⟨hx, ha⟩ | ⟨b, hb1, hb2, hb3, hb4⟩
    · subst hx
      refine br_t (by decide) (H R E ns F L C tc ts tl tm a12 a13 a14 a15 a16 a17 a18 a19 hR hI (fun k hk hn => ?_))
      rcases Int.lt_or_le M ((L k 0 : Int) + (W : Int)) with z | z
      · exact z
      · exact absurd ⟨hn, z⟩ (ha k hk)
    · subst hb2
      have hI' := hI
      obtain ⟨h1, h2, h3, h4, h5, h6, h7, h8⟩ := hI'
      have hns := @sw_le4 ns b hb1
      obtain ⟨m, hm⟩ : ∃ m, ns b = m + 1 := ⟨ns b - 1, by have := hb3.1; omega⟩
      obtain ⟨s1, s2, s3, s4, s5, ⟨j0, hj0, hkj0, htj0⟩, _⟩ := h6 b 0 hb1 (by omega)
      have hL64 := hE.1 j0
      have hmin : ∀ k', k' < 4 → 0 < ns k' → L b 0 ≤ L k' 0 := by
        intro k' hk' hn
        rcases Int.lt_or_le M ((L k' 0 : Int) + (W : Int)) with z | z
        · have := hb3.2
          dsimp only at this
          omega
        · exact hb4 k' hk' ⟨hn, z⟩
      have hend : (L b 0 : Int) + (W : Int) ≤ M := hb3.2
      have ei : (32 : Int32) * nI b = nI (32 * b) := pk_mul 32 b
      have vi : vp_in (nI (32 * b)) 128 := pk_in (32 * b) 128 (by omega)
      have cl : (nI (32 * b)).toNatClampNeg = 32 * b := nI_clamp (by omega)
      have nI_new := sw_IS_close hE hI hW.1 hM.2 hb1 hm hN hend hmin rfl rfl rfl rfl
      have hs4 := @sw_sum4 (fun k' => if k' = b then m else ns k') ns b hb1 (by rw [if_pos rfl, hm]) (fun i hi => (if_neg hi).symm)
      refine br_f (nI_pos (by omega)) (nm_r ei ?_)
      rw [cl]
      refine ⟨vi, nm_e ⟨vi, nm_e ⟨vi, nm_e ⟨vi, nm_e ⟨vi, vi, ?_⟩⟩⟩⟩⟩
      have e13 : a13 (32 * b) = sw_z (F b 0 : Int) := by
        rw [← sw_zn]
        exact s1
      have e14 : a14 (32 * b) + nI W = sw_z ((L b 0 : Int) + (W : Int)) := by
        rw [show a14 (32 * b) = nI (L b 0) from s2, sw_zn, sw_zn, sw_add]
      rw [e13, e14]
      refine sw_addResult (show R < 300 by omega) ?_
      refine sw_remove (32 * b) hb1 (by rw [(h5 b hb1).1, hm]) (by omega) rfl (by omega) ?_
      have hI2 := nI_new
      obtain ⟨_, _, _, g4, g5, g6, _, _⟩ := hI2
      refine sw_nextEnding hW.2 hM (fun k hk => ⟨(g5 k hk).1, ?_⟩) (fun k hk hn => ?_) (fun x hx => ih (R + 1) _ _ _ _ _ _ _ _ _ _ _ _ _ _ _ _ _ x (by omega) (by omega) nI_new hx)
      · have := @sw_le4 (fun k' => if k' = b then m else ns k') k hk
        omega
      · obtain ⟨_, t2, _, _, _, ⟨j, hj, _, htj⟩, _⟩ := g6 k 0 hk hn
        exact ⟨t2, Nat.lt_of_le_of_lt (Nat.le_of_eq htj.symm) (hE.1 j)⟩
theorem sw_closeS {post : St2 → Prop} {R : Nat} {E : Int} {ns : Nat → Nat} {F L : Nat → Nat → Nat} {C : Nat → Int} (hE : sw_E te ke ve) (hW : 0 < W ∧ W ≤ 8) (hN : N < 30) (hM : -2000 ≤ M ∧ M ≤ 63) (hI : sw_IS te ke ve W M N R E ns F L C a12 a13 a14 a15 a16 a17 a18 a19)
    (H : ∀ (R' : Nat) (E' : Int) (ns' : Nat → Nat) (F' L' : Nat → Nat → Nat) (C' : Nat → Int) (tc' ts' tl' tm' : Int32) (b12 b13 b14 b15 b16 b17 b18 b19 : Nat → Int32), R ≤ R' → sw_IS te ke ve W M N R' E' ns' F' L' C' b12 b13 b14 b15 b16 b17 b18 b19 → (∀ k, k < 4 → 0 < ns' k → M < (L' k 0 : Int) + (W : Int)) →
      post (kd, (nI W), pn, lt, (sw_z M), lc, nw, (nI R'), km, kl, kw, kr, tc', ts', tl', tm', a1, a2, a3, a4, a5, a6, a7, a8, a9, a10, a11, b12, b13, b14, b15, b16, b17, b18, b19, a20, a21, a22, a23, a24)) :
    wpX_closeSessions post (kd, (nI W), pn, lt, (sw_z M), lc, nw, (nI R), km, kl, kw, kr, tc, ts, tl, tm, a1, a2, a3, a4, a5, a6, a7, a8, a9, a10, a11, a12, a13, a14, a15, a16, a17, a18, a19, a20, a21, a22, a23, a24) := by
  have hI2 := hI
  obtain ⟨_, _, _, g4, g5, g6, _, _⟩ := hI2
  unfold wpX_closeSessions
  refine sw_nextEnding (h := fun k => L k 0) hW.2 hM (fun k hk => ⟨(g5 k hk).1, ?_⟩) (fun k hk hn => ?_) (fun x hx => ⟨_, sw_cs5 hE hW hN hM H (ns 0 + ns 1 + ns 2 + ns 3) R E ns F L C tc ts tl tm a12 a13 a14 a15 a16 a17 a18 a19 x (Nat.le_refl _) (Nat.le_refl _) hI hx⟩)
  · have := @sw_le4 ns k hk
    omega
  · obtain ⟨_, t2, _, _, _, ⟨j, hj, _, htj⟩, _⟩ := g6 k 0 hk hn
    have := hE.1 j
    exact ⟨t2, by omega⟩
end
/-! an event into the sessions -/
section
variable {kd wd pn lt mk lc nw rc km kl kw kr tc ts tl tm : Int32} {a1 a2 a3 a4 a5 a6 a7 a8 a9 a10 a11 a12 a13 a14 a15 a16 a17 a18 a19 a20 a21 a22 a23 a24 : Nat → Int32}
theorem sw_ts235 {post : St2 → Prop} {x1 x2 x3 x5 z : Int32} {q : Nat} (hq : q < 128) (hj : x5 ≤ nI (q + 1) ∨ (¬ x5 ≤ nI (q + 1) ∧ q + 1 < 128 ∧ x1 < a13 (q + 1) - wd))
    (H : post (kd, wd, pn, lt, mk, lc, nw, rc, km, kl, kw, kr, tc, ts, tl, tm, a1, a2, a3, a4, a5, a6, a7, a8, a9, a10, a11, a12, a13, a14, (upd a15 q (a15 q + 1)), (upd a16 q (a16 q + x3)), a17, (upd a18 q z), a19, a20, a21, a22, a23, a24)) : wX_takeIntoSession_235 post x1 x2 x3 (nI q) x5 z (nI q) kd wd pn lt mk lc nw rc km kl kw kr tc ts tl tm a1 a2 a3 a4 a5 a6 a7 a8 a9 a10 a11 a12 a13 a14 a15 a16 a17 a18 a19 a20 a21 a22 a23 a24 := by
  have vi : vp_in (nI q) 128 := vp_in_nI hq (by omega)
  unfold wX_takeIntoSession_235
  rw [nI_clamp (show q < 2 ^ 31 by omega), nI_1 q]
  refine ⟨vi, nm_e ⟨vi, vi, nm_e ⟨vi, vi, nm_e ?_⟩⟩⟩
  rcases hj with hj | ⟨hj1, hj2, hj3⟩
  · exact br_t hj H
  · refine br_f hj1 ⟨vp_in_nI hj2 (by omega), br_t ?_ H⟩
    rw [nI_clamp (show q + 1 < 2 ^ 31 by omega)]
    exact hj3
theorem sw_ts206 {post : St2 → Prop} {x1 x2 x3 x5 z : Int32} {q : Nat} (hq : q < 128) (hj : x5 ≤ nI (q + 1) ∨ (¬ x5 ≤ nI (q + 1) ∧ q + 1 < 128 ∧ x1 < a13 (q + 1) - wd))
    (H : post (kd, wd, pn, lt, mk, lc, nw, rc, km, kl, kw, kr, tc, ts, tl, tm, a1, a2, a3, a4, a5, a6, a7, a8, a9, a10, a11, a12, a13, a14, (upd a15 q (a15 q + 1)), (upd a16 q (a16 q + x3)), (upd a17 q z), (upd a18 q (sw_mx (a18 q) x3)), a19, a20, a21, a22, a23, a24)) : wX_takeIntoSession_206 post x1 x2 x3 (nI q) x5 z (nI q) kd wd pn lt mk lc nw rc km kl kw kr tc ts tl tm a1 a2 a3 a4 a5 a6 a7 a8 a9 a10 a11 a12 a13 a14 a15 a16 a17 a18 a19 a20 a21 a22 a23 a24 := by
  have vi : vp_in (nI q) 128 := vp_in_nI hq (by omega)
  unfold wX_takeIntoSession_206
  rw [nI_clamp (show q < 2 ^ 31 by omega)]
  refine ⟨vi, nm_e ⟨vi, ?_⟩⟩
  unfold sw_mx at H
  by_cases c : x3 ≤ a18 q
  · rw [if_pos c] at H
    exact br_t c ⟨vi, sw_ts235 hq hj H⟩
  · rw [if_neg c] at H
    exact br_f c (sw_ts235 hq hj H)
theorem sw_ts177 {post : St2 → Prop} {x1 x2 x3 x5 z : Int32} {q : Nat} (hq : q < 128) (hj : x5 ≤ nI (q + 1) ∨ (¬ x5 ≤ nI (q + 1) ∧ q + 1 < 128 ∧ x1 < a13 (q + 1) - wd))
    (H : post (kd, wd, pn, lt, mk, lc, nw, rc, km, kl, kw, kr, tc, ts, tl, tm, a1, a2, a3, a4, a5, a6, a7, a8, a9, a10, a11, a12, a13, (upd a14 q z), (upd a15 q (a15 q + 1)), (upd a16 q (a16 q + x3)), (upd a17 q (sw_mn (a17 q) x3)), (upd a18 q (sw_mx (a18 q) x3)), a19, a20, a21, a22, a23, a24)) : wX_takeIntoSession_177 post x1 x2 x3 (nI q) x5 z (nI q) kd wd pn lt mk lc nw rc km kl kw kr tc ts tl tm a1 a2 a3 a4 a5 a6 a7 a8 a9 a10 a11 a12 a13 a14 a15 a16 a17 a18 a19 a20 a21 a22 a23 a24 := by
  have vi : vp_in (nI q) 128 := vp_in_nI hq (by omega)
  unfold wX_takeIntoSession_177
  rw [nI_clamp (show q < 2 ^ 31 by omega)]
  refine ⟨vi, nm_e ⟨vi, ?_⟩⟩
  unfold sw_mn at H
  by_cases c : a17 q ≤ x3
  · rw [if_pos c] at H
    exact br_t c ⟨vi, sw_ts206 hq hj H⟩
  · rw [if_neg c] at H
    exact br_f c (sw_ts206 hq hj H)
theorem sw_ts148 {post : St2 → Prop} {x1 x2 x3 x5 z : Int32} {q : Nat} (hq : q < 128) (hj : x5 ≤ nI (q + 1) ∨ (¬ x5 ≤ nI (q + 1) ∧ q + 1 < 128 ∧ x1 < a13 (q + 1) - wd))
    (H : post (kd, wd, pn, lt, mk, lc, nw, rc, km, kl, kw, kr, tc, ts, tl, tm, a1, a2, a3, a4, a5, a6, a7, a8, a9, a10, a11, a12, (upd a13 q z), (upd a14 q (if x1 ≤ a14 q then a14 q else x1)), (upd a15 q (a15 q + 1)), (upd a16 q (a16 q + x3)), (upd a17 q (sw_mn (a17 q) x3)), (upd a18 q (sw_mx (a18 q) x3)), a19, a20, a21, a22, a23, a24)) : wX_takeIntoSession_148 post x1 x2 x3 (nI q) x5 z (nI q) kd wd pn lt mk lc nw rc km kl kw kr tc ts tl tm a1 a2 a3 a4 a5 a6 a7 a8 a9 a10 a11 a12 a13 a14 a15 a16 a17 a18 a19 a20 a21 a22 a23 a24 := by
  have vi : vp_in (nI q) 128 := vp_in_nI hq (by omega)
  have hj' : x5 ≤ nI (q + 1) ∨ (¬ x5 ≤ nI (q + 1) ∧ q + 1 < 128 ∧ x1 < upd a13 q z (q + 1) - wd) := by
    rw [pk_un (by omega)]
    exact hj
  unfold wX_takeIntoSession_148
  rw [nI_clamp (show q < 2 ^ 31 by omega)]
  refine ⟨vi, nm_e ⟨vi, ?_⟩⟩
  by_cases c : x1 ≤ a14 q
  · rw [if_pos c] at H
    exact br_t c ⟨vi, sw_ts177 hq hj' H⟩
  · rw [if_neg c] at H
    exact br_f c (sw_ts177 hq hj' H)
theorem sw_ts105 {post : St2 → Prop} {x1 x2 x3 x5 : Int32} {q : Nat} (hq : q < 128) (hj : x5 ≤ nI (q + 1) ∨ (¬ x5 ≤ nI (q + 1) ∧ q + 1 < 128 ∧ x1 < a13 (q + 1) - wd))
    (H : post (kd, wd, pn, lt, mk, lc, nw, rc, km, kl, kw, kr, tc, ts, tl, tm, a1, a2, a3, a4, a5, a6, a7, a8, a9, a10, a11, a12, (upd a13 q (if a13 q ≤ x1 then a13 q else x1)), (upd a14 q (if x1 ≤ a14 q then a14 q else x1)), (upd a15 q (a15 q + 1)), (upd a16 q (a16 q + x3)), (upd a17 q (sw_mn (a17 q) x3)), (upd a18 q (sw_mx (a18 q) x3)), a19, a20, a21, a22, a23, a24)) : wX_takeIntoSession_105 post x1 x2 x3 (nI q) x5 1 kd wd pn lt mk lc nw rc km kl kw kr tc ts tl tm a1 a2 a3 a4 a5 a6 a7 a8 a9 a10 a11 a12 a13 a14 a15 a16 a17 a18 a19 a20 a21 a22 a23 a24 := by
  have vi : vp_in (nI q) 128 := vp_in_nI hq (by omega)
  unfold wX_takeIntoSession_105
  rw [nI_clamp (show q < 2 ^ 31 by omega)]
  refine br_f (by decide) ⟨vi, ?_⟩
  by_cases c : a13 q ≤ x1
  · rw [if_pos c] at H
    exact br_t c ⟨vi, sw_ts148 hq hj H⟩
  · rw [if_neg c] at H
    exact br_f c (sw_ts148 hq hj H)
/-- a session put behind the last of its key -/
theorem sw_insert {post : St2 → Prop} {k m : Nat} {x1 x3 y : Int32} (hk : k < 4) (hm : m < 32) (h12 : a12 k = nI m) (hy : y = nI (32 * k + m))
    (H : post (kd, wd, pn, lt, mk, lc, nw, rc, km, kl, kw, kr, tc, ts, tl, tm, a1, a2, a3, a4, a5, a6, a7, a8, a9, a10, a11, (upd a12 k (nI (m + 1))), (upd a13 (32 * k + m) x1), (upd a14 (32 * k + m) x1), (upd a15 (32 * k + m) 1), (upd a16 (32 * k + m) x3), (upd a17 (32 * k + m) x3), (upd a18 (32 * k + m) x3), a19, a20, a21, a22, a23, a24)) :
    wpX_insertSession post (kd, wd, pn, lt, mk, lc, nw, rc, km, kl, kw, kr, tc, ts, tl, tm, a1, a2, a3, a4, a5, a6, a7, a8, a9, a10, a11, a12, a13, a14, a15, a16, a17, a18, a19, a20, a21, a22, a23, a24) (nI k) y x1 x3 := by
  subst hy
  have vi : vp_in (nI (32 * k + m)) 128 := vp_in_nI (by omega) (by omega)
  have c0 : (nI k).toNatClampNeg = k := nI_clamp (by omega)
  unfold wpX_insertSession
  refine ⟨pk_in k 4 hk, nm_r (e' := nI (32 * k + m)) ?_ ⟨1, ?_⟩⟩
  · rw [c0, h12]
    exact sw_ad m (pk_mul 32 k)
  · refine pk_le (32 * k + m) (32 * k + m) (fun _ => ?_) (fun z => absurd z (by omega))
    rw [c0, nI_clamp (show 32 * k + m < 2 ^ 31 by omega), h12, nI_1 m]
    exact ⟨pk_in k 4 hk, pk_in k 4 hk, nm_e ⟨vi, nm_e ⟨vi, nm_e ⟨vi, nm_e ⟨vi, nm_e ⟨vi, nm_e ⟨vi, nm_e H⟩⟩⟩⟩⟩⟩⟩
/-- the search for the first session that reaches up to the time -/
theorem sw_ts17 {post : St2 → Prop} {x2 x3 : Int32} {k m e t W : Nat} {l : Nat → Nat} (hk : k < 4) (hm : m < 32) (ht : t < 64) (hW : W ≤ 8) (hl : ∀ i, i < m → i ≤ e → a14 (32 * k + i) = nI (l i) ∧ l i < 64) (he : e ≤ m) (h1 : ∀ i, i < e → l i + W < t) (h2 : e < m → t ≤ l e + W)
    (H : wX_takeIntoSession_46 post (nI t) x2 x3 (nI (32 * k + e)) (nI (32 * k + m)) kd (nI W) pn lt mk lc nw rc km kl kw kr tc ts tl tm a1 a2 a3 a4 a5 a6 a7 a8 a9 a10 a11 a12 a13 a14 a15 a16 a17 a18 a19 a20 a21 a22 a23 a24) :
    ∀ (d i : Nat), i + d = e → wX_takeIntoSession_17 post (nI t) x2 x3 (nI (32 * k + m)) kd (nI W) pn lt mk lc nw rc km kl kw kr tc ts tl tm a1 a2 a3 a4 a5 a6 a7 a8 a9 a10 a11 a12 a13 a14 a15 a16 a17 a18 a19 a20 a21 a22 a23 a24 (d + 1) (nI (32 * k + i)) := by
  intro d
  induction d with
  | zero =>
    intro i hi
    have ei : i = e := by omega
    subst ei
    refine pk_le (32 * k + m) (32 * k + i) (fun _ => H) (fun z => ⟨pk_in (32 * k + i) 128 (by omega), ?_⟩)
    obtain ⟨l1, l2⟩ := hl i (by omega) (by omega)
    refine br_t ?_ H
    rw [nI_clamp (show 32 * k + i < 2 ^ 31 by omega), l1, nI_add]
    exact nI_le (h2 (by omega)) (by omega)
  | succ d ih =>
    intro i hi
    obtain ⟨l1, l2⟩ := hl i (by omega) (by omega)
    refine pk_le (32 * k + m) (32 * k + i) (fun z => absurd z (by omega)) (fun z => ⟨pk_in (32 * k + i) 128 (by omega), ?_⟩)
    refine br_f ?_ (nm_r (nI_1 (32 * k + i)) (ih (i + 1) (by omega)))
    rw [nI_clamp (show 32 * k + i < 2 ^ 31 by omega), l1, nI_add]
    exact nI_ge (h1 i (by omega)) (by omega)
end
end
section
theorem sw_us {a : Nat → Int32} {q : Nat} : upd a q (a q) = a := by
  funext j
  unfold upd
  by_cases e : j = q
  · rw [if_pos e, e]
  · rw [if_neg e]
section
variable {kd wd pn lt mk lc nw rc km kl kw kr tc ts tl tm : Int32} {a1 a2 a3 a4 a5 a6 a7 a8 a9 a10 a11 a12 a13 a14 a15 a16 a17 a18 a19 a20 a21 a22 a23 a24 : Nat → Int32}
variable {te ke : Nat → Nat} {ve : Nat → Int32} {W N R : Nat} {M E : Int} {ns : Nat → Nat} {F L : Nat → Nat → Nat} {C : Nat → Int}
theorem sw_tis {post : St2 → Prop} {p0 p1 p2 : Int32} (q0 : p0 = nI (te N)) (q1 : p1 = nI (ke N)) (q2 : p2 = ve N) (hE : sw_E te ke ve) (hI : sw_IS te ke ve W M N R E ns F L C a12 a13 a14 a15 a16 a17 a18 a19) (hW : 0 < W ∧ W ≤ 8) (hN : N < 30) (hM : -2000 ≤ M ∧ M ≤ (te N : Int))
    (H : ∀ (ns' : Nat → Nat) (F' L' : Nat → Nat → Nat) (b12 b13 b14 b15 b16 b17 b18 : Nat → Int32), sw_IS te ke ve W M (N + 1) R E ns' F' L' C b12 b13 b14 b15 b16 b17 b18 a19 → post (kd, (nI W), pn, lt, (sw_z M), lc, nw, rc, km, kl, kw, kr, tc, ts, tl, tm, a1, a2, a3, a4, a5, a6, a7, a8, a9, a10, a11, b12, b13, b14, b15, b16, b17, b18, a19, a20, a21, a22, a23, a24)) :
    wpX_takeIntoSession post (kd, (nI W), pn, lt, (sw_z M), lc, nw, rc, km, kl, kw, kr, tc, ts, tl, tm, a1, a2, a3, a4, a5, a6, a7, a8, a9, a10, a11, a12, a13, a14, a15, a16, a17, a18, a19, a20, a21, a22, a23, a24) p0 p1 p2 := by
  subst q0 q1 q2
  have hk := hE.2.2.1 N
  have ht := hE.1 N
  have hI2 := hI
  obtain ⟨h1, h2, h3, h4, h5, h6, h7, h8⟩ := hI2
  have hns := @sw_le4 ns (ke N) hk
  have hlast : ∀ k i, k < 4 → i < ns k → L k i ≤ te N := fun k i hk hi => by
    obtain ⟨_, _, _, _, _, ⟨j, hj, _, htj⟩, _⟩ := h6 k i hk hi
    rw [← htj]
    exact sw_E_mono hE (by omega)
  have hl : ∀ i, i < ns (ke N) → a14 (32 * ke N + i) = nI (L (ke N) i) ∧ L (ke N) i < 64 := fun i hi => by
    obtain ⟨_, t2, _⟩ := h6 (ke N) i hk hi
    have := hlast (ke N) i hk hi
    exact ⟨t2, by omega⟩
  have hpre : ∀ i, i + 1 < ns (ke N) → L (ke N) i + W < te N := fun i hi => by
    have t1 := h7 (ke N) i hk hi
    obtain ⟨_, _, t2, _⟩ := h6 (ke N) (i + 1) hk hi
    have t3 := hlast (ke N) (i + 1) hk hi
    omega
  have e5 : nI (32 * ke N) + a12 (nI (ke N)).toNatClampNeg = nI (32 * ke N + ns (ke N)) := by
    rw [nI_clamp (by omega), (h5 (ke N) hk).1, nI_add]
  unfold wpX_takeIntoSession
  refine nm_r (pk_mul 32 (ke N)) ⟨pk_in (ke N) 4 hk, nm_r e5 ?_⟩
  by_cases c : ns (ke N) = 0 ∨ L (ke N) (ns (ke N) - 1) + W < te N
  · have hall : ∀ i, i < ns (ke N) → L (ke N) i + W < te N := by
      intro i hi
      rcases c with z | z
      · omega
      · by_cases e : i + 1 < ns (ke N)
        · exact hpre i e
        · rw [show i = ns (ke N) - 1 by omega]
          exact z
    refine ⟨_, sw_ts17 (e := ns (ke N)) (l := L (ke N)) hk (by omega) ht hW.2 (fun i hi _ => hl i hi) (Nat.le_refl _) hall (fun z => absurd z (by omega)) ?_ (ns (ke N)) 0 (by omega)⟩
    refine pk_le (32 * ke N + ns (ke N)) (32 * ke N + ns (ke N)) (fun _ => ?_) (fun z => absurd z (by omega))
    refine br_t rfl ?_
    refine sw_blt M ((te N : Int) + (W : Int)) rfl (by rw [sw_zn, sw_zn, sw_add]) (fun _ => ?_) (fun z => absurd z (by omega))
    refine br_t rfl ?_
    refine sw_insert hk (by omega) (h5 (ke N) hk).1 rfl ?_
    exact H _ _ _ _ _ _ _ _ _ _ (sw_IS_new hE hI hM.2 rfl hN hall)
  · obtain ⟨m, hm⟩ : ∃ m, ns (ke N) = m + 1 := ⟨ns (ke N) - 1, by omega⟩
    have c2 : te N ≤ L (ke N) m + W := by
      rw [show m = ns (ke N) - 1 by omega]
      omega
    obtain ⟨s1, s2, s3, _⟩ := h6 (ke N) m hk (by omega)
    have hLm := hlast (ke N) m hk (by omega)
    refine ⟨_, sw_ts17 (e := m) (l := L (ke N)) hk (by omega) ht hW.2 (fun i hi _ => hl i hi) (by omega) (fun i hi => hpre i (by omega)) (fun _ => c2) ?_ m 0 (by omega)⟩
    refine pk_le (32 * ke N + ns (ke N)) (32 * ke N + m) (fun z => absurd z (by omega)) (fun _ => ⟨pk_in (32 * ke N + m) 128 (by omega), ?_⟩)
    refine sw_blt (te N : Int) ((F (ke N) m : Int) - (W : Int)) (sw_zn _) (by rw [nI_clamp (by omega), s1, sw_zn, sw_zn, sw_sub]) (fun z => absurd z (by omega)) (fun _ => ?_)
    refine br_f (by decide) ?_
    refine sw_ts105 (show 32 * ke N + m < 128 by omega) (Or.inl (nI_le (by omega) (by omega))) ?_
    have r1 : (if a13 (32 * ke N + m) ≤ nI (te N) then a13 (32 * ke N + m) else nI (te N)) = a13 (32 * ke N + m) := if_pos (by rw [s1]; exact nI_le (by omega) (by omega))
    have r2 : (if nI (te N) ≤ a14 (32 * ke N + m) then a14 (32 * ke N + m) else nI (te N)) = nI (te N) := by
      by_cases c3 : nI (te N) ≤ a14 (32 * ke N + m)
      · rw [if_pos c3]
        rw [s2, nI_leI (by omega) (by omega)] at c3
        rw [s2, show L (ke N) m = te N by omega]
      · rw [if_neg c3]
    rw [r1, r2, sw_us]
    exact H _ _ _ _ _ _ _ _ _ _ (sw_IS_touch hE hI hM.2 hm hN)
/-- what the law's last event finds in the sessions -/
def sw_LS (W : Nat) (M : Int) (ns h : Nat → Nat) (a12 a13 a14 : Nat → Int32) : Prop :=
  (∀ k, k < 4 → a12 k = nI (ns k) ∧ ns k < 30) ∧ (∀ k, k < 4 → 0 < ns k → a14 (32 * k) = nI (h k) ∧ h k < 64 ∧ M < (h k : Int) + (W : Int)) ∧ 0 < ns 0 ∧ (∃ f, a13 0 = nI f ∧ f < 64) ∧ (1 < ns 0 → ∃ f, a13 1 = nI f ∧ f < 64 ∧ 40 ≤ f)
theorem sw_LS_c {h : Nat → Nat} {b12 b13 b14 : Nat → Int32} (hL : sw_LS W M ns h a12 a13 a14) (e12 : ∀ j, j < 4 → b12 j = a12 j) (e13 : ∀ j, j < 128 → b13 j = a13 j ∧ b14 j = a14 j) : sw_LS W M ns h b12 b13 b14 := by
  obtain ⟨h1, h2, h3, h4, h5⟩ := hL
  refine ⟨fun k hk => ?_, fun k hk hn => ?_, h3, ?_, fun z => ?_⟩
  · rw [e12 k hk]
    exact h1 k hk
  · rw [(e13 (32 * k) (by omega)).2]
    exact h2 k hk hn
  · rw [(e13 0 (by omega)).1]
    exact h4
  · rw [(e13 1 (by omega)).1]
    exact h5 z
theorem sw_tisL {post : St2 → Prop} {h : Nat → Nat} {v p0 p1 : Int32} (q0 : p0 = nI 5) (q1 : p1 = nI 0) (hW : 0 < W ∧ W ≤ 8) (hM : 40 ≤ M ∧ M ≤ 63) (hL : sw_LS W M ns h a12 a13 a14)
    (H1 : ∀ b13 b15 b16 b17 b18 : Nat → Int32, post (kd, (nI W), pn, lt, (sw_z M), lc, nw, rc, km, kl, kw, kr, tc, ts, tl, tm, a1, a2, a3, a4, a5, a6, a7, a8, a9, a10, a11, a12, b13, a14, b15, b16, b17, b18, a19, a20, a21, a22, a23, a24)) (H2 : post (kd, (nI W), pn, lt, (sw_z M), (lc + 1), nw, rc, km, kl, kw, kr, tc, ts, tl, tm, a1, a2, a3, a4, a5, a6, a7, a8, a9, a10, a11, a12, a13, a14, a15, a16, a17, a18, a19, a20, a21, a22, a23, a24)) :
    wpX_takeIntoSession post (kd, (nI W), pn, lt, (sw_z M), lc, nw, rc, km, kl, kw, kr, tc, ts, tl, tm, a1, a2, a3, a4, a5, a6, a7, a8, a9, a10, a11, a12, a13, a14, a15, a16, a17, a18, a19, a20, a21, a22, a23, a24) p0 p1 v := by
  subst q0 q1
  obtain ⟨h1, h2, h3, ⟨f, h4, h4'⟩, h5⟩ := hL
  obtain ⟨g1, g2⟩ := h1 0 (by omega)
  obtain ⟨g3, g4, g5⟩ := h2 0 (by omega) h3
  have e5 : nI (32 * 0) + a12 (nI 0).toNatClampNeg = nI (32 * 0 + ns 0) := by
    rw [nI_clamp (by omega), g1, nI_add]
  unfold wpX_takeIntoSession
  refine nm_r (pk_mul 32 0) ⟨pk_in 0 4 (by omega), nm_r e5 ?_⟩
  refine ⟨_, sw_ts17 (k := 0) (e := 0) (m := ns 0) (t := 5) (l := fun _ => h 0) (by omega) (by omega) (by omega) hW.2 (fun i hi hi2 => ?_) (by omega) (fun i hi => absurd hi (by omega)) (fun _ => by omega) ?_ 0 0 rfl⟩
  · rw [show i = 0 by omega]
    exact ⟨g3, g4⟩
  · refine pk_le (32 * 0 + ns 0) (32 * 0 + 0) (fun z => absurd z (by omega)) (fun _ => ⟨pk_in 0 128 (by omega), ?_⟩)
    refine sw_blt 5 ((f : Int) - (W : Int)) rfl (by rw [nI_clamp (by omega), show a13 (32 * 0 + 0) = nI f from h4, sw_zn, sw_zn, sw_sub]) (fun z => ?_) (fun z => ?_)
    · refine br_t rfl ?_
      refine sw_blt M ((5 : Int) + (W : Int)) rfl (by rw [sw_zn W]; exact sw_add 5 W) (fun y => absurd y (by omega)) (fun _ => nm_e H2)
    · refine br_f (by decide) ?_
      have r2 : (if nI 5 ≤ a14 0 then a14 0 else nI 5) = a14 0 := if_pos (by rw [show a14 0 = nI (h 0) from g3]; exact nI_le (by omega) (by omega))
      refine sw_ts105 (q := 0) (by omega) ?_ ?_
      · by_cases c : 1 < ns 0
        · obtain ⟨f1, e1, e2, e3⟩ := h5 c
          refine Or.inr ⟨nI_ge (by omega) (by omega), by omega, ?_⟩
          rw [show a13 (0 + 1) = nI f1 from e1, show (nI 5 : Int32) = sw_z 5 from sw_zn 5, sw_zn, sw_zn, sw_sub, sw_lt (by omega) (by omega)]
          omega
        · exact Or.inl (nI_le (by omega) (by omega))
      · rw [r2, sw_us]
        exact H1 _ _ _ _ _
end
end
section
/-! the mark, a source's reading -/
section
variable {kd wd pn lt mk lc nw rc km kl kw kr tc ts tl tm : Int32} {a1 a2 a3 a4 a5 a6 a7 a8 a9 a10 a11 a12 a13 a14 a15 a16 a17 a18 a19 a20 a21 a22 a23 a24 : Nat → Int32}
theorem sw_look {post : Int32 → St2 → Prop} {t Lt : Nat} {M : Int} (h6 : a6 0 = nI t) (ht : t < 64) (hL : Lt ≤ 20) (h7 : a7 0 = 0 ∧ ¬ a7 1 = 0 ∧ ¬ a7 2 = 0) (hM : -2000 ≤ M ∧ M ≤ (t : Int) - (Lt : Int))
    (H : wX_lookAtMark_91 post (sw_z ((t : Int) - (Lt : Int))) kd wd pn (nI Lt) (sw_z M) lc nw rc km kl kw kr tc ts tl tm a1 a2 a3 a4 a5 a6 a7 a8 a9 a10 a11 a12 a13 a14 a15 a16 a17 a18 a19 a20 a21 a22 a23 a24) : wpX_lookAtMark post (kd, wd, pn, (nI Lt), (sw_z M), lc, nw, rc, km, kl, kw, kr, tc, ts, tl, tm, a1, a2, a3, a4, a5, a6, a7, a8, a9, a10, a11, a12, a13, a14, a15, a16, a17, a18, a19, a20, a21, a22, a23, a24) := by
  obtain ⟨h70, h71, h72⟩ := h7
  have c0 : (nI 0).toNatClampNeg = 0 := nI_clamp (by omega)
  have c1 : (nI 1).toNatClampNeg = 1 := nI_clamp (by omega)
  have c2 : (nI 2).toNatClampNeg = 2 := nI_clamp (by omega)
  have s3 : wX_lookAtMark_6 post kd wd pn (nI Lt) (sw_z M) lc nw rc km kl kw kr tc ts tl tm a1 a2 a3 a4 a5 a6 a7 a8 a9 a10 a11 a12 a13 a14 a15 a16 a17 a18 a19 a20 a21 a22 a23 a24 1 (sw_z ((t : Int) - (Lt : Int))) (nI 3) := by
    refine pk_le 3 3 (fun _ => ?_) (fun z => absurd z (by omega))
    refine sw_ble 1000 ((t : Int) - (Lt : Int)) rfl rfl (fun z => absurd z (by omega)) (fun _ => ?_)
    refine sw_ble ((t : Int) - (Lt : Int)) M rfl rfl (fun z => ?_) (fun _ => H)
    have e : M = (t : Int) - (Lt : Int) := by omega
    subst e
    exact H
  have s2 : wX_lookAtMark_6 post kd wd pn (nI Lt) (sw_z M) lc nw rc km kl kw kr tc ts tl tm a1 a2 a3 a4 a5 a6 a7 a8 a9 a10 a11 a12 a13 a14 a15 a16 a17 a18 a19 a20 a21 a22 a23 a24 2 (sw_z ((t : Int) - (Lt : Int))) (nI 2) := by
    refine pk_le 3 2 (fun z => absurd z (by omega)) (fun _ => ⟨pk_in 2 3 (by omega), ?_⟩)
    refine br_c (fun _ => ⟨pk_in 2 3 (by omega), br_f (by rw [c2]; exact h72) (nm_r (nI_1 2) s3)⟩) (fun _ => ⟨pk_in 2 3 (by omega), pk_in 2 3 (by omega), br_f (by rw [c2]; exact h72) (nm_r (nI_1 2) s3)⟩)
  have s1 : wX_lookAtMark_6 post kd wd pn (nI Lt) (sw_z M) lc nw rc km kl kw kr tc ts tl tm a1 a2 a3 a4 a5 a6 a7 a8 a9 a10 a11 a12 a13 a14 a15 a16 a17 a18 a19 a20 a21 a22 a23 a24 3 (sw_z ((t : Int) - (Lt : Int))) (nI 1) := by
    refine pk_le 3 1 (fun z => absurd z (by omega)) (fun _ => ⟨pk_in 1 3 (by omega), ?_⟩)
    refine br_c (fun _ => ⟨pk_in 1 3 (by omega), br_f (by rw [c1]; exact h71) (nm_r (nI_1 1) s2)⟩) (fun _ => ⟨pk_in 1 3 (by omega), pk_in 1 3 (by omega), br_f (by rw [c1]; exact h71) (nm_r (nI_1 1) s2)⟩)
  have s0 : wX_lookAtMark_6 post kd wd pn (nI Lt) (sw_z M) lc nw rc km kl kw kr tc ts tl tm a1 a2 a3 a4 a5 a6 a7 a8 a9 a10 a11 a12 a13 a14 a15 a16 a17 a18 a19 a20 a21 a22 a23 a24 4 1000 (nI 0) := by
    refine pk_le 3 0 (fun z => absurd z (by omega)) (fun _ => ⟨pk_in 0 3 (by omega), ?_⟩)
    refine sw_beq (t : Int) (-1000) (by rw [c0, h6, sw_zn]) rfl (fun z => absurd z (by omega)) (fun _ => ⟨pk_in 0 3 (by omega), pk_in 0 3 (by omega), ?_⟩)
    refine br_t (by rw [c0]; exact h70) ?_
    have ez : a6 (nI 0).toNatClampNeg - nI Lt = sw_z ((t : Int) - (Lt : Int)) := by rw [c0, h6, sw_zn, sw_zn, sw_sub]
    refine sw_ble 1000 ((t : Int) - (Lt : Int)) rfl ez (fun z => absurd z (by omega)) (fun _ => nm_r (nI_1 0) ?_)
    rw [ez]
    exact s1
  exact ⟨4, s0⟩
theorem sw_look0 {post : Int32 → St2 → Prop} (h6 : a6 0 = -1000 ∧ a6 1 = -1000 ∧ a6 2 = -1000) (h7 : a7 0 = 0)
    (H : wX_lookAtMark_91 post (-1000) kd wd pn lt (-1000) lc nw rc km kl kw kr tc ts tl tm a1 a2 a3 a4 a5 a6 a7 a8 a9 a10 a11 a12 a13 a14 a15 a16 a17 a18 a19 a20 a21 a22 a23 a24) : wpX_lookAtMark post (kd, wd, pn, lt, (-1000), lc, nw, rc, km, kl, kw, kr, tc, ts, tl, tm, a1, a2, a3, a4, a5, a6, a7, a8, a9, a10, a11, a12, a13, a14, a15, a16, a17, a18, a19, a20, a21, a22, a23, a24) := by
  obtain ⟨h60, h61, h62⟩ := h6
  have c0 : (nI 0).toNatClampNeg = 0 := nI_clamp (by omega)
  have c1 : (nI 1).toNatClampNeg = 1 := nI_clamp (by omega)
  have c2 : (nI 2).toNatClampNeg = 2 := nI_clamp (by omega)
  have s3 : wX_lookAtMark_6 post kd wd pn lt (-1000) lc nw rc km kl kw kr tc ts tl tm a1 a2 a3 a4 a5 a6 a7 a8 a9 a10 a11 a12 a13 a14 a15 a16 a17 a18 a19 a20 a21 a22 a23 a24 1 (-1000) (nI 3) := by
    refine pk_le 3 3 (fun _ => ?_) (fun z => absurd z (by omega))
    exact br_f (by decide) (br_t (by decide) H)
  have s2 : wX_lookAtMark_6 post kd wd pn lt (-1000) lc nw rc km kl kw kr tc ts tl tm a1 a2 a3 a4 a5 a6 a7 a8 a9 a10 a11 a12 a13 a14 a15 a16 a17 a18 a19 a20 a21 a22 a23 a24 2 (-1000) (nI 2) := by
    refine pk_le 3 2 (fun z => absurd z (by omega)) (fun _ => ⟨pk_in 2 3 (by omega), ?_⟩)
    exact br_t (by rw [c2]; exact h62) ⟨pk_in 2 3 (by omega), br_c (fun _ => br_t (by decide) (nm_r (nI_1 2) s3)) (fun _ => nm_r (nI_1 2) s3)⟩
  have s1 : wX_lookAtMark_6 post kd wd pn lt (-1000) lc nw rc km kl kw kr tc ts tl tm a1 a2 a3 a4 a5 a6 a7 a8 a9 a10 a11 a12 a13 a14 a15 a16 a17 a18 a19 a20 a21 a22 a23 a24 3 (-1000) (nI 1) := by
    refine pk_le 3 1 (fun z => absurd z (by omega)) (fun _ => ⟨pk_in 1 3 (by omega), ?_⟩)
    exact br_t (by rw [c1]; exact h61) ⟨pk_in 1 3 (by omega), br_c (fun _ => br_t (by decide) (nm_r (nI_1 1) s2)) (fun _ => nm_r (nI_1 1) s2)⟩
  have s0 : wX_lookAtMark_6 post kd wd pn lt (-1000) lc nw rc km kl kw kr tc ts tl tm a1 a2 a3 a4 a5 a6 a7 a8 a9 a10 a11 a12 a13 a14 a15 a16 a17 a18 a19 a20 a21 a22 a23 a24 4 1000 (nI 0) := by
    refine pk_le 3 0 (fun z => absurd z (by omega)) (fun _ => ⟨pk_in 0 3 (by omega), ?_⟩)
    exact br_t (by rw [c0]; exact h60) ⟨pk_in 0 3 (by omega), br_t (by rw [c0]; exact h7) (br_f (by decide) (nm_r (nI_1 0) s1))⟩
  exact ⟨4, s0⟩
theorem sw_isSrc {post : Int32 → Prop} {s : Nat} {x : Int32} (hx : x = nI s) (hs : s < 3) (H : post 1) : wpX_isSource post () x := by
  subst hx
  exact br_f (nI_pos (by omega)) (br_f (nI_ge (b := 3) hs (by decide)) H)
theorem sw_isKey {post : Int32 → Prop} {s : Nat} {x : Int32} (hx : x = nI s) (hs : s < 4) (H : post 1) : wpX_isKey post () x := by
  subst hx
  exact br_f (nI_pos (by omega)) (br_f (nI_ge (b := 4) hs (by decide)) H)
theorem sw_arrive {post : Int32 → St2 → Prop} {k t N : Nat} {p0 v : Int32} (hp : p0 = nI (64 * k + t)) (hk : k < 4) (ht : t < 64) (hv : sw_v v) (h1 : a1 0 = nI N) (hN : N < 20)
    (H : post (nI (N + 1)) (kd, wd, pn, lt, mk, lc, nw, rc, km, kl, kw, kr, tc, ts, tl, tm, (upd a1 0 (nI (N + 1))), (upd a2 N (nI t)), (upd a3 N (nI k)), (upd a4 N v), a5, a6, a7, a8, a9, a10, a11, a12, a13, a14, a15, a16, a17, a18, a19, a20, a21, a22, a23, a24)) : wpX_arrive post (kd, wd, pn, lt, mk, lc, nw, rc, km, kl, kw, kr, tc, ts, tl, tm, a1, a2, a3, a4, a5, a6, a7, a8, a9, a10, a11, a12, a13, a14, a15, a16, a17, a18, a19, a20, a21, a22, a23, a24) p0 v := by
  subst hp
  obtain ⟨hv1, hv2⟩ := hv
  have d256 : nI (64 * k + t) / 256 = nI 0 := by
    rw [show (256 : Int32) = nI 256 from rfl, pk_div (by omega) (by omega) (by omega), show (64 * k + t) / 256 = 0 by omega]
  have d64 : nI (64 * k + t) / 64 = nI k := by
    rw [show (64 : Int32) = nI 64 from rfl, pk_div (by omega) (by omega) (by omega), show (64 * k + t) / 64 = k by omega]
  have r64 : nI (64 * k + t) - nI k * 64 = nI t := by
    rw [← d64]
    have z := pk_rem (a := 64 * k + t) (d := 64) (by omega) (by omega) (by omega)
    rw [show (64 * k + t) % 64 = t by omega] at z
    exact z
  have r4 : nI k - nI k / 4 * 4 = nI k := by
    have z := pk_rem (a := k) (d := 4) (by omega) (by omega) (by omega)
    rw [show k % 4 = k by omega] at z
    exact z
  have c0 : (nI 0).toNatClampNeg = 0 := nI_clamp (by omega)
  have cN : (nI N).toNatClampNeg = N := nI_clamp (by omega)
  have vN : vp_in (nI N) 60 := vp_in_nI (by omega) (by omega)
  have v0 : vp_in (nI 0) 3 := vp_in_nI (by omega) (by omega)
  unfold wpX_arrive
  refine br_f (nI_pos (by omega)) (br_f (nI_ge (b := 768) (by omega) (by decide)) (br_f ?_ (br_t ?_ ⟨by decide, nm_r d256 ⟨v0, ?_⟩⟩)))
  · rw [Int32.lt_iff_toInt_lt, show (-50 : Int32).toInt = -50 from by decide]
    omega
  · rw [Int32.le_iff_toInt_le, show (50 : Int32).toInt = 50 from by decide]
    omega
  · rw [c0, h1, d64, r64, r4]
    refine br_t (nI_lt (b := 20) hN (by decide)) ⟨v0, nm_r (e' := nI N) ?_ ?_⟩
    · have z := sw_ad N (pk_mul 20 0)
      rw [show 20 * 0 + N = N by omega] at z
      exact z
    · rw [cN, nI_1 N]
      refine ⟨by decide, vN, nm_e ⟨by decide, by decide, vN, nm_e ⟨vN, nm_e ⟨v0, v0, nm_e ⟨v0, ?_⟩⟩⟩⟩⟩
      rw [pk_us]
      exact H
theorem sw_readA {post : Int32 → St2 → Prop} {N t : Nat} {x : Int32} (hx : x = nI 0) (h1 : a1 0 = nI (N + 1)) (h5 : a5 0 = nI N) (hN : N < 20) (h2 : a2 N = nI t)
    (H : ∀ ψ : Int32 → St2 → Prop, (∀ {r : Int32} {kd wd pn lt mk lc nw rc km kl kw kr tc ts tl tm : Int32} {a1 a2 a3 a4 a5 a6 a7 a8 a9 a10 a11 a12 a13 a14 a15 a16 a17 a18 a19 a20 a21 a22 a23 a24 : Nat → Int32}, post r (kd, wd, pn, lt, mk, lc, nw, rc, km, kl, kw, kr, tc, ts, tl, tm, a1, a2, a3, a4, a5, a6, a7, a8, a9, a10, a11, a12, a13, a14, a15, a16, a17, a18, a19, a20, a21, a22, a23, a24) → ψ r (kd, wd, pn, lt, mk, lc, nw, rc, km, kl, kw, kr, tc, ts, tl, tm, a1, a2, a3, a4, a5, a6, a7, a8, a9, a10, a11, a12, a13, a14, a15, a16, a17, a18, a19, a20, a21, a22, a23, a24)) → wX_readOne_54 ψ (nI N) (nI t) (if nI t ≤ a6 0 then a6 0 else nI t) (nI 0) kd wd pn lt mk lc nw rc km kl kw kr tc ts tl tm a1 a2 a3 a4 (upd a5 0 (nI (N + 1))) a6 a7 a8 a9 a10 a11 a12 a13 a14 a15 a16 a17 a18 a19 a20 a21 a22 a23 a24) : wpX_read post (kd, wd, pn, lt, mk, lc, nw, rc, km, kl, kw, kr, tc, ts, tl, tm, a1, a2, a3, a4, a5, a6, a7, a8, a9, a10, a11, a12, a13, a14, a15, a16, a17, a18, a19, a20, a21, a22, a23, a24) x := by
  subst hx
  have c0 : (nI 0).toNatClampNeg = 0 := nI_clamp (by omega)
  have cN : (nI N).toNatClampNeg = N := nI_clamp (by omega)
  have v0 : vp_in (nI 0) 3 := vp_in_nI (by omega) (by omega)
  have vN : vp_in (nI N) 60 := vp_in_nI (by omega) (by omega)
  have e2 : (20 : Int32) * nI 0 + nI N = nI N := by
    have z := sw_ad N (pk_mul 20 0)
    rw [show 20 * 0 + N = N by omega] at z
    exact z
  unfold wpX_read
  refine sw_isSrc rfl (by omega) (br_f (by decide) ⟨v0, v0, br_f ?_ ?_⟩)
  · rw [c0, h1, h5, pk_sub (by omega), show N + 1 - N = 1 by omega]
    decide
  · unfold wpX_readOne
    dsimp only
    rw [c0, h5, nI_1 N]
    refine ⟨v0, nm_r e2 ⟨v0, v0, nm_e ⟨vN, nm_r (e' := nI t) (by rw [cN]; exact h2) ⟨v0, ?_⟩⟩⟩⟩
    have H' := H _ (fun h => h)
    by_cases c : nI t ≤ a6 0
    · rw [if_pos c] at H'
      exact br_t c ⟨v0, H'⟩
    · rw [if_neg c] at H'
      exact br_f c H'
end
section
variable {kd wd pn lt mk lc nw rc km kl kw kr tc ts tl tm : Int32} {a1 a2 a3 a4 a5 a6 a7 a8 a9 a10 a11 a12 a13 a14 a15 a16 a17 a18 a19 a20 a21 a22 a23 a24 : Nat → Int32}
variable {te ke : Nat → Nat} {ve : Nat → Int32} {K W Pn Lt N R : Nat} {M E V : Int} {ns : Nat → Nat} {F L : Nat → Nat → Nat} {C : Nat → Int}
theorem sw_readW {post : Int32 → St2 → Prop} {x : Int32} (hx : x = nI 0) (hE : sw_E te ke ve) (hK : K < 2) (hW : 0 < W ∧ W ≤ 8) (hP : 0 < Pn ∧ Pn ≤ 4) (hLt : Lt ≤ 20) (hN : N < 20)
    (h1 : a1 0 = nI (N + 1)) (h5 : a5 0 = nI N) (h2 : a2 N = nI (te N)) (h3 : a3 N = nI (ke N)) (h4 : a4 N = ve N) (h6 : a6 0 = -1000 ∨ ∃ t, t ≤ te N ∧ a6 0 = nI t) (h7 : a7 0 = 0 ∧ ¬ a7 1 = 0 ∧ ¬ a7 2 = 0) (hM : -2000 ≤ M ∧ M ≤ (te N : Int) - (Lt : Int))
    (hPN : sw_PN te ke ve W N a8 a9 a10 a11) (hI : sw_IW te ke ve W Pn M N V R E a19)
    (H : ∀ (V' : Int) (R' : Nat) (E' : Int) (tc' ts' tl' tm' : Int32) (b8 b9 b10 b11 b19 : Nat → Int32), R ≤ R' → sw_PN te ke ve W (N + 1) b8 b9 b10 b11 → sw_IW te ke ve W Pn ((te N : Int) - (Lt : Int)) (N + 1) V' R' E' b19 → (te N : Int) - (Lt : Int) < (V' + (Pn : Int)) * (W : Int) →
      post (nI (R' - R)) ((nI K), (nI W), (nI Pn), (nI Lt), (sw_z ((te N : Int) - (Lt : Int))), lc, (sw_z V'), (nI R'), km, kl, kw, kr, tc', ts', tl', tm', a1, a2, a3, a4, (upd a5 0 (nI (N + 1))), (upd a6 0 (nI (te N))), a7, b8, b9, b10, b11, a12, a13, a14, a15, a16, a17, a18, b19, a20, a21, a22, a23, a24)) :
    wpX_read post ((nI K), (nI W), (nI Pn), (nI Lt), (sw_z M), lc, (sw_z V), (nI R), km, kl, kw, kr, tc, ts, tl, tm, a1, a2, a3, a4, a5, a6, a7, a8, a9, a10, a11, a12, a13, a14, a15, a16, a17, a18, a19, a20, a21, a22, a23, a24) x := by
  have ht := hE.1 N
  have hk := hE.2.2.1 N
  have c0 : (nI 0).toNatClampNeg = 0 := nI_clamp (by omega)
  have cN : (nI N).toNatClampNeg = N := nI_clamp (by omega)
  have vN : vp_in (nI N) 60 := vp_in_nI (by omega) (by omega)
  have r6 : (if nI (te N) ≤ a6 0 then a6 0 else nI (te N)) = nI (te N) := by
    by_cases c : nI (te N) ≤ a6 0
    · rw [if_pos c]
      rcases h6 with z | ⟨t, z1, z2⟩
      · rw [z, sw_zn, show (-1000 : Int32) = sw_z (-1000) from rfl, sw_le (by omega) (by omega)] at c
        omega
      · rw [z2, nI_leI (by omega) (by omega)] at c
        rw [z2, show t = te N by omega]
    · rw [if_neg c]
  refine sw_readA hx h1 h5 hN h2 (fun ψ hψ => ?_)
  rw [r6]
  refine ⟨pk_in 0 3 (by omega), ?_⟩
  rw [c0]
  refine nm_e (br_f (nI_ge (b := 2) hK (by decide)) ⟨vN, vN, ?_⟩)
  obtain ⟨d1, d2⟩ := @sw_dv (te N) W hW.1
  obtain ⟨p, hp⟩ : ∃ p, te N / W = p := ⟨_, rfl⟩
  rw [hp] at d1 d2
  have m1 := sw_mm W (show (p : Int) + 1 ≤ (p : Int) + (Pn : Int) by omega)
  refine sw_tip (t := te N) (k := ke N) (p := p) rfl (by rw [cN]; exact h3) hp ht hk hW hP (by omega) (fun z => ?_) (fun z => absurd z (by omega))
  rw [cN, h4]
  have hPN' := sw_PN_s hE (by omega) hW.1 hPN (p := p) hp.symm
  have hI' := sw_IW_M (sw_IW_ev (by omega) (sw_IW_hV hI (by omega)) hI) hM.2
  refine sw_look (t := te N) (M := M) pk_us ht hLt h7 hM ?_
  refine br_f (nI_ge (b := 2) hK (by decide)) ?_
  obtain ⟨d, hd⟩ : ∃ d : Nat, V + (d : Int) = 64 := by
    have := sw_IW_V hW.1 (by omega) hP.1 hI'
    exact ⟨(64 - V).toNat, by omega⟩
  refine ⟨_, sw_closeW (M := (te N : Int) - (Lt : Int)) (R0 := R) hE (by omega) hW hP hPN' (by omega) (fun V' R' E' tc' ts' tl' tm' b19 g1 g2 g3 => ?_) d V R E tc ts tl tm a19 hd (Nat.le_refl _) hI'⟩
  have er : nI R' - nI R = nI (R' - R) := pk_sub g1
  show ψ (nI R' - nI R) _
  rw [er]
  exact hψ (H V' R' E' tc' ts' tl' tm' _ _ _ _ b19 g1 hPN' g2 g3)
theorem sw_readS {post : Int32 → St2 → Prop} {x : Int32} (hx : x = nI 0) (hE : sw_E te ke ve) (hW : 0 < W ∧ W ≤ 8) (hLt : Lt ≤ 20) (hN : N < 20)
    (h1 : a1 0 = nI (N + 1)) (h5 : a5 0 = nI N) (h2 : a2 N = nI (te N)) (h3 : a3 N = nI (ke N)) (h4 : a4 N = ve N) (h6 : a6 0 = -1000 ∨ ∃ t, t ≤ te N ∧ a6 0 = nI t) (h7 : a7 0 = 0 ∧ ¬ a7 1 = 0 ∧ ¬ a7 2 = 0) (hM : -2000 ≤ M ∧ M ≤ (te N : Int) - (Lt : Int))
    (hI : sw_IS te ke ve W M N R E ns F L C a12 a13 a14 a15 a16 a17 a18 a19)
    (H : ∀ (R' : Nat) (E' : Int) (ns' : Nat → Nat) (F' L' : Nat → Nat → Nat) (C' : Nat → Int) (tc' ts' tl' tm' : Int32) (b12 b13 b14 b15 b16 b17 b18 b19 : Nat → Int32), R ≤ R' → sw_IS te ke ve W ((te N : Int) - (Lt : Int)) (N + 1) R' E' ns' F' L' C' b12 b13 b14 b15 b16 b17 b18 b19 → (∀ k, k < 4 → 0 < ns' k → (te N : Int) - (Lt : Int) < (L' k 0 : Int) + (W : Int)) →
      post (nI (R' - R)) ((nI 2), (nI W), pn, (nI Lt), (sw_z ((te N : Int) - (Lt : Int))), lc, nw, (nI R'), km, kl, kw, kr, tc', ts', tl', tm', a1, a2, a3, a4, (upd a5 0 (nI (N + 1))), (upd a6 0 (nI (te N))), a7, a8, a9, a10, a11, b12, b13, b14, b15, b16, b17, b18, b19, a20, a21, a22, a23, a24)) :
    wpX_read post ((nI 2), (nI W), pn, (nI Lt), (sw_z M), lc, nw, (nI R), km, kl, kw, kr, tc, ts, tl, tm, a1, a2, a3, a4, a5, a6, a7, a8, a9, a10, a11, a12, a13, a14, a15, a16, a17, a18, a19, a20, a21, a22, a23, a24) x := by
  have ht := hE.1 N
  have hk := hE.2.2.1 N
  have c0 : (nI 0).toNatClampNeg = 0 := nI_clamp (by omega)
  have cN : (nI N).toNatClampNeg = N := nI_clamp (by omega)
  have vN : vp_in (nI N) 60 := vp_in_nI (by omega) (by omega)
  have r6 : (if nI (te N) ≤ a6 0 then a6 0 else nI (te N)) = nI (te N) := by
    by_cases c : nI (te N) ≤ a6 0
    · rw [if_pos c]
      rcases h6 with z | ⟨t, z1, z2⟩
      · rw [z, sw_zn, show (-1000 : Int32) = sw_z (-1000) from rfl, sw_le (by omega) (by omega)] at c
        omega
      · rw [z2, nI_leI (by omega) (by omega)] at c
        rw [z2, show t = te N by omega]
    · rw [if_neg c]
  refine sw_readA hx h1 h5 hN h2 (fun ψ hψ => ?_)
  rw [r6]
  refine ⟨pk_in 0 3 (by omega), ?_⟩
  rw [c0]
  refine nm_e (br_t (nI_le (a := 2) (b := 2) (by omega) (by decide)) ⟨vN, vN, ?_⟩)
  rw [cN]
  refine sw_tis rfl h3 h4 hE hI hW (by omega) (by omega) (fun ns' F' L' b12 b13 b14 b15 b16 b17 b18 g => ?_)
  have g' := sw_IS_M g hM.2
  refine sw_look (t := te N) (M := M) pk_us ht hLt h7 hM ?_
  refine br_t (nI_le (a := 2) (b := 2) (by omega) (by decide)) ?_
  refine sw_closeS hE hW (by omega) (by omega) g' (fun R' E' ns'' F'' L'' C'' tc' ts' tl' tm' d12 d13 d14 d15 d16 d17 d18 d19 g1 g2 g3 => ?_)
  have er : nI R' - nI R = nI (R' - R) := pk_sub g1
  show ψ (nI R' - nI R) _
  rw [er]
  exact hψ (H R' E' ns'' F'' L'' C'' tc' ts' tl' tm' d12 d13 d14 d15 d16 d17 d18 d19 g1 g2 g3)
/-- the law's last event: late, or into a pane or session that stays -/
theorem sw_readL {post : Int32 → St2 → Prop} {x : Int32} {h : Nat → Nat} (hx : x = nI 0) (hK : K ≤ 2) (hW : 0 < W ∧ W ≤ 8) (hP : 0 < Pn ∧ Pn ≤ 4) (hLt : Lt ≤ 20) (hN : N < 20)
    (h1 : a1 0 = nI (N + 1)) (h5 : a5 0 = nI N) (h2 : a2 N = nI 5) (h3 : a3 N = nI 0) (h6 : a6 0 = nI 63) (h7 : a7 0 = 0 ∧ ¬ a7 1 = 0 ∧ ¬ a7 2 = 0) (hM : M = 63 - (Lt : Int))
    (hA : K < 2 → -3 ≤ V ∧ V ≤ 63 ∧ M < (V + (Pn : Int)) * (W : Int)) (hB : K = 2 → sw_LS W M ns h a12 a13 a14)
    (H : ∀ (lc' : Int32) (b8 b9 b10 b11 b13 b15 b16 b17 b18 : Nat → Int32), (K < 2 → (((5 / W : Nat) : Int) + (Pn : Int)) * (W : Int) ≤ M → lc' = lc + 1) →
      post 0 ((nI K), (nI W), (nI Pn), (nI Lt), (sw_z M), lc', (sw_z V), rc, km, kl, kw, kr, tc, ts, tl, tm, a1, a2, a3, a4, (upd a5 0 (nI (N + 1))), a6, a7, b8, b9, b10, b11, a12, b13, a14, b15, b16, b17, b18, a19, a20, a21, a22, a23, a24)) :
    wpX_read post ((nI K), (nI W), (nI Pn), (nI Lt), (sw_z M), lc, (sw_z V), rc, km, kl, kw, kr, tc, ts, tl, tm, a1, a2, a3, a4, a5, a6, a7, a8, a9, a10, a11, a12, a13, a14, a15, a16, a17, a18, a19, a20, a21, a22, a23, a24) x := by
  have c0 : (nI 0).toNatClampNeg = 0 := nI_clamp (by omega)
  have cN : (nI N).toNatClampNeg = N := nI_clamp (by omega)
  have vN : vp_in (nI N) 60 := vp_in_nI (by omega) (by omega)
  have r6 : (if nI 5 ≤ a6 0 then a6 0 else nI 5) = a6 0 := if_pos (by rw [h6]; exact nI_le (by omega) (by omega))
  refine sw_readA hx h1 h5 hN h2 (fun ψ hψ => ?_)
  rw [r6]
  refine ⟨pk_in 0 3 (by omega), ?_⟩
  rw [c0, sw_us]
  have e0 : rc - rc = 0 := Int32.sub_self rc
  rcases (show K < 2 ∨ K = 2 by omega) with hK2 | hK2
  · obtain ⟨g1, g2, g3⟩ := hA hK2
    have fin : ∀ (lc' : Int32) (b8 b9 b10 b11 : Nat → Int32), ((((5 / W : Nat) : Int) + (Pn : Int)) * (W : Int) ≤ M → lc' = lc + 1) → wX_readOne_100 ψ (nI K) (nI W) (nI Pn) (nI Lt) (sw_z M) lc' (sw_z V) rc km kl kw kr tc ts tl tm a1 a2 a3 a4 (upd a5 0 (nI (N + 1))) a6 a7 b8 b9 b10 b11 a12 a13 a14 a15 a16 a17 a18 a19 a20 a21 a22 a23 a24 := by
      intro lc' b8 b9 b10 b11 hl
      refine sw_look (t := 63) (M := M) h6 (by omega) hLt h7 (by omega) ?_
      rw [show ((63 : Nat) : Int) - (Lt : Int) = M by omega]
      refine br_f (nI_ge (b := 2) hK2 (by decide)) ⟨1, ?_⟩
      have m0 := sw_mm W (show (-10 : Int) ≤ V + (Pn : Int) by omega)
      have m4 := sw_mm W (show V + (Pn : Int) ≤ 70 by omega)
      have ee : (sw_z V + nI Pn) * nI W = sw_z ((V + (Pn : Int)) * (W : Int)) := by rw [sw_zn, sw_zn, sw_add, sw_mul]
      refine sw_ble 64 V rfl rfl (fun z => absurd z (by omega)) (fun _ => ?_)
      refine sw_blt M ((V + (Pn : Int)) * (W : Int)) rfl ee (fun z => ?_) (fun z => absurd z (by omega))
      show ψ (rc - rc) _
      rw [e0]
      exact hψ (H lc' b8 b9 b10 b11 a13 a15 a16 a17 a18 (fun _ => hl))
    refine nm_e (br_f (nI_ge (b := 2) hK2 (by decide)) ⟨vN, vN, ?_⟩)
    refine sw_tip (t := 5) (k := 0) (p := 5 / W) rfl (by rw [cN]; exact h3) rfl (by omega) (by omega) hW hP (by omega) (fun z => ?_) (fun z => ?_)
    · exact fin lc _ _ _ _ (fun y => absurd y (by omega))
    · exact fin (lc + 1) _ _ _ _ (fun _ => rfl)
  · subst hK2
    have hLS := hB rfl
    have fin : ∀ (lc' : Int32) (b13 b15 b16 b17 b18 : Nat → Int32), wX_readOne_100 ψ (nI 2) (nI W) (nI Pn) (nI Lt) (sw_z M) lc' (sw_z V) rc km kl kw kr tc ts tl tm a1 a2 a3 a4 (upd a5 0 (nI (N + 1))) a6 a7 a8 a9 a10 a11 a12 b13 a14 b15 b16 b17 b18 a19 a20 a21 a22 a23 a24 := by
      intro lc' b13 b15 b16 b17 b18
      refine sw_look (t := 63) (M := M) h6 (by omega) hLt h7 (by omega) ?_
      rw [show ((63 : Nat) : Int) - (Lt : Int) = M by omega]
      refine br_t (nI_le (a := 2) (b := 2) (by omega) (by decide)) ?_
      refine sw_closeS0 (ns := ns) (h := h) hW.2 (by omega) (fun k hk => ⟨(hLS.1 k hk).1, by have := (hLS.1 k hk).2; omega⟩) hLS.2.1 ?_
      show ψ (rc - rc) _
      rw [e0]
      exact hψ (H lc' a8 a9 a10 a11 b13 b15 b16 b17 b18 (fun y => absurd y (by omega)))
    refine nm_e (br_t (nI_le (a := 2) (b := 2) (by omega) (by decide)) ⟨vN, vN, ?_⟩)
    exact sw_tisL rfl (by rw [cN]; exact h3) hW (by omega) hLS (fun b13 b15 b16 b17 b18 => fin lc b13 b15 b16 b17 b18) (fin (lc + 1) a13 a15 a16 a17 a18)
end
end
section
/-! the object is made -/
theorem sw_nb1 : vp_nar .boolean 1 = 1 := by decide
theorem sw_nb0 : vp_nar .boolean 0 = 0 := by decide
theorem sw_init {post : St2 → Prop} {K W Mn Pn Lt : Nat} (hK : K ≤ 2) (hW : 0 < W ∧ W ≤ 8) (hMn : 0 < Mn ∧ Mn ≤ 4) (hPn : Pn = if K = 1 then Mn else 1) (hLt : Lt ≤ 20)
    (H : ∀ b6 b20 b21 b22 b23 b24 : Nat → Int32, (b6 0 = -1000 ∧ b6 1 = -1000 ∧ b6 2 = -1000) →
      post ((nI K), (nI W), (nI Pn), (nI Lt), (-1000), 0, (sw_z (1 - (Pn : Int))), 0, (-1000), 0, (sw_z (1 - (Pn : Int))), 0, 0, 0, 0, 0, (fun _ => 0), (fun _ => 0), (fun _ => 0), (fun _ => 0), (fun _ => 0), b6, (fun _ => 0), (fun _ => 0), (fun _ => 0), (fun _ => 0), (fun _ => 0), (fun _ => 0), (fun _ => 0), (fun _ => 0), (fun _ => 0), (fun _ => 0), (fun _ => 0), (fun _ => 0), (fun _ => 0), b20, b21, b22, b23, b24)) :
    wpX_init post 24 5893 (0, 0, 0, 0, 0, 0, 0, 0, 0, 0, 0, 0, 0, 0, 0, 0) (nI K) (nI W) (nI Mn) (nI Lt) := by
  have hP : 0 < Pn ∧ Pn ≤ 4 := by
    rw [hPn]
    by_cases c : K = 1
    · rw [if_pos c]
      exact hMn
    · rw [if_neg c]
      omega
  have en : 1 - nI Pn = sw_z (1 - (Pn : Int)) := by
    rw [sw_zn]
    exact sw_sub 1 (Pn : Int)
  have key : wX_init_284 post 24 5893 (nI Lt) (nI Pn) 24 5893 (nI K) (nI W) 0 0 0 0 0 0 0 0 0 0 0 0 0 0 (fun _ => 0) (fun _ => 0) (fun _ => 0) (fun _ => 0) (fun _ => 0) (fun _ => 0) (fun _ => 0) (fun _ => 0) (fun _ => 0) (fun _ => 0) (fun _ => 0) (fun _ => 0) (fun _ => 0) (fun _ => 0) (fun _ => 0) (fun _ => 0) (fun _ => 0) (fun _ => 0) (fun _ => 0) (fun _ => 0) (fun _ => 0) (fun _ => 0) (fun _ => 0) (fun _ => 0) := by
    refine pk_le 0 Lt (fun _ => ?_) (fun z => absurd z (by omega))
    refine pk_le Lt 20 (fun _ => ?_) (fun z => absurd z (by omega))
    refine nm_r en ⟨4, ?_⟩
    refine pk_le 3 0 (fun z => absurd z (by omega)) (fun _ => sw_st 0 rfl (by omega) (nm_r (nI_1 0) ?_))
    refine pk_le 3 1 (fun z => absurd z (by omega)) (fun _ => sw_st 1 rfl (by omega) (nm_r (nI_1 1) ?_))
    refine pk_le 3 2 (fun z => absurd z (by omega)) (fun _ => sw_st 2 rfl (by omega) (nm_r (nI_1 2) ?_))
    refine pk_le 3 3 (fun _ => ?_) (fun z => absurd z (by omega))
    refine sw_keep (fun b20 b21 b22 b23 b24 _ _ _ => ?_)
    refine H _ b20 b21 b22 b23 b24 ⟨?_, ?_, ?_⟩
    · rw [pk_un (by omega), pk_un (by omega), pk_us]
    · rw [pk_un (by omega), pk_us]
    · rw [pk_us]
  unfold wpX_init
  refine ⟨by decide, by decide, by decide, by decide, by decide, by decide, by decide, by decide, by decide, by decide, by decide, by decide, by decide, by decide, by decide, by decide, by decide, by decide, by decide, by decide, by decide, by decide, by decide, by decide, by decide, by decide, by decide, by decide, by decide, by decide, by decide, by decide, by decide, by decide, by decide, by decide, by decide, by decide, by decide, by decide, by decide, by decide, by decide, by decide, by decide, by decide, by decide, by decide, ?_⟩
  refine pk_le 0 K (fun _ => ?_) (fun z => absurd z (by omega))
  refine pk_le K 2 (fun _ => ?_) (fun z => absurd z (by omega))
  refine pk_le 1 W (fun _ => ?_) (fun z => absurd z (by omega))
  refine pk_le W 8 (fun _ => ?_) (fun z => absurd z (by omega))
  refine pk_le 1 Mn (fun _ => ?_) (fun z => absurd z (by omega))
  refine pk_le Mn 4 (fun _ => ?_) (fun z => absurd z (by omega))
  refine pk_eq K 1 (fun z => ?_) (fun z => ?_)
  · rw [if_pos z] at hPn
    rw [hPn] at key
    exact key
  · rw [if_neg z] at hPn
    rw [hPn] at key
    exact key
section
variable {kd wd pn lt mk lc nw rc km kl kw kr tc ts tl tm : Int32} {a1 a2 a3 a4 a5 a6 a7 a8 a9 a10 a11 a12 a13 a14 a15 a16 a17 a18 a19 a20 a21 a22 a23 a24 : Nat → Int32}
theorem sw_idle {post : Int32 → St2 → Prop} {K W Pn s : Nat} {x : Int32} (hx : x = nI s) (hs : s = 1 ∨ s = 2) (hK : K ≤ 2) (hW : 0 < W ∧ W ≤ 8) (hP : 0 < Pn ∧ Pn ≤ 4) (h6 : a6 0 = -1000 ∧ a6 1 = -1000 ∧ a6 2 = -1000) (h7 : a7 0 = 0) (h12 : ∀ k, k < 4 → a12 k = 0)
    (H : ∀ r, post r ((nI K), (nI W), (nI Pn), lt, (-1000), lc, (sw_z (1 - (Pn : Int))), rc, km, kl, kw, kr, tc, ts, tl, tm, a1, a2, a3, a4, a5, a6, (upd a7 s 1), a8, a9, a10, a11, a12, a13, a14, a15, a16, a17, a18, a19, a20, a21, a22, a23, a24)) : wpX_idle post ((nI K), (nI W), (nI Pn), lt, (-1000), lc, (sw_z (1 - (Pn : Int))), rc, km, kl, kw, kr, tc, ts, tl, tm, a1, a2, a3, a4, a5, a6, a7, a8, a9, a10, a11, a12, a13, a14, a15, a16, a17, a18, a19, a20, a21, a22, a23, a24) x 1 := by
  subst hx
  have cs : (nI s).toNatClampNeg = s := nI_clamp (by omega)
  unfold wpX_idle
  refine sw_isSrc rfl (by omega) (br_f (by decide) ?_)
  rw [sw_nb1, cs]
  refine ⟨pk_in s 3 (by omega), nm_e ?_⟩
  refine sw_look0 h6 (by rw [pk_un (by omega)]; exact h7) ?_
  rcases (show K < 2 ∨ K = 2 by omega) with hK2 | hK2
  · refine br_f (nI_ge (b := 2) hK2 (by decide)) ⟨1, ?_⟩
    have ee : (sw_z (1 - (Pn : Int)) + nI Pn) * nI W = sw_z (W : Int) := by
      rw [sw_zn, sw_zn, sw_add, sw_mul, show 1 - (Pn : Int) + (Pn : Int) = 1 by omega, Int.one_mul]
    refine sw_ble 64 (1 - (Pn : Int)) rfl rfl (fun z => absurd z (by omega)) (fun _ => ?_)
    exact sw_blt (-1000) (W : Int) rfl ee (fun z => H _) (fun z => absurd z (by omega))
  · subst hK2
    refine br_t (nI_le (a := 2) (b := 2) (by omega) (by decide)) ?_
    refine sw_closeS0 (M := -1000) (ns := fun _ => 0) (h := fun _ => 0) hW.2 (by omega) (fun k hk => ⟨h12 k hk, by omega⟩) (fun k hk hn => absurd hn (by omega)) ?_
    exact H _
end
/-! reading results -/
section
variable {kd wd pn lt mk lc nw rc km kl kw kr tc ts tl tm : Int32} {a1 a2 a3 a4 a5 a6 a7 a8 a9 a10 a11 a12 a13 a14 a15 a16 a17 a18 a19 a20 a21 a22 a23 a24 : Nat → Int32}
theorem sw_result {post : Int32 → Prop} {i w R : Nat} {x y : Int32} (hx : x = nI i) (hy : y = nI w) (hi : i < R) (hw : w < 7) (hR : R ≤ 300) (H : post (a19 (7 * i + w))) : wpX_result post (kd, wd, pn, lt, mk, lc, nw, (nI R), km, kl, kw, kr, tc, ts, tl, tm, a1, a2, a3, a4, a5, a6, a7, a8, a9, a10, a11, a12, a13, a14, a15, a16, a17, a18, a19, a20, a21, a22, a23, a24) x y := by
  subst hx hy
  have ei : (7 : Int32) * nI i + nI w = nI (7 * i + w) := sw_ad w (pk_mul 7 i)
  refine br_f (nI_pos (by omega)) (br_f (nI_ge hi (by omega)) (br_f (nI_pos (by omega)) (br_t (nI_lt (b := 7) hw (by decide)) ⟨pk_in (7 * i + w) 2100 (by omega) ei, ?_⟩)))
  rw [pk_cl (7 * i + w) ei]
  exact H
theorem sw_resultN {post : Int32 → Prop} {y : Int32} {R : Nat} (hR : R ≤ 300) (H : post (-2002)) : wpX_result post (kd, wd, pn, lt, mk, lc, nw, (nI R), km, kl, kw, kr, tc, ts, tl, tm, a1, a2, a3, a4, a5, a6, a7, a8, a9, a10, a11, a12, a13, a14, a15, a16, a17, a18, a19, a20, a21, a22, a23, a24) (nI R) y :=
  br_f (nI_pos (by omega)) (br_t (nI_le (Nat.le_refl R) (by omega)) H)
def sw_wt (w : Nat) : Int32 := if w = 0 then 1 else if w = 1 then 3 else if w = 2 then 5 else if w = 3 then 7 else if w = 4 then 11 else if w = 5 then 13 else 17
theorem sw_weight {post : Int32 → Prop} {w : Nat} (hw : w < 7) (H : post (sw_wt w)) : wpX_weightOf post (kd, wd, pn, lt, mk, lc, nw, rc, km, kl, kw, kr, tc, ts, tl, tm, a1, a2, a3, a4, a5, a6, a7, a8, a9, a10, a11, a12, a13, a14, a15, a16, a17, a18, a19, a20, a21, a22, a23, a24) (nI w) := by
  rcases (show w = 0 ∨ w = 1 ∨ w = 2 ∨ w = 3 ∨ w = 4 ∨ w = 5 ∨ w = 6 by omega) with z | z | z | z | z | z | z <;> subst z
  · exact br_t (by decide) H
  · exact br_f (by decide) (br_t (by decide) H)
  · exact br_f (by decide) (br_f (by decide) (br_t (by decide) H))
  · exact br_f (by decide) (br_f (by decide) (br_f (by decide) (br_t (by decide) H)))
  · exact br_f (by decide) (br_f (by decide) (br_f (by decide) (br_f (by decide) (br_t (by decide) H))))
  · exact br_f (by decide) (br_f (by decide) (br_f (by decide) (br_f (by decide) (br_f (by decide) (br_t (by decide) H)))))
  · exact br_f (by decide) (br_f (by decide) (br_f (by decide) (br_f (by decide) (br_f (by decide) (br_f (by decide) H)))))
def sw_dgi (a : Nat → Int32) (i : Nat) : Nat → Int32
  | 0 => 0
  | w + 1 => sw_dgi a i w + sw_wt w * a (7 * i + w)
def sw_dg (a : Nat → Int32) : Nat → Int32
  | 0 => 0
  | n + 1 => sw_dg a n + (nI n + 1) * sw_dgi a n 7
theorem sw_dg17 {post : Int32 → Prop} {J4 : Int32 → Int32 → Prop} {x1 : Int32} {i : Nat} (hi : i < 300) (H : J4 (x1 + (nI i + 1) * sw_dgi a19 i 7) (nI (i + 1))) :
    ∀ d w : Nat, w + d = 7 → wX_digest_17 post J4 x1 (nI i) kd wd pn lt mk lc nw rc km kl kw kr tc ts tl tm a1 a2 a3 a4 a5 a6 a7 a8 a9 a10 a11 a12 a13 a14 a15 a16 a17 a18 a19 a20 a21 a22 a23 a24 (d + 1) (sw_dgi a19 i w) (nI w) := by
  intro d
  induction d with
  | zero =>
    intro w hw
    have ew : w = 7 := by omega
    subst ew
    exact pk_le 7 7 (fun _ => nm_e (nm_r (nI_1 i) H)) (fun z => absurd z (by omega))
  | succ d ih =>
    intro w hw
    have ei : (7 : Int32) * nI i + nI w = nI (7 * i + w) := sw_ad w (pk_mul 7 i)
    refine pk_le 7 w (fun z => absurd z (by omega)) (fun _ => sw_weight (by omega) ⟨pk_in (7 * i + w) 2100 (by omega) ei, ?_⟩)
    rw [pk_cl (7 * i + w) ei]
    exact nm_e (nm_r (nI_1 w) (ih (w + 1) (by omega)))
theorem sw_digest {post : Int32 → Prop} {R : Nat} (hR : R ≤ 300) (H : post (sw_dg a19 R)) : wpX_digest post (kd, wd, pn, lt, mk, lc, nw, (nI R), km, kl, kw, kr, tc, ts, tl, tm, a1, a2, a3, a4, a5, a6, a7, a8, a9, a10, a11, a12, a13, a14, a15, a16, a17, a18, a19, a20, a21, a22, a23, a24) := by
  have main : ∀ d i : Nat, i + d = R → wX_digest_4 post kd wd pn lt mk lc nw (nI R) km kl kw kr tc ts tl tm a1 a2 a3 a4 a5 a6 a7 a8 a9 a10 a11 a12 a13 a14 a15 a16 a17 a18 a19 a20 a21 a22 a23 a24 (d + 1) (sw_dg a19 i) (nI i) := by
    intro d
    induction d with
    | zero =>
      intro i hi
      have ei : i = R := by omega
      subst ei
      exact pk_le i i (fun _ => H) (fun z => absurd z (by omega))
    | succ d ih =>
      intro i hi
      exact pk_le R i (fun z => absurd z (by omega)) (fun _ => ⟨8, sw_dg17 (by omega) (ih (i + 1) (by omega)) 7 0 rfl⟩)
  exact ⟨R + 1, main R 0 (by omega)⟩
end
/-! what is not closed yet -/
section
variable {te ke : Nat → Nat} {ve : Nat → Int32}
/-- how many of d windows from w on hold events of the key -/
def sw_op (te ke : Nat → Nat) (ve : Nat → Int32) (W Pn N k : Nat) : Nat → Int → Nat
  | 0, _ => 0
  | d + 1, w => (if 0 < (sw_g te ke ve k (w * (W : Int)) ((w + (Pn : Int)) * (W : Int)) N).1 then 1 else 0) + sw_op te ke ve W Pn N k d (w + 1)
/-- the sum of the first of them -/
def sw_pd (te ke : Nat → Nat) (ve : Nat → Int32) (W Pn N k : Nat) : Nat → Int → Int32
  | 0, _ => 0
  | d + 1, w => if 0 < (sw_g te ke ve k (w * (W : Int)) ((w + (Pn : Int)) * (W : Int)) N).1 then (sw_g te ke ve k (w * (W : Int)) ((w + (Pn : Int)) * (W : Int)) N).2.1 else sw_pd te ke ve W Pn N k d (w + 1)
variable {kd wd pn lt mk lc nw rc km kl kw kr tc ts tl tm : Int32} {a1 a2 a3 a4 a5 a6 a7 a8 a9 a10 a11 a12 a13 a14 a15 a16 a17 a18 a19 a20 a21 a22 a23 a24 : Nat → Int32}
variable {W Pn N : Nat}
theorem sw_open33 {post : Int32 → St2 → Prop} {k : Nat} (hE : sw_E te ke ve) (hN : N < 1000) (hW : 0 < W ∧ W ≤ 8) (hP : 0 < Pn ∧ Pn ≤ 4) (hPN : sw_PN te ke ve W N a8 a9 a10 a11) (hk : k < 4) :
    ∀ (d c : Nat) (w : Int) (tc ts tl tm : Int32), w + (d : Int) = 64 → -10 ≤ w → (∀ tc ts tl tm : Int32, post (nI (c + sw_op te ke ve W Pn N k d w)) (kd, wd, (nI Pn), lt, mk, lc, nw, rc, km, kl, kw, kr, tc, ts, tl, tm, a1, a2, a3, a4, a5, a6, a7, a8, a9, a10, a11, a12, a13, a14, a15, a16, a17, a18, a19, a20, a21, a22, a23, a24)) → wX_open_33 post (nI k) (d + 1) (nI c) (sw_z w) kd wd (nI Pn) lt mk lc nw rc km kl kw kr tc ts tl tm a1 a2 a3 a4 a5 a6 a7 a8 a9 a10 a11 a12 a13 a14 a15 a16 a17 a18 a19 a20 a21 a22 a23 a24 := by
  intro d
  induction d with
  | zero =>
    intro c w tc ts tl tm hw hw2 H
    exact sw_ble 64 w rfl rfl (fun _ => H tc ts tl tm) (fun z => absurd z (by omega))
  | succ d ih =>
    intro c w tc ts tl tm hw hw2 H
    have e1 : sw_z w + 1 = sw_z (w + 1) := sw_add w 1
    refine sw_ble 64 w rfl rfl (fun z => absurd z (by omega)) (fun _ => ?_)
    refine sw_put rfl rfl hE hN hW hP hPN hk (by omega) (fun tc' ts' tl' tm' hG => ?_)
    have hle : (sw_g te ke ve k (w * (W : Int)) ((w + (Pn : Int)) * (W : Int)) N).1 ≤ N := sw_ag_le
    refine pk_le (sw_g te ke ve k (w * (W : Int)) ((w + (Pn : Int)) * (W : Int)) N).1 0 (fun z => ?_) (fun z => ?_) hG.1 rfl
    · refine nm_r (nI_add c 0) (nm_r e1 (ih (c + 0) (w + 1) tc' ts' tl' tm' (by omega) (by omega) ?_))
      intro tc ts tl tm
      have t := H tc ts tl tm
      unfold sw_op at t
      rw [if_neg (by omega)] at t
      rw [show c + 0 + sw_op te ke ve W Pn N k d (w + 1) = c + (0 + sw_op te ke ve W Pn N k d (w + 1)) by omega]
      exact t
    · refine nm_r (nI_add c 1) (nm_r e1 (ih (c + 1) (w + 1) tc' ts' tl' tm' (by omega) (by omega) ?_))
      intro tc ts tl tm
      have t := H tc ts tl tm
      unfold sw_op at t
      rw [if_pos z] at t
      rw [show c + 1 + sw_op te ke ve W Pn N k d (w + 1) = c + (1 + sw_op te ke ve W Pn N k d (w + 1)) by omega]
      exact t
theorem sw_openW {post : Int32 → St2 → Prop} {k d K : Nat} {V : Int} {x : Int32} (hx : x = nI k) (hK : K < 2) (hE : sw_E te ke ve) (hN : N < 1000) (hW : 0 < W ∧ W ≤ 8) (hP : 0 < Pn ∧ Pn ≤ 4) (hPN : sw_PN te ke ve W N a8 a9 a10 a11) (hk : k < 4) (hd : V + (d : Int) = 64) (hV : -10 ≤ V)
    (H : ∀ tc ts tl tm : Int32, post (nI (sw_op te ke ve W Pn N k d V)) ((nI K), wd, (nI Pn), lt, mk, lc, (sw_z V), rc, km, kl, kw, kr, tc, ts, tl, tm, a1, a2, a3, a4, a5, a6, a7, a8, a9, a10, a11, a12, a13, a14, a15, a16, a17, a18, a19, a20, a21, a22, a23, a24)) : wpX_open post ((nI K), wd, (nI Pn), lt, mk, lc, (sw_z V), rc, km, kl, kw, kr, tc, ts, tl, tm, a1, a2, a3, a4, a5, a6, a7, a8, a9, a10, a11, a12, a13, a14, a15, a16, a17, a18, a19, a20, a21, a22, a23, a24) x := by
  subst hx
  unfold wpX_open
  refine sw_isKey rfl hk (br_f (by decide) (pk_eq K 2 (fun z => absurd z (by omega)) (fun _ => ⟨_, sw_open33 hE hN hW hP hPN hk d 0 V tc ts tl tm hd hV ?_⟩)))
  rw [Nat.zero_add]
  exact H
theorem sw_openS {post : Int32 → St2 → Prop} {k n : Nat} {x : Int32} (hx : x = nI k) (hk : k < 4) (h12 : a12 k = nI n) (H : post (nI n) ((nI 2), wd, pn, lt, mk, lc, nw, rc, km, kl, kw, kr, tc, ts, tl, tm, a1, a2, a3, a4, a5, a6, a7, a8, a9, a10, a11, a12, a13, a14, a15, a16, a17, a18, a19, a20, a21, a22, a23, a24)) : wpX_open post ((nI 2), wd, pn, lt, mk, lc, nw, rc, km, kl, kw, kr, tc, ts, tl, tm, a1, a2, a3, a4, a5, a6, a7, a8, a9, a10, a11, a12, a13, a14, a15, a16, a17, a18, a19, a20, a21, a22, a23, a24) x := by
  subst hx
  unfold wpX_open
  refine sw_isKey rfl hk (br_f (by decide) (br_t rfl ⟨pk_in k 4 hk, ?_⟩))
  rw [nI_clamp (by omega), h12]
  exact H
theorem sw_pend45 {post : Int32 → St2 → Prop} {k : Nat} (hE : sw_E te ke ve) (hN : N < 1000) (hW : 0 < W ∧ W ≤ 8) (hP : 0 < Pn ∧ Pn ≤ 4) (hPN : sw_PN te ke ve W N a8 a9 a10 a11) (hk : k < 4) :
    ∀ (d : Nat) (w : Int) (tc ts tl tm : Int32), w + (d : Int) = 64 → -10 ≤ w → (∀ tc ts tl tm : Int32, post (sw_pd te ke ve W Pn N k d w) (kd, wd, (nI Pn), lt, mk, lc, nw, rc, km, kl, kw, kr, tc, ts, tl, tm, a1, a2, a3, a4, a5, a6, a7, a8, a9, a10, a11, a12, a13, a14, a15, a16, a17, a18, a19, a20, a21, a22, a23, a24)) → wX_pending_45 post (nI k) (d + 1) (sw_z w) kd wd (nI Pn) lt mk lc nw rc km kl kw kr tc ts tl tm a1 a2 a3 a4 a5 a6 a7 a8 a9 a10 a11 a12 a13 a14 a15 a16 a17 a18 a19 a20 a21 a22 a23 a24 := by
  intro d
  induction d with
  | zero =>
    intro w tc ts tl tm hw hw2 H
    exact sw_ble 64 w rfl rfl (fun _ => H tc ts tl tm) (fun z => absurd z (by omega))
  | succ d ih =>
    intro w tc ts tl tm hw hw2 H
    have e1 : sw_z w + 1 = sw_z (w + 1) := sw_add w 1
    refine sw_ble 64 w rfl rfl (fun z => absurd z (by omega)) (fun _ => ?_)
    refine sw_put rfl rfl hE hN hW hP hPN hk (by omega) (fun tc' ts' tl' tm' hG => ?_)
    have hle : (sw_g te ke ve k (w * (W : Int)) ((w + (Pn : Int)) * (W : Int)) N).1 ≤ N := sw_ag_le
    refine pk_le (sw_g te ke ve k (w * (W : Int)) ((w + (Pn : Int)) * (W : Int)) N).1 0 (fun z => ?_) (fun z => ?_) hG.1 rfl
    · refine nm_r e1 (ih (w + 1) tc' ts' tl' tm' (by omega) (by omega) ?_)
      intro tc ts tl tm
      have t := H tc ts tl tm
      unfold sw_pd at t
      rw [if_neg (by omega)] at t
      exact t
    · have t := H tc' ts' tl' tm'
      unfold sw_pd at t
      rw [if_pos z, ← hG.2.1] at t
      exact t
theorem sw_pendW {post : Int32 → St2 → Prop} {k d K : Nat} {V : Int} {x : Int32} (hx : x = nI k) (hK : K < 2) (hE : sw_E te ke ve) (hN : N < 1000) (hW : 0 < W ∧ W ≤ 8) (hP : 0 < Pn ∧ Pn ≤ 4) (hPN : sw_PN te ke ve W N a8 a9 a10 a11) (hk : k < 4) (hd : V + (d : Int) = 64) (hV : -10 ≤ V)
    (H : ∀ tc ts tl tm : Int32, post (sw_pd te ke ve W Pn N k d V) ((nI K), wd, (nI Pn), lt, mk, lc, (sw_z V), rc, km, kl, kw, kr, tc, ts, tl, tm, a1, a2, a3, a4, a5, a6, a7, a8, a9, a10, a11, a12, a13, a14, a15, a16, a17, a18, a19, a20, a21, a22, a23, a24)) : wpX_pending post ((nI K), wd, (nI Pn), lt, mk, lc, (sw_z V), rc, km, kl, kw, kr, tc, ts, tl, tm, a1, a2, a3, a4, a5, a6, a7, a8, a9, a10, a11, a12, a13, a14, a15, a16, a17, a18, a19, a20, a21, a22, a23, a24) x := by
  subst hx
  unfold wpX_pending
  exact sw_isKey rfl hk (br_f (by decide) (pk_eq K 2 (fun z => absurd z (by omega)) (fun _ => ⟨_, sw_pend45 hE hN hW hP hPN hk d V tc ts tl tm hd hV H⟩)))
theorem sw_pendS {post : Int32 → St2 → Prop} {k n : Nat} {x : Int32} (hx : x = nI k) (hk : k < 4) (h12 : a12 k = nI n) (hn : n < 1000) (H : post (if n = 0 then 0 else a16 (32 * k)) ((nI 2), wd, pn, lt, mk, lc, nw, rc, km, kl, kw, kr, tc, ts, tl, tm, a1, a2, a3, a4, a5, a6, a7, a8, a9, a10, a11, a12, a13, a14, a15, a16, a17, a18, a19, a20, a21, a22, a23, a24)) : wpX_pending post ((nI 2), wd, pn, lt, mk, lc, nw, rc, km, kl, kw, kr, tc, ts, tl, tm, a1, a2, a3, a4, a5, a6, a7, a8, a9, a10, a11, a12, a13, a14, a15, a16, a17, a18, a19, a20, a21, a22, a23, a24) x := by
  subst hx
  have ei : (32 : Int32) * nI k = nI (32 * k) := pk_mul 32 k
  unfold wpX_pending
  refine sw_isKey rfl hk (br_f (by decide) (br_t rfl ⟨pk_in k 4 hk, ?_⟩))
  refine pk_le n 0 (fun z => ?_) (fun z => ⟨pk_in (32 * k) 128 (by omega) ei, ?_⟩) (by rw [nI_clamp (by omega)]; exact h12) rfl
  · rw [if_pos (by omega)] at H
    exact H
  · rw [if_neg (by omega)] at H
    rw [pk_cl (32 * k) ei]
    exact H
end
end
section
/-! the script's events -/
def sw_dn (x : Int32) (j : Nat) : Nat := ((x >>> ((3 * nI j) &&& 31)) &&& 7).toNatClampNeg
def sw_kn (y : Int32) (j : Nat) : Nat := ((y >>> ((2 * nI j) &&& 31)) &&& 3).toNatClampNeg
theorem sw_dnE (x : Int32) (j : Nat) : (x >>> ((3 * nI j) &&& 31)) &&& 7 = nI (sw_dn x j) ∧ sw_dn x j < 8 := by
  obtain ⟨n, hn, e⟩ := pk_andE (x >>> ((3 * nI j) &&& 31)) (m := 7) 3 (by decide)
  unfold sw_dn
  rw [e, nI_clamp (by omega)]
  exact ⟨rfl, by omega⟩
theorem sw_knE (y : Int32) (j : Nat) : (y >>> ((2 * nI j) &&& 31)) &&& 3 = nI (sw_kn y j) ∧ sw_kn y j < 4 := by
  obtain ⟨n, hn, e⟩ := pk_andE (y >>> ((2 * nI j) &&& 31)) (m := 3) 2 (by decide)
  unfold sw_kn
  rw [e, nI_clamp (by omega)]
  exact ⟨rfl, by omega⟩
def sw_vx (z : Int32) (j : Nat) : Int32 := ((z >>> ((3 * nI j) &&& 31)) &&& 7) - 3
theorem sw_vxE (z : Int32) (j : Nat) : sw_v (sw_vx z j) := by
  obtain ⟨e, h⟩ := sw_dnE z j
  unfold sw_v sw_vx
  rw [e, sw_zn, show (3 : Int32) = sw_z 3 from rfl, sw_sub, sw_ti (by omega)]
  omega
def sw_tp (x : Int32) : Nat → Nat
  | 0 => 0
  | j + 1 => sw_tp x j + sw_dn x j
theorem sw_tp_le (x : Int32) : ∀ j, sw_tp x j ≤ 7 * j := by
  intro j
  induction j with
  | zero => exact Nat.le_refl 0
  | succ j ih =>
    have := (sw_dnE x j).2
    show sw_tp x j + sw_dn x j ≤ 7 * (j + 1)
    omega
def sw_te (x : Int32) (n j : Nat) : Nat := if j < n then sw_tp x (j + 1) else 63
def sw_ke (y : Int32) (n j : Nat) : Nat := if j < n then sw_kn y j else 0
def sw_ve (z : Int32) (n j : Nat) : Int32 := if j < n then sw_vx z j else 0
theorem sw_Ev {x y z : Int32} {n : Nat} (hn : n ≤ 8) : sw_E (sw_te x n) (sw_ke y n) (sw_ve z n) := by
  refine ⟨fun j => ?_, fun j => ?_, fun j => ?_, fun j => ?_⟩
  · unfold sw_te
    by_cases c : j < n
    · rw [if_pos c]
      have := sw_tp_le x (j + 1)
      omega
    · rw [if_neg c]
      omega
  · unfold sw_te
    by_cases c : j < n
    · rw [if_pos c]
      by_cases c2 : j + 1 < n
      · rw [if_pos c2]
        show sw_tp x (j + 1) ≤ sw_tp x (j + 1) + sw_dn x (j + 1)
        omega
      · rw [if_neg c2]
        have := sw_tp_le x (j + 1)
        omega
    · rw [if_neg c, if_neg (by omega)]
      exact Nat.le_refl _
  · unfold sw_ke
    by_cases c : j < n
    · rw [if_pos c]
      exact (sw_knE y j).2
    · rw [if_neg c]
      omega
  · unfold sw_ve
    by_cases c : j < n
    · rw [if_pos c]
      exact sw_vxE z j
    · rw [if_neg c]
      exact ⟨by decide, by decide⟩
/-- the sum of the first values -/
def sw_sm (v : Nat → Int32) : Nat → Int32
  | 0 => 0
  | n + 1 => sw_sm v n + v n
theorem sw_sm_ag {v : Nat → Int32} {P : Nat → Bool} : ∀ {n : Nat}, (∀ j, j < n → P j = true) → (sw_ag v P n).2.1 = sw_sm v n := by
  intro n
  induction n with
  | zero => intro _; rfl
  | succ n ih =>
    intro h
    rw [sw_ag_t (h n (by omega))]
    show (sw_ag v P n).2.1 + v n = sw_sm v n + v n
    rw [ih (fun j hj => h j (by omega))]
/-! the whole invariant -/
def sw_INV (te ke : Nat → Nat) (ve : Nat → Int32) (K W Pn Lt N : Nat) (kd wd pn lt mk lc nw rc km kl kw kr tc ts tl tm : Int32) (a1 a2 a3 a4 a5 a6 a7 a8 a9 a10 a11 a12 a13 a14 a15 a16 a17 a18 a19 a20 a21 a22 a23 a24 : Nat → Int32) : Prop :=
  ∃ (R : Nat) (M V : Int), kd = nI K ∧ wd = nI W ∧ pn = nI Pn ∧ lt = nI Lt ∧ mk = sw_z M ∧ lc = 0 ∧ nw = sw_z V ∧ rc = nI R ∧ R ≤ 300 ∧ a1 0 = nI N ∧ a5 0 = nI N ∧ (N = 0 → M = -1000 ∧ a6 0 = -1000) ∧ (∀ j, N = j + 1 → M = (te j : Int) - (Lt : Int) ∧ a6 0 = nI (te j)) ∧ (a7 0 = 0 ∧ a7 1 = 1 ∧ a7 2 = 1) ∧
    (K < 2 → sw_PN te ke ve W N a8 a9 a10 a11 ∧ ∃ E, sw_IW te ke ve W Pn M N V R E a19 ∧ M < (V + (Pn : Int)) * (W : Int)) ∧
    (K = 2 → ∃ E ns F L C, sw_IS te ke ve W M N R E ns F L C a12 a13 a14 a15 a16 a17 a18 a19 ∧ ∀ k, k < 4 → 0 < ns k → M < (L k 0 : Int) + (W : Int))
section
variable {kd wd pn lt mk lc nw rc km kl kw kr tc ts tl tm : Int32} {a1 a2 a3 a4 a5 a6 a7 a8 a9 a10 a11 a12 a13 a14 a15 a16 a17 a18 a19 a20 a21 a22 a23 a24 : Nat → Int32}
variable {te ke : Nat → Nat} {ve : Nat → Int32} {K W Pn Lt N : Nat}
theorem sw_IW_R {R : Nat} {M V E : Int} (hW : 0 < W) (hP : 0 < Pn ∧ Pn ≤ 4) (hM : M ≤ 63) (h : sw_IW te ke ve W Pn M N V R E a19) : R ≤ 300 := by
  have := sw_IW_V hW hM hP.1 h
  obtain ⟨_, _, _, h4, _⟩ := h
  omega
theorem sw_IS_R {R : Nat} {M E : Int} {ns : Nat → Nat} {F L : Nat → Nat → Nat} {C : Nat → Int} (hN : N < 30) (h : sw_IS te ke ve W M N R E ns F L C a12 a13 a14 a15 a16 a17 a18 a19) : R ≤ 300 := by
  obtain ⟨_, _, _, h4, _⟩ := h
  omega
/-- one event arrived and read -/
theorem sw_readI {post : Int32 → St2 → Prop} {x rc0 q2 q3 q4 : Int32} (hx : x = nI 0) (hq2 : q2 = nI (te N)) (hq3 : q3 = nI (ke N)) (hq4 : q4 = ve N) (hE : sw_E te ke ve) (hK : K ≤ 2) (hW : 0 < W ∧ W ≤ 8) (hP : 0 < Pn ∧ Pn ≤ 4) (hLt : Lt ≤ 20) (hN : N < 15) (hI : sw_INV te ke ve K W Pn Lt N kd wd pn lt mk lc nw rc0 km kl kw kr tc ts tl tm a1 a2 a3 a4 a5 a6 a7 a8 a9 a10 a11 a12 a13 a14 a15 a16 a17 a18 a19 a20 a21 a22 a23 a24)
    (H : ∀ (d : Nat) (kd wd pn lt mk lc nw rc km kl kw kr tc ts tl tm : Int32) (a1 a2 a3 a4 a5 a6 a7 a8 a9 a10 a11 a12 a13 a14 a15 a16 a17 a18 a19 a20 a21 a22 a23 a24 : Nat → Int32), d ≤ 300 → rc = rc0 + nI d → sw_INV te ke ve K W Pn Lt (N + 1) kd wd pn lt mk lc nw rc km kl kw kr tc ts tl tm a1 a2 a3 a4 a5 a6 a7 a8 a9 a10 a11 a12 a13 a14 a15 a16 a17 a18 a19 a20 a21 a22 a23 a24 → post (nI d) (kd, wd, pn, lt, mk, lc, nw, rc, km, kl, kw, kr, tc, ts, tl, tm, a1, a2, a3, a4, a5, a6, a7, a8, a9, a10, a11, a12, a13, a14, a15, a16, a17, a18, a19, a20, a21, a22, a23, a24)) :
    wpX_read post (kd, wd, pn, lt, mk, lc, nw, rc0, km, kl, kw, kr, tc, ts, tl, tm, (upd a1 0 (nI (N + 1))), (upd a2 N q2), (upd a3 N q3), (upd a4 N q4), a5, a6, a7, a8, a9, a10, a11, a12, a13, a14, a15, a16, a17, a18, a19, a20, a21, a22, a23, a24) x := by
  subst hq2 hq3 hq4
  obtain ⟨R, M, V, e1, e2, e3, e4, e5, e6, e7, e8, eR, f1, f5, g0, g1, h7, hA, hB⟩ := hI
  subst e1 e2 e3 e4 e5 e6 e7 e8
  have ht := hE.1 N
  have h7' : a7 0 = 0 ∧ ¬ a7 1 = 0 ∧ ¬ a7 2 = 0 := ⟨h7.1, by rw [h7.2.1]; decide, by rw [h7.2.2]; decide⟩
  have hM6 : (-2000 ≤ M ∧ M ≤ (te N : Int) - (Lt : Int)) ∧ (a6 0 = -1000 ∨ ∃ t, t ≤ te N ∧ a6 0 = nI t) := by
    rcases Nat.eq_zero_or_pos N with z | z
    · obtain ⟨t1, t2⟩ := g0 z
      exact ⟨by omega, Or.inl t2⟩
    · obtain ⟨t1, t2⟩ := g1 (N - 1) (by omega)
      have := sw_E_mono hE (show N - 1 ≤ N by omega)
      exact ⟨by omega, Or.inr ⟨te (N - 1), this, t2⟩⟩
  have st : ∀ j, N + 1 = j + 1 → (te N : Int) - (Lt : Int) = (te j : Int) - (Lt : Int) ∧ upd a6 0 (nI (te N)) 0 = nI (te j) := by
    intro j hj
    have : j = N := by omega
    subst this
    exact ⟨rfl, pk_us⟩
  rcases (show K < 2 ∨ K = 2 by omega) with hK2 | hK2
  · obtain ⟨i1, E, i2, i3⟩ := hA hK2
    refine sw_readW hx hE hK2 hW hP hLt (by omega) pk_us f5 pk_us pk_us pk_us hM6.2 h7' hM6.1 i1 i2 (fun V' R' E' tc' ts' tl' tm' b8 b9 b10 b11 b19 q1 q2 q3 q4 => ?_)
    have hR' := sw_IW_R hW.1 hP (by omega) q3
    exact H (R' - R) _ _ _ _ _ _ _ _ _ _ _ _ _ _ _ _ _ _ _ _ _ _ _ _ _ _ _ _ _ _ _ _ _ _ _ _ _ _ _ _ (by omega) (by rw [nI_add, show R + (R' - R) = R' by omega])
      ⟨R', (te N : Int) - (Lt : Int), V', rfl, rfl, rfl, rfl, rfl, rfl, rfl, rfl, hR', pk_us, pk_us, fun z => absurd z (by omega), st, h7, fun _ => ⟨q2, E', q3, q4⟩, fun z => absurd z (by omega)⟩
  · subst hK2
    obtain ⟨E, ns, F, L, C, i1, i2⟩ := hB rfl
    refine sw_readS hx hE hW hLt (by omega) pk_us f5 pk_us pk_us pk_us hM6.2 h7' hM6.1 i1 (fun R' E' ns' F' L' C' tc' ts' tl' tm' b12 b13 b14 b15 b16 b17 b18 b19 q1 q2 q3 => ?_)
    have hR' := sw_IS_R (by omega) q2
    exact H (R' - R) _ _ _ _ _ _ _ _ _ _ _ _ _ _ _ _ _ _ _ _ _ _ _ _ _ _ _ _ _ _ _ _ _ _ _ _ _ _ _ _ (by omega) (by rw [nI_add, show R + (R' - R) = R' by omega])
      ⟨R', (te N : Int) - (Lt : Int), V, rfl, rfl, rfl, rfl, rfl, rfl, rfl, rfl, hR', pk_us, pk_us, fun z => absurd z (by omega), st, h7, fun z => absurd z (by omega), fun _ => ⟨E', ns', F', L', C', q2, q3⟩⟩
end
end
section
/-! what the law asks at its end: the pure part -/
section
variable {te ke : Nat → Nat} {ve : Nat → Int32} {W N k : Nat}
theorem sw_tot {B : Nat → Int} {k0 : Nat} {a b : Int} (h1 : B k0 ≤ a) (h2 : ∀ j, j < N → (te j : Int) < B (ke j) ∨ (ke j = k0 ∧ a ≤ (te j : Int) ∧ (te j : Int) < b)) : (sw_q te ke ve B N).2.1 + (sw_g te ke ve k0 a b N).2.1 = sw_sm ve N := by
  have e : sw_ag ve (fun _ => true) N = sw_j (sw_q te ke ve B N) (sw_g te ke ve k0 a b N) := by
    refine sw_agj (fun j hj => ?_) (fun j hj => ?_)
    · rw [sw_P_t]
      unfold sw_Q
      rw [decide_eq_true_iff]
      intro t
      have ek := t.2.1
      rw [ek] at t
      omega
    · symm
      rw [Bool.or_eq_true]
      rcases h2 j hj with z | z
      · exact Or.inl (decide_eq_true z)
      · exact Or.inr (sw_P_t.mpr z)
  have e2 := @sw_sm_ag ve (fun _ => true) N (fun _ _ => rfl)
  rw [e] at e2
  exact e2
theorem sw_op_none : ∀ {d : Nat} {w : Int}, sw_op te ke ve W 1 N k d w = 0 → sw_pd te ke ve W 1 N k d w = 0 ∧ ∀ w', w ≤ w' → w' < w + (d : Int) → (sw_g te ke ve k (w' * (W : Int)) ((w' + ((1 : Nat) : Int)) * (W : Int)) N).1 = 0 := by
  intro d
  induction d with
  | zero => exact fun {w} _ => ⟨rfl, fun w' h1 h2 => absurd h1 (by omega)⟩
  | succ d ih =>
    intro w h
    unfold sw_op at h
    by_cases c : 0 < (sw_g te ke ve k (w * (W : Int)) ((w + ((1 : Nat) : Int)) * (W : Int)) N).1
    · rw [if_pos c] at h
      omega
    · rw [if_neg c] at h
      obtain ⟨t1, t2⟩ := @ih (w + 1) (by omega)
      constructor
      · unfold sw_pd
        rw [if_neg c]
        exact t1
      · intro w' h1 h2
        by_cases e : w' = w
        · rw [e]
          omega
        · exact t2 w' (by omega) (by omega)
theorem sw_op_one : ∀ {d : Nat} {w w0 : Int}, w ≤ w0 → w0 < w + (d : Int) → 0 < (sw_g te ke ve k (w0 * (W : Int)) ((w0 + ((1 : Nat) : Int)) * (W : Int)) N).1 →
    1 ≤ sw_op te ke ve W 1 N k d w ∧ (sw_op te ke ve W 1 N k d w ≤ 1 → sw_pd te ke ve W 1 N k d w = (sw_g te ke ve k (w0 * (W : Int)) ((w0 + ((1 : Nat) : Int)) * (W : Int)) N).2.1 ∧ ∀ w', w ≤ w' → w' < w + (d : Int) → w' ≠ w0 → (sw_g te ke ve k (w' * (W : Int)) ((w' + ((1 : Nat) : Int)) * (W : Int)) N).1 = 0) := by
  intro d
  induction d with
  | zero => exact fun {w w0} h1 h2 _ => absurd h1 (by omega)
  | succ d ih =>
    intro w w0 h1 h2 h3
    unfold sw_op sw_pd
    by_cases c : 0 < (sw_g te ke ve k (w * (W : Int)) ((w + ((1 : Nat) : Int)) * (W : Int)) N).1
    · rw [if_pos c, if_pos c]
      refine ⟨by omega, fun h => ?_⟩
      obtain ⟨t1, t2⟩ := @sw_op_none te ke ve W N k d (w + 1) (by omega)
      by_cases e : w0 = w
      · subst e
        exact ⟨rfl, fun w' g1 g2 g3 => t2 w' (by omega) (by omega)⟩
      · have := t2 w0 (by omega) (by omega)
        omega
    · rw [if_neg c, if_neg c]
      have ne : w0 ≠ w := by
        intro e
        rw [e] at h3
        exact c h3
      obtain ⟨t1, t2⟩ := @ih (w + 1) w0 (by omega) (by omega) h3
      refine ⟨by omega, fun h => ?_⟩
      obtain ⟨t3, t4⟩ := t2 (by omega)
      refine ⟨t3, fun w' g1 g2 g3 => ?_⟩
      by_cases e : w' = w
      · rw [e]
        omega
      · exact t4 w' (by omega) (by omega) g3
theorem sw_op_le {Pn : Nat} : ∀ {d : Nat} {w : Int}, sw_op te ke ve W Pn N k d w ≤ d := by
  intro d
  induction d with
  | zero => exact fun {w} => Nat.le_refl 0
  | succ d ih =>
    intro w
    unfold sw_op
    have := @ih (w + 1)
    by_cases c : 0 < (sw_g te ke ve k (w * (W : Int)) ((w + (Pn : Int)) * (W : Int)) N).1
    · rw [if_pos c]
      omega
    · rw [if_neg c]
      omega
/-- windows as wide as a pane: the last event's is not closed; if it is the only one, its sum is what is wanting -/
theorem sw_finW {n R d : Nat} {M V E : Int} {a19 : Nat → Int32} (hE : sw_E te ke ve) (hW : 0 < W ∧ W ≤ 8) (hM : M ≤ 63) (hd : V + (d : Int) = 64) (ht : te n = 63) (hk0 : ke n = 0) (hI : sw_IW te ke ve W 1 M (n + 1) V R E a19) :
    1 ≤ sw_op te ke ve W 1 (n + 1) 0 d V ∧ (sw_op te ke ve W 1 (n + 1) 0 d V + sw_op te ke ve W 1 (n + 1) 1 d V + sw_op te ke ve W 1 (n + 1) 2 d V + sw_op te ke ve W 1 (n + 1) 3 d V ≤ 1 →
      sw_S 4 a19 R + (((sw_pd te ke ve W 1 (n + 1) 0 d V + sw_pd te ke ve W 1 (n + 1) 1 d V) + sw_pd te ke ve W 1 (n + 1) 2 d V) + sw_pd te ke ve W 1 (n + 1) 3 d V) = sw_sm ve (n + 1)) ∧
      sw_S 3 a19 R = nI (sw_q te ke ve (fun _ => V * (W : Int)) (n + 1)).1 := by
  have hV := sw_IW_V hW.1 hM (by omega) hI
  obtain ⟨h1, h2, h3, h4, h5, h6, h7⟩ := hI
  obtain ⟨s3, s4⟩ := h7 rfl
  have hVM : V * (W : Int) ≤ 63 := by
    rcases h6 with z | z
    · have : V = 0 := by omega
      rw [this]
      omega
    · rw [show V - 1 + ((1 : Nat) : Int) = V by omega] at z
      omega
  -- a time's pane is at V or behind it if the time is
  have pane : ∀ t : Nat, V * (W : Int) ≤ (t : Int) → V ≤ ((t / W : Nat) : Int) := by
    intro t h
    obtain ⟨d1, d2⟩ := @sw_dv t W hW.1
    rcases Int.lt_or_le ((t / W : Nat) : Int) V with z | z
    · have := sw_mm W (show ((t / W : Nat) : Int) + 1 ≤ V by omega)
      omega
    · exact z
  have cnt : ∀ j, j < n + 1 → 0 < (sw_g te ke ve (ke j) (((te j / W : Nat) : Int) * (W : Int)) ((((te j / W : Nat) : Int) + ((1 : Nat) : Int)) * (W : Int)) (n + 1)).1 := by
    intro j hj
    obtain ⟨d1, d2⟩ := @sw_dv (te j) W hW.1
    exact sw_g_pos hj rfl d1 d2
  have lt64 : ∀ t : Nat, t < 64 → t / W < 64 := fun t h => Nat.lt_of_le_of_lt (Nat.div_le_self _ _) h
  have c0 := cnt n (by omega)
  rw [ht, hk0] at c0
  have p0 := pane 63 (by omega)
  have q0 := lt64 63 (by omega)
  obtain ⟨o1, o2⟩ := sw_op_one (d := d) p0 (by omega) c0
  refine ⟨o1, fun hs => ?_, s3⟩
  obtain ⟨o3, o4⟩ := o2 (by omega)
  obtain ⟨u1, u2⟩ := @sw_op_none te ke ve W (n + 1) 1 d V (by omega)
  obtain ⟨v1, v2⟩ := @sw_op_none te ke ve W (n + 1) 2 d V (by omega)
  obtain ⟨w1, w2⟩ := @sw_op_none te ke ve W (n + 1) 3 d V (by omega)
  rw [u1, v1, w1, Int32.add_zero, Int32.add_zero, Int32.add_zero, o3, s4]
  refine sw_tot ?_ (fun j hj => ?_)
  · exact sw_mm W p0
  · rcases Int.lt_or_le (te j : Int) (V * (W : Int)) with z | z
    · exact Or.inl z
    · have pj := pane (te j) z
      have lj := lt64 (te j) (hE.1 j)
      have cj := cnt j hj
      have kj := hE.2.2.1 j
      rcases (show ke j = 0 ∨ ke j = 1 ∨ ke j = 2 ∨ ke j = 3 by omega) with y | y | y | y
      · rw [y] at cj
        by_cases e : ((te j / W : Nat) : Int) = ((63 / W : Nat) : Int)
        · obtain ⟨d1, d2⟩ := @sw_dv (te j) W hW.1
          rw [e] at d1 d2
          exact Or.inr ⟨y, d1, d2⟩
        · have := o4 _ pj (by omega) e
          omega
      · rw [y] at cj
        have := u2 _ pj (by omega)
        omega
      · rw [y] at cj
        have := v2 _ pj (by omega)
        omega
      · rw [y] at cj
        have := w2 _ pj (by omega)
        omega
theorem sw_finS {n R : Nat} {M E : Int} {ns : Nat → Nat} {F L : Nat → Nat → Nat} {C : Nat → Int} {a12 a13 a14 a15 a16 a17 a18 a19 : Nat → Int32} (hE : sw_E te ke ve) (hM : M ≤ 63) (ht : te n = 63) (hk0 : ke n = 0) (hI : sw_IS te ke ve W M (n + 1) R E ns F L C a12 a13 a14 a15 a16 a17 a18 a19) :
    1 ≤ ns 0 ∧ (ns 0 + ns 1 + ns 2 + ns 3 ≤ 1 →
      sw_S 4 a19 R + ((((if ns 0 = 0 then 0 else a16 (32 * 0)) + (if ns 1 = 0 then 0 else a16 (32 * 1))) + (if ns 2 = 0 then 0 else a16 (32 * 2))) + (if ns 3 = 0 then 0 else a16 (32 * 3))) = sw_sm ve (n + 1)) ∧
      sw_S 3 a19 R = nI (sw_q te ke ve C (n + 1)).1 := by
  obtain ⟨h1, h2, ⟨s3, s4⟩, h4, h5, h6, h7, h8⟩ := hI
  have n0 : 1 ≤ ns 0 := by
    rcases h8 0 n (by omega) (by omega) hk0 with z | ⟨i, hi, _⟩
    · have := (h5 0 (by omega)).2
      omega
    · omega
  refine ⟨n0, fun hs => ?_, s3⟩
  rw [if_neg (by omega), if_pos (by omega), if_pos (by omega), if_pos (by omega), Int32.add_zero, Int32.add_zero, Int32.add_zero]
  obtain ⟨g1, g2, g3, g4, g5, g6, g7, g8, _⟩ := h6 0 0 (by omega) (by omega)
  rw [show a16 (32 * 0) = (sw_g te ke ve 0 (F 0 0 : Int) ((L 0 0 : Int) + 1) (n + 1)).2.1 from g8, s4]
  refine sw_tot g4 (fun j hj => ?_)
  have kj := hE.2.2.1 j
  rcases h8 (ke j) j kj hj rfl with z | ⟨i, hi, z1, z2⟩
  · exact Or.inl z
  · have := @sw_le4 ns (ke j) kj
    rcases (show ke j = 0 ∨ ke j = 1 ∨ ke j = 2 ∨ ke j = 3 by omega) with y | y | y | y
    · rw [y] at hi z1 z2
      have ei : i = 0 := by omega
      subst ei
      exact Or.inr ⟨y, by omega, by omega⟩
    · rw [y] at hi
      omega
    · rw [y] at hi
      omega
    · rw [y] at hi
      omega
end
end
section
/-! the law's checks of the results -/
section
variable {kd wd pn lt mk lc nw rc km kl kw kr tc ts tl tm : Int32} {a1 a2 a3 a4 a5 a6 a7 a8 a9 a10 a11 a12 a13 a14 a15 a16 a17 a18 a19 a20 a21 a22 a23 a24 : Nat → Int32}
variable {post : Int32 → St0 → Prop} {mc ms kc ks : Nat}
theorem sw_529 {J335 : Int32 → Int32 → Int32 → Int32 → Prop} {J453 : Int32 → Int32 → Int32 → Int32 → Int32 → Int32 → Prop} {x0 x1 x2 x4 x5 x6 x8 x10 x12 x16 x17 x18 x20 x21 x22 x23 x24 x25 x26 x27 x28 x29 x30 z0 : Int32}
    (Hin : z0 = x23 → ¬ x28 < x21 → ¬ x22 ≤ x28 → J453 (x24 + 1) (x25 + x30) (sw_mn x26 x30) (sw_mx x27 x30) x28 (x29 + 1)) (Hout : ¬ (z0 = x23 ∧ ¬ x28 < x21 ∧ ¬ x22 ≤ x28) → J453 x24 x25 x26 x27 x28 (x29 + 1)) :
    wL_lawOf_529 post mc ms J335 J453 x0 x1 x2 x4 x5 x6 x8 x10 x12 x16 x17 x18 x20 x21 x22 x23 x24 x25 x26 x27 x28 x29 x30 z0 kc ks kd wd pn lt mk lc nw rc km kl kw kr tc ts tl tm a1 a2 a3 a4 a5 a6 a7 a8 a9 a10 a11 a12 a13 a14 a15 a16 a17 a18 a19 a20 a21 a22 a23 a24 := by
  refine br_c (fun c1 => br_c (fun c2 => nm_e (Hout (fun t => t.2.1 c2))) (fun c2 => br_c (fun c3 => nm_e (Hout (fun t => t.2.2 c3))) (fun c3 => nm_e (nm_e ?_)))) (fun c1 => nm_e (Hout (fun t => c1 t.1)))
  have H := Hin c1 c2 c3
  unfold sw_mn sw_mx at H
  by_cases d1 : x26 ≤ x30
  · rw [if_pos d1] at H
    refine br_t d1 ?_
    by_cases d2 : x30 ≤ x27
    · rw [if_pos d2] at H
      exact br_t d2 (nm_e H)
    · rw [if_neg d2] at H
      exact br_f d2 (nm_e H)
  · rw [if_neg d1] at H
    refine br_f d1 ?_
    by_cases d2 : x30 ≤ x27
    · rw [if_pos d2] at H
      exact br_t d2 (nm_e H)
    · rw [if_neg d2] at H
      exact br_f d2 (nm_e H)
theorem sw_453 {J335 : Int32 → Int32 → Int32 → Int32 → Prop} {x y z x4 x5 x6 x8 x12 x16 x17 x18 : Int32} {n i k R : Nat} {s e : Int} (hn : n ≤ 8) (hi : i < R) (hR : R ≤ 300) (hs : -100 ≤ s) (he : e ≤ 64) (hse : s < e) (hk : k < 4)
    (hp : 0 < (sw_g (sw_te x n) (sw_ke y n) (sw_ve z n) k s e (n + 1)).1) (r3 : a19 (7 * i + 3) = nI (sw_g (sw_te x n) (sw_ke y n) (sw_ve z n) k s e (n + 1)).1) (r4 : a19 (7 * i + 4) = (sw_g (sw_te x n) (sw_ke y n) (sw_ve z n) k s e (n + 1)).2.1) (r5 : a19 (7 * i + 5) = (sw_g (sw_te x n) (sw_ke y n) (sw_ve z n) k s e (n + 1)).2.2.1) (r6 : a19 (7 * i + 6) = (sw_g (sw_te x n) (sw_ke y n) (sw_ve z n) k s e (n + 1)).2.2.2)
    (H : J335 (x17 + (sw_g (sw_te x n) (sw_ke y n) (sw_ve z n) k s e (n + 1)).2.1) (x18 + nI (sw_g (sw_te x n) (sw_ke y n) (sw_ve z n) k s e (n + 1)).1) (sw_z e) (nI (i + 1))) :
    ∀ (d j : Nat) (x28 : Int32), j + d = n + 1 → (j ≤ n → x28 = nI (sw_tp x j)) →
      wL_lawOf_453 post mc ms J335 x y z x4 x5 x6 x8 (nI n) x12 x16 x17 x18 (nI i) (sw_z s) (sw_z e) (nI k) kc ks kd wd pn lt mk lc nw (nI R) km kl kw kr tc ts tl tm a1 a2 a3 a4 a5 a6 a7 a8 a9 a10 a11 a12 a13 a14 a15 a16 a17 a18 a19 a20 a21 a22 a23 a24 (d + 1) (nI (sw_g (sw_te x n) (sw_ke y n) (sw_ve z n) k s e j).1) (sw_g (sw_te x n) (sw_ke y n) (sw_ve z n) k s e j).2.1 (sw_g (sw_te x n) (sw_ke y n) (sw_ve z n) k s e j).2.2.1 (sw_g (sw_te x n) (sw_ke y n) (sw_ve z n) k s e j).2.2.2 x28 (nI j) := by
  intro d
  induction d with
  | zero =>
    intro j x28 hj _
    have ej : j = n + 1 := by omega
    subst ej
    have hle : (sw_g (sw_te x n) (sw_ke y n) (sw_ve z n) k s e (n + 1)).1 ≤ n + 1 := sw_ag_le
    refine pk_lt n (n + 1) (fun _ => ?_) (fun z => absurd z (by omega))
    refine br_f (nI_nlt (a := (sw_g (sw_te x n) (sw_ke y n) (sw_ve z n) k s e (n + 1)).1) (b := 1) hp (by omega)) ?_
    refine sw_result rfl (w := 3) rfl hi (by omega) hR (br_t r3 ?_)
    refine sw_result rfl (w := 4) rfl hi (by omega) hR (br_t r4 ?_)
    refine sw_result rfl (w := 5) rfl hi (by omega) hR (br_t r5 ?_)
    refine sw_result rfl (w := 6) rfl hi (by omega) hR (br_t r6 ?_)
    exact nm_e (nm_e (nm_r (nI_1 i) H))
  | succ d ih =>
    intro j x28 hj hx
    have e28 := hx (by omega)
    subst e28
    have hEv := @sw_Ev x y z n hn
    have ht := hEv.1 j
    have hkj := hEv.2.2.1 j
    have tpl := sw_tp_le x j
    -- one more event
    have stp : ∀ (t k' v : Int32), t = nI (sw_te x n j) → k' = nI (sw_ke y n j) → v = sw_ve z n j →
        wL_lawOf_529 post mc ms J335 (wL_lawOf_453 post mc ms J335 x y z x4 x5 x6 x8 (nI n) x12 x16 x17 x18 (nI i) (sw_z s) (sw_z e) (nI k) kc ks kd wd pn lt mk lc nw (nI R) km kl kw kr tc ts tl tm a1 a2 a3 a4 a5 a6 a7 a8 a9 a10 a11 a12 a13 a14 a15 a16 a17 a18 a19 a20 a21 a22 a23 a24 (d + 1)) x y z x4 x5 x6 x8 (nI n) x12 x16 x17 x18 (nI i) (sw_z s) (sw_z e) (nI k) (nI (sw_g (sw_te x n) (sw_ke y n) (sw_ve z n) k s e j).1) (sw_g (sw_te x n) (sw_ke y n) (sw_ve z n) k s e j).2.1 (sw_g (sw_te x n) (sw_ke y n) (sw_ve z n) k s e j).2.2.1 (sw_g (sw_te x n) (sw_ke y n) (sw_ve z n) k s e j).2.2.2 t (nI j) v k' kc ks kd wd pn lt mk lc nw (nI R) km kl kw kr tc ts tl tm a1 a2 a3 a4 a5 a6 a7 a8 a9 a10 a11 a12 a13 a14 a15 a16 a17 a18 a19 a20 a21 a22 a23 a24 := by
      intro t k' v et ek ev
      subst et ek ev
      have nx : j + 1 ≤ n → nI (sw_te x n j) = nI (sw_tp x (j + 1)) := by
        intro c
        unfold sw_te
        rw [if_pos (by omega)]
      have tt := ih (j + 1) (nI (sw_te x n j)) (by omega) nx
      refine sw_529 (fun c1 c2 c3 => ?_) (fun c => ?_)
      · rw [nI_eq (by omega) (by omega)] at c1
        rw [sw_zn, sw_lt (by omega) (by omega)] at c2
        rw [sw_zn, sw_le (by omega) (by omega)] at c3
        rw [sw_g_s1 c1 (by omega) (by omega)] at tt
        rw [nI_1, nI_1]
        exact tt
      · have ne : ¬ (sw_ke y n j = k ∧ s ≤ (sw_te x n j : Int) ∧ (sw_te x n j : Int) < e) := by
          intro g
          apply c
          rw [nI_eq (by omega) (by omega), sw_zn, sw_lt (by omega) (by omega), sw_le (by omega) (by omega)]
          omega
        rw [sw_g_s0 ne] at tt
        rw [nI_1]
        exact tt
    refine pk_lt n j (fun z => absurd z (by omega)) (fun _ => ?_)
    refine pk_eq j n (fun c => ?_) (fun c => ?_)
    · refine pk_eq j n (fun _ => ?_) (fun c2 => absurd c c2)
      refine pk_eq j n (fun _ => ?_) (fun c2 => absurd c c2)
      refine stp _ _ _ ?_ ?_ ?_
      · unfold sw_te
        rw [if_neg (by omega)]
        rfl
      · unfold sw_ke
        rw [if_neg (by omega)]
        rfl
      · unfold sw_ve
        rw [if_neg (by omega)]
    · refine pk_eq j n (fun c2 => absurd c2 c) (fun _ => ?_)
      refine pk_eq j n (fun c2 => absurd c2 c) (fun _ => ?_)
      refine stp _ _ _ ?_ ?_ ?_
      · unfold sw_te
        rw [if_pos (by omega), (sw_dnE x j).1, nI_add]
        rfl
      · unfold sw_ke
        rw [if_pos (by omega)]
        exact (sw_knE y j).1
      · unfold sw_ve
        rw [if_pos (by omega)]
        rfl
theorem sw_rem0 {w : Int} {W : Nat} (hW : 0 < W ∧ W ≤ 8) (hw : -1000 ≤ w ∧ w ≤ 1000) : sw_z (w * (W : Int)) - sw_z (w * (W : Int)) / nI W * nI W = 0 := by
  have m1 := sw_mm W hw.1
  have m2 := sw_mm W hw.2
  have e : sw_z (w * (W : Int)) / nI W = sw_z w := by
    rw [sw_zn]
    have t := Int32.ofInt_tdiv (a := w * (W : Int)) (b := (W : Int)) (by rw [show Int32.minValue.toInt = -2147483648 from by decide]; omega) (by rw [show Int32.maxValue.toInt = 2147483647 from by decide]; omega) (by rw [show Int32.minValue.toInt = -2147483648 from by decide]; omega) (by rw [show Int32.maxValue.toInt = 2147483647 from by decide]; omega)
    rw [Int.mul_tdiv_cancel w (show (W : Int) ≠ 0 by omega)] at t
    exact t.symm
  rw [e, sw_zn, sw_mul, sw_sub, Int.sub_self]
  rfl
theorem sw_335 {X : Int → Int → Prop} {x y z x6 x8 x12 : Int32} {n K W Pn R : Nat} {M E : Int} (hn : n ≤ 8) (hR : R ≤ 300) (hK : K ≤ 2) (hW : 0 < W ∧ W ≤ 8) (hP : 0 < Pn ∧ Pn ≤ 4) (hM : M ≤ 63) (hEM : E ≤ M) (hM2 : 0 ≤ M) (h8 : K < 2 → x8 = nI (Pn * W)) (hXW : K < 2 → ∀ s e, X s e → sw_XW W Pn s e) (hXS : K = 2 → ∀ s e, X s e → s + (W : Int) ≤ e)
    (hRS : sw_RS (sw_te x n) (sw_ke y n) (sw_ve z n) X (n + 1) R E a19)
    (H : ∀ (f : Nat) (x19 : Int32), wL_lawOf_335 post mc ms x y z (nI K) (nI W) x6 x8 (nI n) x12 (sw_z M) kc ks kd wd pn lt mk lc nw (nI R) km kl kw kr tc ts tl tm a1 a2 a3 a4 a5 a6 a7 a8 a9 a10 a11 a12 a13 a14 a15 a16 a17 a18 a19 a20 a21 a22 a23 a24 (f + 1) (sw_S 4 a19 R) (sw_S 3 a19 R) x19 (nI R)) :
    ∀ (d i : Nat) (x19 : Int32), i + d = R → (i = 0 → x19 = -1000) → (∀ i', i = i' + 1 → x19 = a19 (7 * i' + 2)) →
      wL_lawOf_335 post mc ms x y z (nI K) (nI W) x6 x8 (nI n) x12 (sw_z M) kc ks kd wd pn lt mk lc nw (nI R) km kl kw kr tc ts tl tm a1 a2 a3 a4 a5 a6 a7 a8 a9 a10 a11 a12 a13 a14 a15 a16 a17 a18 a19 a20 a21 a22 a23 a24 (d + 1) (sw_S 4 a19 i) (sw_S 3 a19 i) x19 (nI i) := by
  intro d
  induction d with
  | zero =>
    intro i x19 hi _ _
    have ei : i = R := by omega
    subst ei
    exact H 0 x19
  | succ d ih =>
    intro i x19 hi h19 h19'
    obtain ⟨k, s, e, g1, g2, g3, g4, g5, g6, g7, g8, g9, g10, g11, g12, g13⟩ := hRS.1 i (by omega)
    have tt := ih (i + 1) (sw_z e) (by omega) (fun c => absurd c (by omega)) (fun i' hi' => by
      have : i' = i := by omega
      subst this
      exact g4.symm)
    have t431 : wL_lawOf_431 post mc ms (wL_lawOf_335 post mc ms x y z (nI K) (nI W) x6 x8 (nI n) x12 (sw_z M) kc ks kd wd pn lt mk lc nw (nI R) km kl kw kr tc ts tl tm a1 a2 a3 a4 a5 a6 a7 a8 a9 a10 a11 a12 a13 a14 a15 a16 a17 a18 a19 a20 a21 a22 a23 a24 (d + 1)) x y z (nI K) (nI W) x6 x8 (nI n) x12 (sw_z M) (sw_S 4 a19 i) (sw_S 3 a19 i) (nI i) (sw_z s) (sw_z e) (nI k) kc ks kd wd pn lt mk lc nw (nI R) km kl kw kr tc ts tl tm a1 a2 a3 a4 a5 a6 a7 a8 a9 a10 a11 a12 a13 a14 a15 a16 a17 a18 a19 a20 a21 a22 a23 a24 :=
      ⟨n + 2, sw_453 hn (show i < R by omega) hR g5 (by have := hRS.2.2; omega) g6 g1 g9 g10 g11 g12 g13 (by
        rw [← g10, ← g11]
        exact tt) (n + 1) 0 0 (by omega) (fun _ => rfl)⟩
    have t413 : wL_lawOf_413 post mc ms (wL_lawOf_335 post mc ms x y z (nI K) (nI W) x6 x8 (nI n) x12 (sw_z M) kc ks kd wd pn lt mk lc nw (nI R) km kl kw kr tc ts tl tm a1 a2 a3 a4 a5 a6 a7 a8 a9 a10 a11 a12 a13 a14 a15 a16 a17 a18 a19 a20 a21 a22 a23 a24 (d + 1)) x y z (nI K) (nI W) x6 x8 (nI n) x12 (sw_z M) (sw_S 4 a19 i) (sw_S 3 a19 i) (nI i) (sw_z s) (sw_z e) (nI k) kc ks kd wd pn lt mk lc nw (nI R) km kl kw kr tc ts tl tm a1 a2 a3 a4 a5 a6 a7 a8 a9 a10 a11 a12 a13 a14 a15 a16 a17 a18 a19 a20 a21 a22 a23 a24 :=
      pk_eq K 2 (fun c => sw_ble (s + (W : Int)) e (by rw [sw_zn, sw_add]) rfl (fun _ => t431) (fun c2 => absurd (hXS c s e g8) (by omega))) (fun _ => t431)
    refine pk_le R i (fun c => absurd c (by omega)) (fun _ => ?_)
    refine sw_result rfl (w := 1) rfl (show i < R by omega) (by omega) hR ?_
    refine sw_result rfl (w := 2) rfl (show i < R by omega) (by omega) hR ?_
    refine sw_result rfl (w := 0) rfl (show i < R by omega) (by omega) hR ?_
    rw [g3, g4, show a19 (7 * i + 0) = nI k from g2]
    have hlt : ¬ sw_z e < x19 := by
      rw [Int32.lt_iff_toInt_lt, sw_ti (by omega)]
      rcases Nat.eq_zero_or_pos i with c | c
      · rw [h19 c, show (-1000 : Int32).toInt = -1000 from by decide]
        omega
      · obtain ⟨i', hi'⟩ : ∃ i', i = i' + 1 := ⟨i - 1, by omega⟩
        subst hi'
        have mo := hRS.2.1 i' (by omega)
        rw [g4, sw_ti (by omega)] at mo
        rw [h19' i' rfl]
        omega
    refine br_f hlt ?_
    refine sw_blt M e rfl rfl (fun c => absurd c (by omega)) (fun _ => ?_)
    refine pk_le 2 K (fun _ => t413) (fun c => ?_)
    obtain ⟨w, hw1, hw2⟩ := hXW c s e g8
    have e8 : sw_z e = sw_z s + x8 := by
      rw [h8 c, sw_zn, sw_add, Int.natCast_mul, hw1, hw2, Int.add_mul]
    have hw3 : -1000 ≤ w ∧ w ≤ 1000 := by
      constructor
      · rcases Int.lt_or_le w (-1000) with c2 | c2
        · have := sw_mm W (show w ≤ -1000 by omega)
          omega
        · exact c2
      · rcases Int.lt_or_le 1000 w with c2 | c2
        · have := sw_mm W (show 1000 ≤ w by omega)
          omega
        · exact c2
    exact br_t e8 ⟨nI_ne0 hW.1 (by omega), br_t (by rw [hw1]; exact sw_rem0 hW hw3) t413⟩
theorem sw_335e {x y z x5 x6 x8 x12 x16 x17 x18 x19 : Int32} {n K R f c18 : Nat} {op : Nat → Nat} {pd : Nat → Int32}
    (HO : ∀ (ψ : Int32 → St2 → Prop) (k : Nat) (tc ts tl tm : Int32), k < 4 → (∀ tc ts tl tm : Int32, ψ (nI (op k)) (kd, wd, pn, lt, mk, lc, nw, (nI R), km, kl, kw, kr, tc, ts, tl, tm, a1, a2, a3, a4, a5, a6, a7, a8, a9, a10, a11, a12, a13, a14, a15, a16, a17, a18, a19, a20, a21, a22, a23, a24)) → wpX_open ψ (kd, wd, pn, lt, mk, lc, nw, (nI R), km, kl, kw, kr, tc, ts, tl, tm, a1, a2, a3, a4, a5, a6, a7, a8, a9, a10, a11, a12, a13, a14, a15, a16, a17, a18, a19, a20, a21, a22, a23, a24) (nI k))
    (HP : ∀ (ψ : Int32 → St2 → Prop) (k : Nat) (tc ts tl tm : Int32), k < 4 → (∀ tc ts tl tm : Int32, ψ (pd k) (kd, wd, pn, lt, mk, lc, nw, (nI R), km, kl, kw, kr, tc, ts, tl, tm, a1, a2, a3, a4, a5, a6, a7, a8, a9, a10, a11, a12, a13, a14, a15, a16, a17, a18, a19, a20, a21, a22, a23, a24)) → wpX_pending ψ (kd, wd, pn, lt, mk, lc, nw, (nI R), km, kl, kw, kr, tc, ts, tl, tm, a1, a2, a3, a4, a5, a6, a7, a8, a9, a10, a11, a12, a13, a14, a15, a16, a17, a18, a19, a20, a21, a22, a23, a24) (nI k))
    (hR : R ≤ 300) (hK : K ≤ 2) (hn : n ≤ 8) (hop : ∀ k, k < 4 → op k ≤ 100) (h18 : K ≠ 1 → x18 = nI c18 ∧ c18 ≤ n + 1) (h0 : K ≠ 1 → 1 ≤ op 0) (h1 : K = 1 → x6 = 1 → 1 ≤ op 0) (h3 : K ≠ 1 → op 0 + op 1 + op 2 + op 3 ≤ 1 → x17 + (((pd 0 + pd 1) + pd 2) + pd 3) = x12)
    (H : ∀ tc ts tl tm : Int32, wL_lawOf_816 post mc ms (nI K) x8 (nI n) x16 kc ks kd wd pn lt mk lc nw (nI R) km kl kw kr tc ts tl tm a1 a2 a3 a4 a5 a6 a7 a8 a9 a10 a11 a12 a13 a14 a15 a16 a17 a18 a19 a20 a21 a22 a23 a24) :
    wL_lawOf_335 post mc ms x y z (nI K) x5 x6 x8 (nI n) x12 x16 kc ks kd wd pn lt mk lc nw (nI R) km kl kw kr tc ts tl tm a1 a2 a3 a4 a5 a6 a7 a8 a9 a10 a11 a12 a13 a14 a15 a16 a17 a18 a19 a20 a21 a22 a23 a24 (f + 1) x17 x18 x19 (nI R) := by
  have o0 := hop 0 (by omega)
  have o1 := hop 1 (by omega)
  have o2 := hop 2 (by omega)
  have o3 := hop 3 (by omega)
  refine pk_le R R (fun _ => ?_) (fun c => absurd c (by omega))
  refine HO _ 0 tc ts tl tm (by omega) (fun tc ts tl tm => ?_)
  refine HO _ 1 tc ts tl tm (by omega) (fun tc ts tl tm => ?_)
  refine HO _ 2 tc ts tl tm (by omega) (fun tc ts tl tm => ?_)
  refine HO _ 3 tc ts tl tm (by omega) (fun tc ts tl tm => ?_)
  refine nm_r (e' := nI (op 0 + op 1 + op 2 + op 3)) (by rw [nI_add, nI_add, nI_add]) ?_
  refine HP _ 0 tc ts tl tm (by omega) (fun tc ts tl tm => ?_)
  refine HP _ 1 tc ts tl tm (by omega) (fun tc ts tl tm => ?_)
  refine HP _ 2 tc ts tl tm (by omega) (fun tc ts tl tm => ?_)
  refine HP _ 3 tc ts tl tm (by omega) (fun tc ts tl tm => ?_)
  refine nm_e ?_
  refine pk_eq K 1 (fun c => ?_) (fun c => ?_)
  · refine pk_eq K 1 (fun _ => ?_) (fun c2 => absurd c c2)
    by_cases c6 : x6 = 1
    · refine br_t c6 (pk_eq (op 0 + op 1 + op 2 + op 3) 0 (fun c2 => ?_) (fun _ => H tc ts tl tm))
      have := h1 c c6
      omega
    · exact br_f c6 (H tc ts tl tm)
  · obtain ⟨e18, b18⟩ := h18 c
    have b0 := h0 c
    have t790 : wL_lawOf_790 post mc ms (nI K) x6 x8 (nI n) x12 (nI (op 0 + op 1 + op 2 + op 3)) x16 x17 kc ks kd wd pn lt mk lc nw (nI R) km kl kw kr tc ts tl tm a1 a2 a3 a4 a5 a6 a7 a8 a9 a10 a11 a12 a13 a14 a15 a16 a17 a18 a19 a20 a21 a22 a23 a24 := pk_eq K 1 (fun c2 => absurd c2 c) (fun _ => H tc ts tl tm)
    refine pk_lt (n + 1) c18 (fun c2 => absurd c2 (by omega)) (fun _ => ?_) (nI_1 n) e18
    refine pk_eq (op 0 + op 1 + op 2 + op 3) 0 (fun c2 => absurd c2 (by omega)) (fun _ => ?_)
    refine pk_lt 1 (op 0 + op 1 + op 2 + op 3) (fun _ => t790) (fun c2 => ?_)
    exact br_t (h3 c c2) t790
end
end
section
/-! the law's end: keeping and crashing -/
section
variable {kd wd pn lt mk lc nw rc km kl kw kr tc ts tl tm : Int32} {a1 a2 a3 a4 a5 a6 a7 a8 a9 a10 a11 a12 a13 a14 a15 a16 a17 a18 a19 a20 a21 a22 a23 a24 : Nat → Int32}
theorem sw_results {post : Int32 → Prop} (H : post rc) : wpX_results post (kd, wd, pn, lt, mk, lc, nw, rc, km, kl, kw, kr, tc, ts, tl, tm, a1, a2, a3, a4, a5, a6, a7, a8, a9, a10, a11, a12, a13, a14, a15, a16, a17, a18, a19, a20, a21, a22, a23, a24) := H
theorem sw_position {post : Int32 → Prop} {x : Int32} (hx : x = nI 0) (H : post (a5 0)) : wpX_position post (kd, wd, pn, lt, mk, lc, nw, rc, km, kl, kw, kr, tc, ts, tl, tm, a1, a2, a3, a4, a5, a6, a7, a8, a9, a10, a11, a12, a13, a14, a15, a16, a17, a18, a19, a20, a21, a22, a23, a24) x := by
  subst hx
  unfold wpX_position
  refine sw_isSrc (s := 0) rfl (by omega) (br_f (by decide) ⟨pk_in 0 3 (by omega), ?_⟩)
  rw [nI_clamp (by omega)]
  exact H
variable {post : Int32 → St0 → Prop} {mc ms kc ks : Nat}
theorem sw_880 {n K W Pn Lt R : Nat} {M V : Int} {ns h : Nat → Nat} (hpost : post 1 ()) (hn : n ≤ 8) (hR : R ≤ 300) (hK : K ≤ 2) (hW : 0 < W ∧ W ≤ 8) (hP : 0 < Pn ∧ Pn ≤ 4) (hLt : Lt ≤ 20) (hM : M = 63 - (Lt : Int))
    (hA : K < 2 → -3 ≤ V ∧ V ≤ 63 ∧ M < (V + (Pn : Int)) * (W : Int)) (hB : K = 2 → sw_LS W M ns h (fun j => a24 (768 + j)) (fun j => a24 (6 * j)) (fun j => a24 (6 * j + 1)))
    (h1 : a1 0 = nI (n + 2)) (h2 : a2 (n + 1) = nI 5) (h3 : a3 (n + 1) = nI 0) (h20 : a20 0 = nI (n + 1)) (h21 : a21 0 = nI 63) (h22 : a22 0 = 0 ∧ a22 1 = 1 ∧ a22 2 = 1) :
    wL_lawOf_880 post mc ms (nI n) (sw_dg a19 R) (nI R) kc ks (nI K) (nI W) (nI Pn) (nI Lt) mk lc nw (nI R) (sw_z M) 0 (sw_z V) (nI R) tc ts tl tm a1 a2 a3 a4 a5 a6 a7 a8 a9 a10 a11 a12 a13 a14 a15 a16 a17 a18 a19 a20 a21 a22 a23 a24 := by
  refine sw_digest hR (br_t rfl ?_)
  refine br_t rfl ?_
  refine br_t rfl ?_
  refine sw_crash (fun b5 b6 b7 b8 b9 b10 b11 b12 b13 b14 b15 b16 b17 b18 c1 c2 c3 => ?_)
  refine br_t rfl ?_
  refine br_t rfl ?_
  have e5 : b5 0 = nI (n + 1) := (c1 0 (by omega)).1.trans h20
  have e6 : b6 0 = nI 63 := (c1 0 (by omega)).2.1.trans h21
  have e7 : b7 0 = 0 ∧ ¬ b7 1 = 0 ∧ ¬ b7 2 = 0 := by
    rw [(c1 0 (by omega)).2.2, (c1 1 (by omega)).2.2, (c1 2 (by omega)).2.2, h22.1, h22.2.1, h22.2.2]
    decide
  refine sw_position rfl (br_t ?_ ?_)
  · rw [e5, nI_1]
  · refine sw_readL (x := 0) (N := n + 1) (K := K) (W := W) (Pn := Pn) (Lt := Lt) (M := M) (V := V) (ns := ns) (h := h) rfl hK hW hP hLt (by omega) h1 e5 h2 h3 e6 e7 hM hA (fun z => sw_LS_c (hB z) c3 (fun j hj => c2 j hj)) (fun lc' d8 d9 d10 d11 d13 d15 d16 d17 d18 _ => ?_)
    refine br_t rfl ?_
    exact sw_resultN hR (br_t rfl hpost)
theorem sw_816 {n K W Pn Lt R : Nat} {M V : Int} {ns h : Nat → Nat} {x8 : Int32} (hpost : post 1 ()) (hn : n ≤ 8) (hR : R ≤ 300) (hK : K ≤ 2) (hW : 0 < W ∧ W ≤ 8) (hP : 0 < Pn ∧ Pn ≤ 4) (hLt : Lt ≤ 20) (hM : M = 63 - (Lt : Int)) (h8 : x8 = nI (Pn * W))
    (hA : K < 2 → -3 ≤ V ∧ V ≤ 63 ∧ M < (V + (Pn : Int)) * (W : Int)) (hB : K = 2 → sw_LS W M ns h a12 a13 a14)
    (h1 : a1 0 = nI (n + 1)) (h5 : a5 0 = nI (n + 1)) (h6 : a6 0 = nI 63) (h7 : a7 0 = 0 ∧ a7 1 = 1 ∧ a7 2 = 1) :
    wL_lawOf_816 post mc ms (nI K) x8 (nI n) (sw_z M) kc ks (nI K) (nI W) (nI Pn) (nI Lt) (sw_z M) 0 (sw_z V) (nI R) km kl kw kr tc ts tl tm a1 a2 a3 a4 a5 a6 a7 a8 a9 a10 a11 a12 a13 a14 a15 a16 a17 a18 a19 a20 a21 a22 a23 a24 := by
  subst h8
  refine sw_digest hR ?_
  refine sw_results ?_
  refine sw_keep (fun b20 b21 b22 b23 b24 c1 c2 c3 => ?_)
  have h7' : a7 0 = 0 ∧ ¬ a7 1 = 0 ∧ ¬ a7 2 = 0 := ⟨h7.1, by rw [h7.2.1]; decide, by rw [h7.2.2]; decide⟩
  refine sw_arrive (k := 0) (t := 5) (N := n + 1) rfl (by omega) (by omega) ⟨by decide, by decide⟩ h1 (by omega) ?_
  refine br_f (nI_pos (by omega)) ?_
  refine sw_readL (x := 0) (N := n + 1) (K := K) (W := W) (Pn := Pn) (Lt := Lt) (M := M) (V := V) (ns := ns) (h := h) rfl hK hW hP hLt (by omega) pk_us h5 pk_us pk_us h6 h7' hM hA hB (fun lc' d8 d9 d10 d11 d13 d15 d16 d17 d18 hl => ?_)
  refine br_t rfl ?_
  have t880 : wL_lawOf_880 post mc ms (nI n) (sw_dg a19 R) (nI R) kc ks (nI K) (nI W) (nI Pn) (nI Lt) (sw_z M) lc' (sw_z V) (nI R) (sw_z M) 0 (sw_z V) (nI R) tc ts tl tm (upd a1 0 (nI (n + 1 + 1))) (upd a2 (n + 1) (nI 5)) (upd a3 (n + 1) (nI 0)) (upd a4 (n + 1) 9) (upd a5 0 (nI (n + 1 + 1))) a6 a7 d8 d9 d10 d11 a12 d13 a14 d15 d16 d17 d18 a19 b20 b21 b22 b23 b24 :=
    sw_880 (ns := ns) (h := h) hpost hn hR hK hW hP hLt hM hA (fun z => sw_LS_c (hB z) c3 c2) pk_us pk_us pk_us ((c1 0 (by omega)).1.trans h5) ((c1 0 (by omega)).2.1.trans h6) (by
      rw [(c1 0 (by omega)).2.2, (c1 1 (by omega)).2.2, (c1 2 (by omega)).2.2, h7.1, h7.2.1, h7.2.2]
      decide)
  have ew : Pn * W ≤ 32 := Nat.mul_le_mul hP.2 hW.2
  refine sw_blt M (5 + ((Pn * W : Nat) : Int)) rfl (by rw [sw_zn]; exact sw_add 5 _) (fun _ => t880) (fun c => ?_)
  refine pk_le 2 K (fun _ => t880) (fun c2 => ?_)
  refine br_t ?_ t880
  rw [hl c2 ?_]
  · decide
  · obtain ⟨d1, d2⟩ := @sw_dv 5 W hW.1
    rw [Int.add_mul]
    rw [Int.natCast_mul] at c
    omega
end
end
section
/-! the law -/
section
variable {kd wd pn lt mk lc nw rc km kl kw kr tc ts tl tm : Int32} {a1 a2 a3 a4 a5 a6 a7 a8 a9 a10 a11 a12 a13 a14 a15 a16 a17 a18 a19 a20 a21 a22 a23 a24 : Nat → Int32}
variable {post : Int32 → St0 → Prop} {mc ms kc ks : Nat}
theorem sw_sm_c {v w : Nat → Int32} : ∀ {n : Nat}, (∀ j, j < n → v j = w j) → sw_sm v n = sw_sm w n := by
  intro n
  induction n with
  | zero => intro _; rfl
  | succ n ih =>
    intro h
    show sw_sm v n + v n = sw_sm w n + w n
    rw [ih (fun j hj => h j (by omega)), h n (by omega)]
/-- all events are read: the results are looked at -/
theorem sw_law335 {x y z : Int32} {n K W Mn Pn Lt : Nat} (hpost : post 1 ()) (hn : n ≤ 8) (hK : K ≤ 2) (hW : 0 < W ∧ W ≤ 8) (hP : 0 < Pn ∧ Pn ≤ 4) (hPn : Pn = if K = 1 then Mn else 1) (hMn : Mn ≤ 4) (hLt : Lt ≤ 20)
    (hI : sw_INV (sw_te x n) (sw_ke y n) (sw_ve z n) K W Pn Lt (n + 1) kd wd pn lt mk lc nw rc km kl kw kr tc ts tl tm a1 a2 a3 a4 a5 a6 a7 a8 a9 a10 a11 a12 a13 a14 a15 a16 a17 a18 a19 a20 a21 a22 a23 a24) :
    ∃ f, wL_lawOf_335 post mc ms x y z (nI K) (nI W) (nI Mn) (nI (Pn * W)) (nI n) (sw_sm (sw_ve z n) n) (sw_z (63 - (Lt : Int))) kc ks kd wd pn lt mk lc nw rc km kl kw kr tc ts tl tm a1 a2 a3 a4 a5 a6 a7 a8 a9 a10 a11 a12 a13 a14 a15 a16 a17 a18 a19 a20 a21 a22 a23 a24 f 0 0 (-1000) 0 := by
  obtain ⟨R, M, V, e1, e2, e3, e4, e5, e6, e7, e8, eR, f1, f5, g0, g1, h7, hA, hB⟩ := hI
  subst e1 e2 e3 e4 e5 e6 e7 e8
  have hEv := @sw_Ev x y z n hn
  have t63 : sw_te x n n = 63 := if_neg (by omega)
  have k0 : sw_ke y n n = 0 := if_neg (by omega)
  have v0 : sw_ve z n n = 0 := if_neg (by omega)
  obtain ⟨eM, e6⟩ := g1 n rfl
  rw [t63] at eM e6
  have hM : M = 63 - (Lt : Int) := eM
  have esm : sw_sm (sw_ve z n) (n + 1) = sw_sm (sw_ve z n) n := by
    show sw_sm (sw_ve z n) n + sw_ve z n n = _
    rw [v0, Int32.add_zero]
  rw [← hM]
  rcases (show K < 2 ∨ K = 2 by omega) with hK2 | hK2
  · obtain ⟨i1, E, i2, i3⟩ := hA hK2
    have hV := sw_IW_V hW.1 (by omega) hP.1 i2
    have i2' := i2
    obtain ⟨r1, r2, r3, r4, r5, r6, r7⟩ := i2'
    obtain ⟨d, hd⟩ : ∃ d : Nat, V + (d : Int) = 64 := ⟨(64 - V).toNat, by omega⟩
    have fin : Pn = 1 → 1 ≤ sw_op (sw_te x n) (sw_ke y n) (sw_ve z n) W Pn (n + 1) 0 d V ∧ (sw_op (sw_te x n) (sw_ke y n) (sw_ve z n) W Pn (n + 1) 0 d V + sw_op (sw_te x n) (sw_ke y n) (sw_ve z n) W Pn (n + 1) 1 d V + sw_op (sw_te x n) (sw_ke y n) (sw_ve z n) W Pn (n + 1) 2 d V + sw_op (sw_te x n) (sw_ke y n) (sw_ve z n) W Pn (n + 1) 3 d V ≤ 1 →
      sw_S 4 a19 R + (((sw_pd (sw_te x n) (sw_ke y n) (sw_ve z n) W Pn (n + 1) 0 d V + sw_pd (sw_te x n) (sw_ke y n) (sw_ve z n) W Pn (n + 1) 1 d V) + sw_pd (sw_te x n) (sw_ke y n) (sw_ve z n) W Pn (n + 1) 2 d V) + sw_pd (sw_te x n) (sw_ke y n) (sw_ve z n) W Pn (n + 1) 3 d V) = sw_sm (sw_ve z n) (n + 1)) ∧
      sw_S 3 a19 R = nI (sw_q (sw_te x n) (sw_ke y n) (sw_ve z n) (fun _ => V * (W : Int)) (n + 1)).1 := by
      intro c
      subst c
      exact sw_finW hEv hW (by omega) hd t63 k0 i2
    have p1 : K ≠ 1 → Pn = 1 := fun c => by rw [hPn, if_neg c]
    refine ⟨_, sw_335 (X := sw_XW W Pn) hn eR hK hW hP (by omega) r2 (by omega) (fun _ => rfl) (fun _ s e t => t) (fun c => absurd c (by omega)) r1 (fun f x19 => ?_) R 0 (-1000) (by omega) (fun _ => rfl) (fun i' c => absurd c (by omega))⟩
    refine sw_335e (op := fun k => sw_op (sw_te x n) (sw_ke y n) (sw_ve z n) W Pn (n + 1) k d V) (pd := fun k => sw_pd (sw_te x n) (sw_ke y n) (sw_ve z n) W Pn (n + 1) k d V) (c18 := (sw_q (sw_te x n) (sw_ke y n) (sw_ve z n) (fun _ => V * (W : Int)) (n + 1)).1)
      (fun ψ k tc ts tl tm hk Hψ => sw_openW rfl hK2 hEv (by omega) hW hP i1 hk hd (by omega) Hψ) (fun ψ k tc ts tl tm hk Hψ => sw_pendW rfl hK2 hEv (by omega) hW hP i1 hk hd (by omega) Hψ) eR hK hn (fun k hk => ?_) (fun c => ⟨(fin (p1 c)).2.2, sw_ag_le⟩) (fun c => (fin (p1 c)).1) (fun c c6 => ?_) (fun c cs => ?_) (fun tc ts tl tm => ?_)
    · have := @sw_op_le (sw_te x n) (sw_ke y n) (sw_ve z n) W (n + 1) k Pn d V
      omega
    · have m1 : Mn = 1 := by
        rw [show (1 : Int32) = nI 1 from rfl, nI_eq (by omega) (by omega)] at c6
        exact c6
      refine (fin ?_).1
      rw [hPn, if_pos c, m1]
    · rw [← esm]
      exact (fin (p1 c)).2.1 cs
    · exact sw_816 (ns := fun _ => 0) (h := fun _ => 0) hpost hn eR hK hW hP hLt hM rfl (fun _ => ⟨by omega, hV, i3⟩) (fun c => absurd c (by omega)) f1 f5 e6 h7
  · subst hK2
    obtain ⟨E, ns, F, L, C, i1, i2⟩ := hB rfl
    have i1' := i1
    obtain ⟨r1, r2, r3, r4, r5, r6, r7, r8⟩ := i1'
    have p1 : Pn = 1 := by rw [hPn, if_neg (by omega)]
    obtain ⟨q1, q2, q3⟩ := sw_finS hEv (by omega) t63 k0 i1
    have hns : ∀ k, k < 4 → ns k ≤ n + 1 := fun k hk => by
      have := @sw_le4 ns k hk
      omega
    have hLS : sw_LS W M ns (fun k => L k 0) a12 a13 a14 := by
      have sl : ∀ k i, k < 4 → i < ns k → L k i < 64 ∧ F k i ≤ L k i := by
        intro k i hk hi
        obtain ⟨_, _, t3, _, _, ⟨j, hj, _, htj⟩, _⟩ := r6 k i hk hi
        have := hEv.1 j
        exact ⟨by omega, t3⟩
      refine ⟨fun k hk => ⟨(r5 k hk).1, by have := hns k hk; omega⟩, fun k hk hk2 => ?_, q1, ?_, fun c => ?_⟩
      · obtain ⟨_, t2, _⟩ := r6 k 0 hk hk2
        exact ⟨t2, (sl k 0 hk hk2).1, i2 k hk hk2⟩
      · obtain ⟨t1, _⟩ := r6 0 0 (by omega) q1
        have := sl 0 0 (by omega) q1
        exact ⟨F 0 0, t1, by omega⟩
      · obtain ⟨t1, _⟩ := r6 0 1 (by omega) c
        have := sl 0 1 (by omega) c
        have r7' : L 0 0 + W < F 0 1 := r7 0 0 (by omega) c
        have := i2 0 (by omega) q1
        exact ⟨F 0 1, t1, by omega, by omega⟩
    refine ⟨_, sw_335 (X := sw_XS W) (K := 2) (Pn := Pn) hn eR hK hW hP (by omega) r2 (by omega) (fun c => absurd c (by omega)) (fun c => absurd c (by omega)) (fun _ s e t => t) r1 (fun f x19 => ?_) R 0 (-1000) (by omega) (fun _ => rfl) (fun i' c => absurd c (by omega))⟩
    refine sw_335e (K := 2) (op := ns) (pd := fun k => if ns k = 0 then 0 else a16 (32 * k)) (c18 := (sw_q (sw_te x n) (sw_ke y n) (sw_ve z n) C (n + 1)).1)
      (fun ψ k tc ts tl tm hk Hψ => sw_openS rfl hk (r5 k hk).1 (Hψ tc ts tl tm)) (fun ψ k tc ts tl tm hk Hψ => sw_pendS rfl hk (r5 k hk).1 (by have := hns k hk; omega) (Hψ tc ts tl tm)) eR hK hn (fun k hk => by have := hns k hk; omega) (fun c => ⟨q3, sw_ag_le⟩) (fun c => q1) (fun c _ => absurd c (by omega)) (fun c cs => ?_) (fun tc ts tl tm => ?_)
    · rw [← esm]
      exact q2 cs
    · exact sw_816 (K := 2) (ns := ns) (h := fun k => L k 0) (V := V) hpost hn eR hK hW hP hLt hM rfl (fun c => absurd c (by omega)) (fun _ => hLS) f1 f5 e6 h7
/-- the law's first loop -/
theorem sw_117 {x y z : Int32} {n K W Mn Pn Lt : Nat} (hpost : post 1 ()) (hn : n ≤ 8) (hK : K ≤ 2) (hW : 0 < W ∧ W ≤ 8) (hP : 0 < Pn ∧ Pn ≤ 4) (hPn : Pn = if K = 1 then Mn else 1) (hMn : Mn ≤ 4) (hLt : Lt ≤ 20) :
    ∀ (d i : Nat), i + d = n → ∀ (kd wd pn lt mk lc nw rc km kl kw kr tc ts tl tm : Int32) (a1 a2 a3 a4 a5 a6 a7 a8 a9 a10 a11 a12 a13 a14 a15 a16 a17 a18 a19 a20 a21 a22 a23 a24 : Nat → Int32), sw_INV (sw_te x n) (sw_ke y n) (sw_ve z n) K W Pn Lt i kd wd pn lt mk lc nw rc km kl kw kr tc ts tl tm a1 a2 a3 a4 a5 a6 a7 a8 a9 a10 a11 a12 a13 a14 a15 a16 a17 a18 a19 a20 a21 a22 a23 a24 →
      wL_lawOf_117 post mc ms x y z (nI K) (nI W) (nI Mn) (nI Lt) (nI (Pn * W)) (nI n) kc ks (d + 1) (nI (sw_tp x i)) (sw_sm (sw_ve z n) i) (nI i) kd wd pn lt mk lc nw rc km kl kw kr tc ts tl tm a1 a2 a3 a4 a5 a6 a7 a8 a9 a10 a11 a12 a13 a14 a15 a16 a17 a18 a19 a20 a21 a22 a23 a24 := by
  have hEv := @sw_Ev x y z n hn
  intro d
  induction d with
  | zero =>
    intro i hi kd wd pn lt mk lc nw rc km kl kw kr tc ts tl tm a1 a2 a3 a4 a5 a6 a7 a8 a9 a10 a11 a12 a13 a14 a15 a16 a17 a18 a19 a20 a21 a22 a23 a24 hI
    have ei : i = n := by omega
    subst ei
    have t63 : sw_te x i i = 63 := if_neg (by omega)
    have k0 : sw_ke y i i = 0 := if_neg (by omega)
    have v0 : sw_ve z i i = 0 := if_neg (by omega)
    have hI' := hI
    obtain ⟨R, M, V, e1, e2, e3, e4, e5, e6, e7, e8, eR, f1, _⟩ := hI'
    subst e8
    refine pk_le i i (fun _ => ?_) (fun c => absurd c (by omega))
    refine sw_results ?_
    refine sw_arrive (k := 0) (t := 63) (N := i) rfl (by omega) (by omega) ⟨by decide, by decide⟩ f1 (by omega) ?_
    refine sw_readI (N := i) rfl (by rw [t63]) (by rw [k0]) (by rw [v0]) hEv hK hW hP hLt (by omega) hI (fun dd kd wd pn lt mk lc nw rc km kl kw kr tc ts tl tm a1 a2 a3 a4 a5 a6 a7 a8 a9 a10 a11 a12 a13 a14 a15 a16 a17 a18 a19 a20 a21 a22 a23 a24 hd hrc hI2 => ?_)
    have hI3 := hI2
    obtain ⟨R', M', V', e1', e2', e3', e4', e5', e6', e7', e8', eR', f1', f5', g0', g1', _⟩ := hI3
    obtain ⟨eM, _⟩ := g1' i rfl
    rw [t63] at eM
    refine nm_r (e' := sw_z (63 - (Lt : Int))) (by rw [sw_zn]; exact sw_sub 63 (Lt : Int)) ?_
    refine br_t (by rw [e5', eM]; rfl) ?_
    refine br_t e6' ?_
    refine br_f (nI_pos (by omega)) ?_
    refine br_t hrc ?_
    exact sw_law335 hpost hn hK hW hP hPn hMn hLt hI2
  | succ d ih =>
    intro i hi kd wd pn lt mk lc nw rc km kl kw kr tc ts tl tm a1 a2 a3 a4 a5 a6 a7 a8 a9 a10 a11 a12 a13 a14 a15 a16 a17 a18 a19 a20 a21 a22 a23 a24 hI
    have tpl := sw_tp_le x (i + 1)
    have et : sw_te x n i = sw_tp x (i + 1) := if_pos (by omega)
    have ek : sw_ke y n i = sw_kn y i := if_pos (by omega)
    have ev : sw_ve z n i = sw_vx z i := if_pos (by omega)
    have kl4 := (sw_knE y i).2
    have hI' := hI
    obtain ⟨R, M, V, e1, e2, e3, e4, e5, e6, e7, e8, eR, f1, _⟩ := hI'
    subst e8
    refine pk_le n i (fun c => absurd c (by omega)) (fun _ => ?_)
    refine nm_r (e' := nI (sw_tp x (i + 1))) (by rw [(sw_dnE x i).1, nI_add]; rfl) ?_
    refine nm_r (e' := nI (sw_kn y i)) (sw_knE y i).1 ?_
    refine nm_r (e' := sw_vx z i) rfl ?_
    refine nm_r (e' := sw_sm (sw_ve z n) (i + 1)) (by rw [← ev]; rfl) ?_
    refine pk_le 64 (sw_tp x (i + 1)) (fun c => absurd c (by omega)) (fun _ => ?_)
    refine sw_arrive (k := sw_kn y i) (t := sw_tp x (i + 1)) (N := i) (sw_ad _ (pk_mul 64 _)) kl4 (by omega) (sw_vxE z i) f1 (by omega) ?_
    refine br_t (nI_1 i).symm ?_
    refine sw_readI (N := i) rfl (by rw [et]) (by rw [ek]) ev.symm hEv hK hW hP hLt (by omega) hI (fun dd kd wd pn lt mk lc nw rc km kl kw kr tc ts tl tm a1 a2 a3 a4 a5 a6 a7 a8 a9 a10 a11 a12 a13 a14 a15 a16 a17 a18 a19 a20 a21 a22 a23 a24 hd hrc hI2 => ?_)
    have hI3 := hI2
    obtain ⟨R', M', V', e1', e2', e3', e4', e5', e6', e7', e8', eR', f1', f5', g0', g1', _⟩ := hI3
    obtain ⟨eM, _⟩ := g1' i rfl
    rw [et] at eM
    refine br_f (nI_pos (by omega)) ?_
    refine pk_le 64 (sw_tp x (i + 1)) (fun c => absurd c (by omega)) (fun _ => ?_)
    refine br_t (by rw [e5', eM, sw_zn, sw_zn, sw_sub]) ?_
    refine br_t e6' (nm_r (nI_1 i) ?_)
    exact ih (i + 1) (by omega) _ _ _ _ _ _ _ _ _ _ _ _ _ _ _ _ _ _ _ _ _ _ _ _ _ _ _ _ _ _ _ _ _ _ _ _ _ _ _ _ hI2
end
theorem sw_cell {post : Int32 → Prop} {L j : Nat} {xs : Nat → Int32} {y : Int32} (hL : L ≤ 4) (hy : y = nI j) (hj : j < 4) (H : ∀ r, post r) : wpL_cellAt post L xs () y := by
  subst hy
  exact pk_le L j (fun _ => H 0) (fun c => ⟨pk_in j L c, H _⟩)
theorem sw_59 {post : Int32 → St0 → Prop} {x y z p : Int32} {K W Mn Pn Lt : Nat} (hpost : post 1 ()) (hK : K ≤ 2) (hW : 0 < W ∧ W ≤ 8) (hMn : 0 < Mn ∧ Mn ≤ 4) (hPn : Pn = if K = 1 then Mn else 1) (hLt : Lt ≤ 20) :
    wL_lawOf_59 post 25 5933 x y z p (nI K) (nI W) (nI Mn) (nI Lt) (nI (Pn * W)) 0 0 := by
  have hP : 0 < Pn ∧ Pn ≤ 4 := by
    rw [hPn]
    by_cases c : K = 1
    · rw [if_pos c]
      exact hMn
    · rw [if_neg c]
      omega
  obtain ⟨m, hm, em⟩ := pk_andE (p >>> ((21 : Int32) &&& 31)) (m := 7) 3 (by decide)
  refine ⟨by omega, by omega, 24, 5893, by omega, by omega, ?_⟩
  refine sw_init hK hW hMn hPn hLt (fun b6 b20 b21 b22 b23 b24 h6 => ?_)
  refine sw_idle (s := 1) rfl (Or.inl rfl) hK hW hP h6 rfl (fun _ _ => rfl) (fun r1 => ?_)
  refine sw_idle (s := 2) rfl (Or.inr rfl) hK hW hP h6 (by rw [pk_un (by omega)]) (fun _ _ => rfl) (fun r2 => ?_)
  refine nm_r (e' := nI (1 + m)) (by rw [em]; exact nI_add 1 m) ⟨1 + m + 1, ?_⟩
  refine sw_117 (n := 1 + m) hpost (by omega) hK hW hP hPn hMn.2 hLt (1 + m) 0 (by omega) _ _ _ _ _ _ _ _ _ _ _ _ _ _ _ _ _ _ _ _ _ _ _ _ _ _ _ _ _ _ _ _ _ _ _ _ _ _ _ _ ?_
  refine ⟨0, -1000, 1 - (Pn : Int), rfl, rfl, rfl, rfl, rfl, rfl, rfl, rfl, by omega, rfl, rfl, fun _ => ⟨rfl, h6.1⟩, fun j c => absurd c (by omega), ⟨?_, ?_, ?_⟩, fun c => ⟨sw_PN_0, -1000, ?_, ?_⟩, fun c => ⟨-1000, _, _, _, _, sw_IS_0, fun k _ c2 => absurd c2 (by omega)⟩⟩
  · rw [pk_un (by omega), pk_un (by omega)]
  · rw [pk_un (by omega), pk_us]
  · rw [pk_us]
  · have e1 : (1 - (Pn : Int) + (Pn : Int)) * (W : Int) = (W : Int) := by rw [show 1 - (Pn : Int) + (Pn : Int) = 1 by omega, Int.one_mul]
    exact ⟨sw_RS_0 (by omega), by omega, by omega, by omega, by omega, Or.inl rfl, fun _ => sw_SQ_0⟩
  · have e1 : (1 - (Pn : Int) + (Pn : Int)) * (W : Int) = (W : Int) := by rw [show 1 - (Pn : Int) + (Pn : Int) = 1 by omega, Int.one_mul]
    omega
theorem i_vc (xs : Nat → Int32) (L : Nat) (hL : L ≤ 4) : wpL_law (fun r => r = 1) L xs := by
  refine sw_cell (j := 0) hL rfl (by omega) (fun x => ?_)
  refine sw_cell (j := 1) hL rfl (by omega) (fun y => ?_)
  refine sw_cell (j := 2) hL rfl (by omega) (fun z => ?_)
  refine sw_cell (j := 3) hL rfl (by omega) (fun p => ?_)
  refine ⟨25, 5933, by omega, by omega, ?_⟩
  obtain ⟨a, ha, ea⟩ := pk_andE p (m := 255) 8 (by decide)
  obtain ⟨b, hb, eb⟩ := pk_andE (p >>> ((8 : Int32) &&& 31)) (m := 7) 3 (by decide)
  obtain ⟨c, hc, ec⟩ := pk_andE (p >>> ((11 : Int32) &&& 31)) (m := 3) 2 (by decide)
  obtain ⟨e, he, ee⟩ := pk_andE (p >>> ((13 : Int32) &&& 31)) (m := 255) 8 (by decide)
  have h3 : a % 3 < 3 := Nat.mod_lt _ (by omega)
  have h21 : e % 21 < 21 := Nat.mod_lt _ (by omega)
  refine ⟨by decide, nm_r (e' := nI (a % 3)) (by rw [ea]; exact pk_rem (d := 3) (by omega) (by omega) (by omega)) ?_⟩
  refine nm_r (e' := nI (1 + b)) (by rw [eb]; exact nI_add 1 b) ?_
  refine nm_r (e' := nI (1 + c)) (by rw [ec]; exact nI_add 1 c) ?_
  refine ⟨by decide, nm_r (e' := nI (e % 21)) (by rw [ee]; exact pk_rem (d := 21) (by omega) (by omega) (by omega)) ?_⟩
  refine pk_eq (a % 3) 1 (fun q => ?_) (fun q => ?_)
  · have t := sw_59 (post := fun r _ => r = 1) (x := x) (y := y) (z := z) (p := p) (K := a % 3) (W := 1 + b) (Mn := 1 + c) (Pn := 1 + c) (Lt := e % 21) rfl (by omega) (by omega) (by omega) (by rw [if_pos q]) (by omega)
    rw [show nI (1 + b) * nI (1 + c) = nI ((1 + c) * (1 + b)) from by rw [pk_mul, Nat.mul_comm]]
    exact t
  · have t := sw_59 (post := fun r _ => r = 1) (x := x) (y := y) (z := z) (p := p) (K := a % 3) (W := 1 + b) (Mn := 1 + c) (Pn := 1) (Lt := e % 21) rfl (by omega) (by omega) (by omega) (by rw [if_neg q]) (by omega)
    rw [Nat.one_mul] at t
    exact t
end
