section
/-! rows of kit/rows/PURE-ROWS (starting text) -/
theorem pk_us {f : Nat → Int32} {k : Nat} {x : Int32} : upd f k x k = x := if_pos rfl
theorem pk_un {f : Nat → Int32} {k j : Nat} {x : Int32} (h : j ≠ k) : upd f k x j = f j := if_neg h
theorem pk_sub {a b : Nat} (h : b ≤ a) : nI a - nI b = nI (a - b) := by
  obtain ⟨c, rfl⟩ : ∃ c, a = c + b := ⟨a - b, by omega⟩
  rw [← nI_add, Int32.add_sub_cancel, Nat.add_sub_cancel]
theorem pk_m1 (n : Nat) : nI (n + 1) + (-1) = nI n := by
  rw [← nI_1, Int32.add_assoc, show (1 : Int32) + (-1) = 0 from rfl, Int32.add_zero]
theorem pk_mul (a b : Nat) : nI a * nI b = nI (a * b) := (Int32.ofNat_mul a b).symm
theorem pk_div {a d : Nat} (ha : a < 2 ^ 31) (h0 : 0 < d) (hd : d < 2 ^ 31) : nI a / nI d = nI (a / d) := by
  apply Int32.toInt_inj.mp
  rw [lg_idiv_nonneg (by rw [nI_toInt ha]; omega) (by rw [nI_toInt hd]; omega), nI_toInt ha, nI_toInt hd, nI_toInt (Nat.lt_of_le_of_lt (Nat.div_le_self a d) ha)]
  first | rfl | exact (Int.natCast_ediv _ _).symm
theorem pk_rem {a d : Nat} (ha : a < 2 ^ 31) (h0 : 0 < d) (hd : d < 2 ^ 31) : nI a - nI a / nI d * nI d = nI (a % d) := by
  rw [pk_div ha h0 hd, pk_mul, pk_sub (Nat.div_mul_le_self a d)]
  exact congrArg nI (by have := Nat.div_add_mod' a d; omega)
theorem pk_sub_toInt {a b : Nat} (ha : a < 2 ^ 30) (hb : b < 2 ^ 30) : (nI a - nI b).toInt = (a : Int) - b := by
  rw [Int32.toInt_sub, nI_toInt (by omega), nI_toInt (by omega)]
  exact Int.bmod_eq_of_le (by omega) (by omega)
theorem pk_sneg {a b : Nat} (hb : b < 2 ^ 30) (h : a < b) : nI a - nI b < 0 := by
  rw [Int32.lt_iff_toInt_lt, pk_sub_toInt (by omega) hb, show (0 : Int32).toInt = 0 from by decide]
  omega
theorem pk_ix (x : Int32) {n : Nat} (hn : n < 2 ^ 31) : x < 0 ∨ nI n ≤ x ∨ ∃ j : Nat, j < n ∧ x = nI j := by
  by_cases h : x < 0
  · exact Or.inl h
  · obtain ⟨j, hj, rfl⟩ := nI_of h
    by_cases h2 : j < n
    · exact Or.inr (Or.inr ⟨j, h2, rfl⟩)
    · exact Or.inr (Or.inl (nI_le (by omega) hj))
theorem pk_le {x y : Int32} {A B : Prop} (a b : Nat) (f : a ≤ b → A) (g : b < a → B) (hx : x = nI a := by rfl) (hy : y = nI b := by rfl) (ha : a < 2 ^ 31 := by omega) (hb : b < 2 ^ 31 := by omega) : (x ≤ y → A) ∧ (¬ x ≤ y → B) := by
  subst hx hy
  rw [nI_leI ha hb]
  exact ⟨f, fun z => g (by omega)⟩
theorem pk_lt {x y : Int32} {A B : Prop} (a b : Nat) (f : a < b → A) (g : b ≤ a → B) (hx : x = nI a := by rfl) (hy : y = nI b := by rfl) (ha : a < 2 ^ 31 := by omega) (hb : b < 2 ^ 31 := by omega) : (x < y → A) ∧ (¬ x < y → B) := by
  subst hx hy
  rw [nI_ltI ha hb]
  exact ⟨f, fun z => g (by omega)⟩
theorem pk_eq {x y : Int32} {A B : Prop} (a b : Nat) (f : a = b → A) (g : a ≠ b → B) (hx : x = nI a := by rfl) (hy : y = nI b := by rfl) (ha : a < 2 ^ 31 := by omega) (hb : b < 2 ^ 31 := by omega) : (x = y → A) ∧ (¬ x = y → B) := by
  subst hx hy
  rw [nI_eq ha hb]
  exact ⟨f, g⟩
theorem pk_in {x : Int32} (n N : Nat) (h : n < N) (hx : x = nI n := by rfl) (hN : N < 2 ^ 31 := by omega) : vp_in x N := by
  subst hx
  exact vp_in_nI h hN
theorem pk_cl {x : Int32} (n : Nat) (hx : x = nI n := by rfl) (h : n < 2 ^ 31 := by omega) : x.toNatClampNeg = n := by
  subst hx
  exact nI_clamp h
theorem pk_tn {n : Nat} (h : n < 2 ^ 32) : (nI n).toBitVec.toNat = n := Nat.mod_eq_of_lt h
theorem pk_and (x : Int32) {m : Int32} (k : Nat) (hm : m.toBitVec.toNat = 2 ^ k - 1) : x &&& m = nI (x.toBitVec.toNat % 2 ^ k) := by
  apply Int32.toBitVec_inj.mp
  apply BitVec.eq_of_toNat_eq
  rw [Int32.toBitVec_and, BitVec.toNat_and, hm, Nat.and_two_pow_sub_one_eq_mod]
  show _ = (BitVec.ofNat 32 _).toNat
  rw [BitVec.toNat_ofNat]
  exact (Nat.mod_eq_of_lt (Nat.lt_of_le_of_lt (Nat.mod_le _ _) x.toBitVec.isLt)).symm
theorem pk_andN {n : Nat} (h : n < 2 ^ 32) {m : Int32} (k : Nat) (hm : m.toBitVec.toNat = 2 ^ k - 1) : nI n &&& m = nI (n % 2 ^ k) := by
  rw [pk_and _ k hm, pk_tn h]
theorem pk_andE (x : Int32) {m : Int32} (k : Nat) (hm : m.toBitVec.toNat = 2 ^ k - 1) : ∃ j : Nat, j < 2 ^ k ∧ x &&& m = nI j := ⟨_, Nat.mod_lt _ (Nat.two_pow_pos k), pk_and x k hm⟩
theorem pk_least (P : Nat → Prop) (h : ∃ k, P k) : ∃ k, P k ∧ ∀ j, j < k → ¬ P j := by
  obtain ⟨k, hk⟩ := h
  induction k using Nat.strongRecOn with
  | ind k ih =>
    by_cases e : ∃ j, j < k ∧ P j
    · obtain ⟨j, hj, pj⟩ := e
      exact ih j hj pj
    · exact ⟨k, hk, fun j hj pj => e ⟨j, hj, pj⟩⟩
end
section
/-! the pure layer: steps that can be done, least sequences, lone and joint plans, the two tables' values -/
def rb_ok {α : Type} (St : Nat → α → Nat → α → Prop) (N : Nat) : Nat → Nat → α → Prop
  | 0, _, _ => True
  | k + 1, t, s => ∃ m, m < N ∧ ∃ s', St t s m s' ∧ rb_ok St N k (t + 1) s'
theorem rb_ok_s {α : Type} {St : Nat → α → Nat → α → Prop} {N k t : Nat} {s : α} : rb_ok St N (k + 1) t s ↔ ∃ m, m < N ∧ ∃ s', St t s m s' ∧ rb_ok St N k (t + 1) s' := Iff.rfl
theorem rb_ok_map {α β : Type} {St : Nat → α → Nat → α → Prop} {St' : Nat → β → Nat → β → Prop} {N N' : Nat} (R : α → β → Prop)
    (h : ∀ t s m s' q, m < N → R s q → St t s m s' → ∃ m', m' < N' ∧ ∃ q', St' t q m' q' ∧ R s' q') :
    ∀ k t s q, R s q → rb_ok St N k t s → rb_ok St' N' k t q := by
  intro k
  induction k with
  | zero => intro t s q _ _; trivial
  | succ k ih =>
    intro t s q hr ho
    obtain ⟨m, hm, s', hs, ho'⟩ := ho
    obtain ⟨m', hm', q', hq, hr'⟩ := h t s m s' q hm hr hs
    exact ⟨m', hm', q', hq, ih _ _ _ hr' ho'⟩
theorem rb_ok_plan {α : Type} {St : Nat → α → Nat → α → Prop} {N : Nat} (cs : Nat → Nat) (ps : Nat → α) :
    ∀ k t, (∀ i, t ≤ i → i < t + k → cs i < N ∧ St i (ps i) (cs i) (ps (i + 1))) → rb_ok St N k t (ps t) := by
  intro k
  induction k with
  | zero => intro t _; trivial
  | succ k ih =>
    intro t h
    have h0 := h t (Nat.le_refl t) (by omega)
    exact ⟨cs t, h0.1, ps (t + 1), h0.2, ih (t + 1) (fun i a b => h i (by omega) (by omega))⟩
/-- x is the lexicographic least of S, over the first H places -/
def rb_lm (H : Nat) (S : (Nat → Nat) → Prop) (x : Nat → Nat) : Prop :=
  S x ∧ ∀ y, S y → ∀ t, t < H → (∀ i, i < t → y i = x i) → x t ≤ y t
theorem rb_lm_uniq {H : Nat} {S : (Nat → Nat) → Prop} {x y : Nat → Nat} (hx : rb_lm H S x) (hy : rb_lm H S y) : ∀ t, t < H → x t = y t := by
  intro t
  induction t using Nat.strongRecOn with
  | ind t ih =>
    intro ht
    have a := hx.2 y hy.1 t ht (fun i hi => (ih i hi (by omega)).symm)
    have b := hy.2 x hx.1 t ht (fun i hi => ih i hi (by omega))
    omega
theorem rb_lm_keep {H : Nat} {S T : (Nat → Nat) → Prop} {x y : Nat → Nat} (hx : rb_lm H S x) (hy : rb_lm H T y) (q : Nat)
    (he : ∀ i, i < q → y i = x i) (hle : x q ≤ y q) (hq : x q = y q → q + 1 = H) (hqH : q < H) : rb_lm H (fun z => S z ∨ T z) x := by
  refine ⟨Or.inl hx.1, fun z hz t ht hp => ?_⟩
  cases hz with
  | inl h => exact hx.2 z h t ht hp
  | inr h =>
    by_cases h1 : t < q
    · have := hy.2 z h t ht (fun i hi => (hp i hi).trans (he i (by omega)).symm)
      rw [he t h1] at this
      exact this
    · have h2 := hy.2 z h q hqH (fun i hi => (hp i (by omega)).trans (he i hi).symm)
      by_cases h3 : t = q
      · subst h3; omega
      · have h4 := hp q (by omega)
        omega
theorem rb_lm_new {H : Nat} {S T : (Nat → Nat) → Prop} {x y : Nat → Nat} (hx : rb_lm H S x) (hy : rb_lm H T y) (q : Nat)
    (he : ∀ i, i < q → y i = x i) (hlt : y q < x q) (hqH : q < H) : rb_lm H (fun z => S z ∨ T z) y := by
  have h := rb_lm_keep hy hx q (fun i hi => (he i hi).symm) (by omega) (by omega) hqH
  exact ⟨Or.inr hy.1, fun z hz => h.2 z hz.symm⟩
theorem rb_lm_iff {H : Nat} {S T : (Nat → Nat) → Prop} {x : Nat → Nat} (hx : rb_lm H S x) (e : ∀ z, S z ↔ T z) : rb_lm H T x :=
  ⟨(e x).mp hx.1, fun z hz => hx.2 z ((e z).mpr hz)⟩
theorem rb_lm_ext {H : Nat} {S : (Nat → Nat) → Prop} {x y : Nat → Nat} (hx : rb_lm H S x) (hy : S y) (e : ∀ t, t < H → x t = y t) : rb_lm H S y :=
  ⟨hy, fun z hz t ht hp => by
    have := hx.2 z hz t ht (fun i hi => (hp i hi).trans (e i (by omega)).symm)
    rw [← e t ht]; exact this⟩
/-- what a table of moves is like -/
def rb_MV (mv : Nat → Nat → Nat → Nat → Nat → Prop) (Op : Nat → Nat → Nat → Prop) : Prop :=
  (∀ r t c d c' c'', mv r t c d c' → mv r t c d c'' → c' = c'') ∧ (∀ r t c d, mv r t c d c → d < 5 → d = 0) ∧
  (∀ r t c d c', mv r t c d c' → Op r (t + 1) c') ∧ (∀ r t c, Op r (t + 1) c → mv r t c 0 c)
section
variable (mv : Nat → Nat → Nat → Nat → Nat → Prop) (Op : Nat → Nat → Nat → Prop) (g : Nat → Nat) (H : Nat)
def rb_sl (r a t c d c' : Nat) : Prop := mv r t c d c' ∧ (a ≤ t + 1 → c' = g r)
/-- robot r at c at tick t can go on to H, on its goal from a on -/
def rb_LF (r t c a : Nat) : Prop := Op r t c ∧ (a ≤ t → c = g r) ∧ rb_ok (rb_sl mv g r a) 5 (H - t) t c
def rb_IsE (r t c x : Nat) : Prop := (x = 1000 ∨ (t ≤ x ∧ x ≤ H)) ∧ ∀ a, t ≤ a → a ≤ H → (x ≤ a ↔ rb_LF mv Op g H r t c a)
def rb_s3 (u0 u1 t : Nat) (s : Nat × Nat) (m : Nat) (s' : Nat × Nat) : Prop :=
  mv 0 t s.1 (m / 5) s'.1 ∧ mv 1 t s.2 (m % 5) s'.2 ∧ (u0 ≤ t + 1 → s'.1 = g 0) ∧ (u1 ≤ t + 1 → s'.2 = g 1) ∧ s'.1 ≠ s'.2 ∧ ¬ (s'.1 = s.2 ∧ s'.2 = s.1)
/-- both robots from (a, b) at tick t, robot i on its goal from u_i on -/
def rb_JF (t a b u0 u1 : Nat) : Prop :=
  Op 0 t a ∧ Op 1 t b ∧ a ≠ b ∧ (u0 ≤ t → a = g 0) ∧ (u1 ≤ t → b = g 1) ∧ rb_ok (rb_s3 mv g u0 u1) 25 (H - t) t (a, b)
def rb_KS (t a b : Nat) (p q : Prop) (y : Nat) : Prop :=
  ∃ u0 u1, t ≤ u0 ∧ u0 ≤ H ∧ t ≤ u1 ∧ u1 ≤ H ∧ (p → u0 = t) ∧ (q → u1 = t) ∧ u0 + u1 ≤ y + 2 * t ∧ rb_JF mv Op g H t a b u0 u1
def rb_IsK (t a b : Nat) (p q : Prop) (x : Nat) : Prop :=
  (x = 1000 ∨ x ≤ 2 * (H - t)) ∧ ∀ y, y < 1000 → (x ≤ y ↔ rb_KS mv Op g H t a b p q y)
end
section
variable {mv : Nat → Nat → Nat → Nat → Nat → Prop} {Op : Nat → Nat → Nat → Prop} {g : Nat → Nat} {H : Nat}
theorem rb_LF_H {r c a : Nat} (ha : a ≤ H) : rb_LF mv Op g H r H c a ↔ Op r H c ∧ c = g r := by
  unfold rb_LF
  rw [Nat.sub_self]
  exact ⟨fun h => ⟨h.1, h.2.1 ha⟩, fun h => ⟨h.1, fun _ => h.2, trivial⟩⟩
theorem rb_LF_s {r t c a : Nat} (M : rb_MV mv Op) (ht : t < H) : rb_LF mv Op g H r t c a ↔ Op r t c ∧ (a ≤ t → c = g r) ∧ ∃ d, d < 5 ∧ ∃ c', mv r t c d c' ∧ rb_LF mv Op g H r (t + 1) c' a := by
  unfold rb_LF
  have e : H - t = (H - (t + 1)) + 1 := by omega
  rw [e]
  constructor
  · intro ⟨h1, h2, d, hd, c', hm, ho⟩
    exact ⟨h1, h2, d, hd, c', hm.1, M.2.2.1 _ _ _ _ _ hm.1, hm.2, ho⟩
  · intro ⟨h1, h2, d, hd, c', hm, _, hg, ho⟩
    exact ⟨h1, h2, d, hd, c', ⟨hm, hg⟩, ho⟩
theorem rb_LF_mono {r t c a a' : Nat} (h : rb_LF mv Op g H r t c a) (ha : t < a' → a ≤ a') (h0 : a' ≤ t → a ≤ t) : rb_LF mv Op g H r t c a' := by
  refine ⟨h.1, fun z => h.2.1 (h0 z), ?_⟩
  by_cases hz : t < a'
  · exact rb_ok_map (fun s q => s = q) (fun t s m s' q hm hr hs => ⟨m, hm, s', hr ▸ ⟨hs.1, fun z => hs.2 (by have := ha hz; omega)⟩, rfl⟩) _ _ _ _ rfl h.2.2
  · -- a' ≤ t: then a ≤ t, everything is asked from t on
    have h1 := h0 (by omega)
    have key : ∀ k t' s, a ≤ t' → rb_ok (rb_sl mv g r a) 5 k t' s → rb_ok (rb_sl mv g r a') 5 k t' s := by
      intro k
      induction k with
      | zero => intro _ _ _ _; trivial
      | succ k ih =>
        intro t' s ht ⟨m, hm, s', hs, ho⟩
        exact ⟨m, hm, s', ⟨hs.1, fun _ => hs.2 (by omega)⟩, ih _ _ (by omega) ho⟩
    exact key _ _ _ h1 h.2.2
theorem rb_JF_s {t a b u0 u1 : Nat} (M : rb_MV mv Op) (ht : t < H) : rb_JF mv Op g H t a b u0 u1 ↔ Op 0 t a ∧ Op 1 t b ∧ a ≠ b ∧ (u0 ≤ t → a = g 0) ∧ (u1 ≤ t → b = g 1) ∧
    ∃ m n c d, m < 5 ∧ n < 5 ∧ mv 0 t a m c ∧ mv 1 t b n d ∧ ¬ (c = b ∧ d = a) ∧ rb_JF mv Op g H (t + 1) c d u0 u1 := by
  unfold rb_JF
  have e : H - t = (H - (t + 1)) + 1 := by omega
  rw [e]
  constructor
  · intro ⟨h1, h2, h3, h4, h5, m, hm, s', ⟨a1, a2, a3, a4, a5, a6⟩, ho⟩
    exact ⟨h1, h2, h3, h4, h5, m / 5, m % 5, s'.1, s'.2, by omega, by omega, a1, a2, a6, M.2.2.1 _ _ _ _ _ a1, M.2.2.1 _ _ _ _ _ a2, a5, a3, a4, ho⟩
  · intro ⟨h1, h2, h3, h4, h5, m, n, c, d, hm, hn, a1, a2, a3, _, _, b1, b2, b3, ho⟩
    refine ⟨h1, h2, h3, h4, h5, 5 * m + n, by omega, (c, d), ⟨?_, ?_, b2, b3, b1, a3⟩, ho⟩
    · rw [show (5 * m + n) / 5 = m by omega]; exact a1
    · rw [show (5 * m + n) % 5 = n by omega]; exact a2
theorem rb_JF_H {a b u0 u1 : Nat} (h0 : u0 ≤ H) (h1 : u1 ≤ H) : rb_JF mv Op g H H a b u0 u1 ↔ Op 0 H a ∧ Op 1 H b ∧ a ≠ b ∧ a = g 0 ∧ b = g 1 := by
  unfold rb_JF
  rw [Nat.sub_self]
  exact ⟨fun h => ⟨h.1, h.2.1, h.2.2.1, h.2.2.2.1 h0, h.2.2.2.2.1 h1⟩, fun h => ⟨h.1, h.2.1, h.2.2.1, fun _ => h.2.2.2.1, fun _ => h.2.2.2.2, trivial⟩⟩
theorem rb_ok3_mono {u0 u1 v0 v1 : Nat} : ∀ k t s, (∀ i, t < i → v0 ≤ i → u0 ≤ i) → (∀ i, t < i → v1 ≤ i → u1 ≤ i) → rb_ok (rb_s3 mv g u0 u1) 25 k t s → rb_ok (rb_s3 mv g v0 v1) 25 k t s := by
  intro k
  induction k with
  | zero => intro _ _ _ _ _; trivial
  | succ k ih =>
    intro t s h0 h1 ⟨m, hm, s', ⟨a1, a2, a3, a4, a5, a6⟩, ho⟩
    exact ⟨m, hm, s', ⟨a1, a2, fun z => a3 (h0 _ (by omega) z), fun z => a4 (h1 _ (by omega) z), a5, a6⟩, ih _ _ (fun i hi => h0 i (by omega)) (fun i hi => h1 i (by omega)) ho⟩
theorem rb_JF_mono {t a b u0 u1 v0 v1 : Nat} (h : rb_JF mv Op g H t a b u0 u1) (h0 : ∀ i, t ≤ i → v0 ≤ i → u0 ≤ i) (h1 : ∀ i, t ≤ i → v1 ≤ i → u1 ≤ i) : rb_JF mv Op g H t a b v0 v1 :=
  ⟨h.1, h.2.1, h.2.2.1, fun z => h.2.2.2.1 (h0 t (Nat.le_refl t) z), fun z => h.2.2.2.2.1 (h1 t (Nat.le_refl t) z), rb_ok3_mono _ _ _ (fun i hi => h0 i (by omega)) (fun i hi => h1 i (by omega)) h.2.2.2.2.2⟩
theorem rb_JF_L0 {t a b u0 u1 : Nat} (h : rb_JF mv Op g H t a b u0 u1) : rb_LF mv Op g H 0 t a u0 :=
  ⟨h.1, h.2.2.2.1, rb_ok_map (fun (s : Nat × Nat) q => s.1 = q) (fun t s m s' q hm hr hs => ⟨m / 5, by omega, s'.1, ⟨hr ▸ hs.1, hs.2.2.1⟩, rfl⟩) _ _ _ _ rfl h.2.2.2.2.2⟩
theorem rb_JF_L1 {t a b u0 u1 : Nat} (h : rb_JF mv Op g H t a b u0 u1) : rb_LF mv Op g H 1 t b u1 :=
  ⟨h.2.1, h.2.2.2.2.1, rb_ok_map (fun (s : Nat × Nat) q => s.2 = q) (fun t s m s' q hm hr hs => ⟨m % 5, by omega, s'.2, ⟨hr ▸ hs.2.1, hs.2.2.2.1⟩, rfl⟩) _ _ _ _ rfl h.2.2.2.2.2⟩
/-! the earliest arrival -/
theorem rb_E_shut {r t c : Nat} (hH : H < 1000) (h : ¬ Op r t c) : rb_IsE mv Op g H r t c 1000 :=
  ⟨Or.inl rfl, fun a _ ha => ⟨fun z => by omega, fun z => absurd z.1 h⟩⟩
theorem rb_E_Hy {r c : Nat} (h : Op r H c) (hc : c = g r) : rb_IsE mv Op g H r H c H :=
  ⟨Or.inr ⟨Nat.le_refl H, Nat.le_refl H⟩, fun a h1 h2 => ⟨fun _ => (rb_LF_H h2).mpr ⟨h, hc⟩, fun _ => h1⟩⟩
theorem rb_E_Hn {r c : Nat} (hH : H < 1000) (hc : c ≠ g r) : rb_IsE mv Op g H r H c 1000 :=
  ⟨Or.inl rfl, fun a h1 h2 => ⟨fun z => by omega, fun z => absurd ((rb_LF_H h2).mp z).2 hc⟩⟩
theorem rb_E_stay {r t c : Nat} (M : rb_MV mv Op) (ht : t < H) (h : Op r t c) (hc : c = g r) (he : rb_IsE mv Op g H r (t + 1) c (t + 1)) : rb_IsE mv Op g H r t c t := by
  refine ⟨Or.inr ⟨Nat.le_refl t, by omega⟩, fun a h1 h2 => ⟨fun _ => ?_, fun _ => h1⟩⟩
  have h3 := (he.2 (t + 1) (Nat.le_refl _) ht).mp (Nat.le_refl _)
  refine (rb_LF_s M ht).mpr ⟨h, fun _ => hc, 0, by omega, c, M.2.2.2 _ _ _ h3.1, rb_LF_mono h3 (fun z => by omega) (fun z => by omega)⟩
theorem rb_E_go {r t c x : Nat} (M : rb_MV mv Op) (hH : H < 1000) (ht : t < H) (val : Nat → Nat) (h : Op r t c)
    (hv : ∀ d c', d < 5 → mv r t c d c' → rb_IsE mv Op g H r (t + 1) c' (val c'))
    (hn : c = g r → rb_IsE mv Op g H r (t + 1) c (val c) → val c ≠ t + 1)
    (hE : c = g r → rb_IsE mv Op g H r (t + 1) c (val c))
    (hle : ∀ d c', d < 5 → mv r t c d c' → x ≤ val c')
    (hx : x = 1000 ∨ ∃ d c', d < 5 ∧ mv r t c d c' ∧ val c' = x) : rb_IsE mv Op g H r t c x := by
  constructor
  · cases hx with
    | inl h => exact Or.inl h
    | inr h =>
      obtain ⟨d, c', hd, hm, e⟩ := h
      cases (hv d c' hd hm).1 with
      | inl z => exact Or.inl (by omega)
      | inr z => exact Or.inr (by omega)
  · intro a h1 h2
    constructor
    · intro hxa
      cases hx with
      | inl z => omega
      | inr z =>
        obtain ⟨d, c', hd, hm, e⟩ := z
        have hI := hv d c' hd hm
        have h3 : t + 1 ≤ x := by cases hI.1 with
          | inl z => omega
          | inr z => omega
        have h4 := (hI.2 a (by omega) h2).mp (by omega)
        exact (rb_LF_s M ht).mpr ⟨h, fun z => by omega, d, hd, c', hm, h4⟩
    · intro hL
      obtain ⟨_, hg, d, hd, c', hm, hL'⟩ := (rb_LF_s M ht).mp hL
      by_cases h3 : t + 1 ≤ a
      · have := ((hv d c' hd hm).2 a h3 h2).mpr hL'
        have := hle d c' hd hm
        omega
      · have h4 : c = g r := hg (by omega)
        have h5 : c' = g r := hL'.2.1 (by omega)
        have h6 : c' = c := by omega
        subst h6
        have h7 := hE h4
        have h8 := (h7.2 (t + 1) (Nat.le_refl _) ht).mpr (rb_LF_mono hL' (fun z => by omega) (fun z => by omega))
        have h9 := hn h4 h7
        cases h7.1 with
        | inl z => omega
        | inr z => omega
theorem rb_IsE_uniq {r t c x y : Nat} (hH : H < 1000) (hx : rb_IsE mv Op g H r t c x) (hy : rb_IsE mv Op g H r t c y) : x = y := by
  have h1 : ∀ x y, rb_IsE mv Op g H r t c x → rb_IsE mv Op g H r t c y → x ≤ y := by
    intro x y hx hy
    cases hy.1 with
    | inl z => cases hx.1 with
      | inl z => omega
      | inr z => omega
    | inr z => exact (hx.2 y z.1 z.2).mpr ((hy.2 y z.1 z.2).mp (Nat.le_refl y))
  have := h1 x y hx hy
  have := h1 y x hy hx
  omega
end
end
section
/-! the joint cost's value, and the traced plan -/
section
variable {mv : Nat → Nat → Nat → Nat → Nat → Prop} {Op : Nat → Nat → Nat → Prop} {g : Nat → Nat} {H : Nat}
theorem rb_KS_weak {t a b y : Nat} {p q p' q' : Prop} (hp : p → p') (hq : q → q') (h : rb_KS mv Op g H t a b p' q' y) : rb_KS mv Op g H t a b p q y := by
  obtain ⟨u0, u1, h1, h2, h3, h4, h5, h6, h7, h8⟩ := h
  exact ⟨u0, u1, h1, h2, h3, h4, fun z => h5 (hp z), fun z => h6 (hq z), h7, h8⟩
theorem rb_IsK_iff {t a b x : Nat} {p q p' q' : Prop} (hp : p ↔ p') (hq : q ↔ q') (h : rb_IsK mv Op g H t a b p q x) : rb_IsK mv Op g H t a b p' q' x :=
  ⟨h.1, fun y hy => (h.2 y hy).trans ⟨rb_KS_weak hp.mpr hq.mpr, rb_KS_weak hp.mp hq.mp⟩⟩
theorem rb_K_shut {t a b : Nat} {p q : Prop} (h : a = b ∨ ¬ Op 0 t a ∨ ¬ Op 1 t b) : rb_IsK mv Op g H t a b p q 1000 := by
  refine ⟨Or.inl rfl, fun y hy => ⟨fun z => by omega, fun hk => ?_⟩⟩
  obtain ⟨u0, u1, _, _, _, _, _, _, _, J⟩ := hk
  cases h with
  | inl h => exact absurd h J.2.2.1
  | inr h => cases h with
    | inl h => exact absurd J.1 h
    | inr h => exact absurd J.2.1 h
end
section
variable (mv : Nat → Nat → Nat → Nat → Nat → Prop) (Op : Nat → Nat → Nat → Prop) (g : Nat → Nat) (H : Nat)
/-- the cost if exactly the robots named are settled -/
def rb_ST (t a b : Nat) (p q : Prop) (x : Nat) : Prop :=
  (x = 1000 ∨ x ≤ 2 * (H - t)) ∧ (∀ y, y < 1000 → x ≤ y → rb_KS mv Op g H t a b p q y) ∧
  (∀ y u0 u1, y < 1000 → t ≤ u0 → u0 ≤ H → t ≤ u1 → u1 ≤ H → (p → u0 = t) → (q → u1 = t) → (¬ p → t < u0) → (¬ q → t < u1) → u0 + u1 ≤ y + 2 * t → rb_JF mv Op g H t a b u0 u1 → x ≤ y)
end
section
variable {mv : Nat → Nat → Nat → Nat → Nat → Prop} {Op : Nat → Nat → Nat → Prop} {g : Nat → Nat} {H : Nat}
theorem rb_K_min {t a b xs x1 x2 x : Nat} {p q : Prop} (hs : rb_ST mv Op g H t a b p q xs)
    (h1 : ¬ p → rb_IsK mv Op g H t a b True q x1) (h2 : ¬ q → rb_IsK mv Op g H t a b p True x2)
    (l0 : x ≤ xs) (l1 : ¬ p → x ≤ x1) (l2 : ¬ q → x ≤ x2) (hx : x = xs ∨ (¬ p ∧ x = x1) ∨ (¬ q ∧ x = x2)) : rb_IsK mv Op g H t a b p q x := by
  constructor
  · rcases hx with h | ⟨h, e⟩ | ⟨h, e⟩
    · rw [h]; exact hs.1
    · rw [e]; exact (h1 h).1
    · rw [e]; exact (h2 h).1
  · intro y hy
    constructor
    · intro hxy
      rcases hx with h | ⟨h, e⟩ | ⟨h, e⟩
      · exact hs.2.1 y hy (by omega)
      · exact rb_KS_weak (fun _ => trivial) id (((h1 h).2 y hy).mp (by omega))
      · exact rb_KS_weak id (fun _ => trivial) (((h2 h).2 y hy).mp (by omega))
    · intro ⟨u0, u1, a1, a2, a3, a4, a5, a6, a7, J⟩
      by_cases c1 : ¬ p ∧ u0 = t
      · have := ((h1 c1.1).2 y hy).mpr ⟨u0, u1, a1, a2, a3, a4, fun _ => c1.2, a6, a7, J⟩
        have := l1 c1.1
        omega
      · by_cases c2 : ¬ q ∧ u1 = t
        · have := ((h2 c2.1).2 y hy).mpr ⟨u0, u1, a1, a2, a3, a4, a5, fun _ => c2.2, a7, J⟩
          have := l2 c2.1
          omega
        · have := hs.2.2 y u0 u1 hy a1 a2 a3 a4 a5 a6 (fun z => by have : u0 ≠ t := fun e => c1 ⟨z, e⟩; omega) (fun z => by have : u1 ≠ t := fun e => c2 ⟨z, e⟩; omega) a7 J
          omega
theorem rb_S_away {t a b : Nat} {p q : Prop} (h : (p ∧ a ≠ g 0) ∨ (q ∧ b ≠ g 1)) : rb_ST mv Op g H t a b p q 1000 := by
  refine ⟨Or.inl rfl, fun y hy hz => by omega, fun y u0 u1 hy a1 a2 a3 a4 a5 a6 _ _ a7 J => ?_⟩
  rcases h with ⟨h1, h2⟩ | ⟨h1, h2⟩
  · exact absurd (J.2.2.2.1 (by have := a5 h1; omega)) h2
  · exact absurd (J.2.2.2.2.1 (by have := a6 h1; omega)) h2
theorem rb_S_Hn {a b : Nat} {p q : Prop} (h : a ≠ g 0 ∨ b ≠ g 1) : rb_ST mv Op g H H a b p q 1000 := by
  refine ⟨Or.inl rfl, fun y hy hz => by omega, fun y u0 u1 hy a1 a2 a3 a4 a5 a6 _ _ a7 J => ?_⟩
  have J' := (rb_JF_H a2 a4).mp J
  rcases h with h | h
  · exact absurd J'.2.2.2.1 h
  · exact absurd J'.2.2.2.2 h
theorem rb_S_Hy {a b : Nat} {p q : Prop} (h0 : Op 0 H a) (h1 : Op 1 H b) (hab : a ≠ b) (ha : a = g 0) (hb : b = g 1) : rb_ST mv Op g H H a b p q 0 :=
  ⟨Or.inr (Nat.zero_le _), fun y hy hz => ⟨H, H, Nat.le_refl H, Nat.le_refl H, Nat.le_refl H, Nat.le_refl H, fun _ => rfl, fun _ => rfl, by omega, (rb_JF_H (Nat.le_refl H) (Nat.le_refl H)).mpr ⟨h0, h1, hab, ha, hb⟩⟩,
   fun y u0 u1 _ _ _ _ _ _ _ _ _ _ _ => Nat.zero_le y⟩
theorem rb_S_go {t a b m0 P0 P1 xs : Nat} {p q : Prop} (M : rb_MV mv Op) (ht : t < H) (hH : H < 100) (h0 : Op 0 t a) (h1 : Op 1 t b) (hab : a ≠ b)
    (hp : p → a = g 0) (hq : q → b = g 1) (val : Nat → Nat → Nat)
    (hv : ∀ m n c d, m < 5 → n < 5 → mv 0 t a m c → mv 1 t b n d → rb_IsK mv Op g H (t + 1) c d p q (val c d))
    (hle : ∀ m n c d, m < 5 → n < 5 → (p → m = 0) → (q → n = 0) → mv 0 t a m c → mv 1 t b n d → ¬ (c = b ∧ d = a) → m0 ≤ val c d)
    (hx : m0 = 1000 ∨ ∃ m n c d, m < 5 ∧ n < 5 ∧ (p → m = 0) ∧ (q → n = 0) ∧ mv 0 t a m c ∧ mv 1 t b n d ∧ ¬ (c = b ∧ d = a) ∧ val c d = m0)
    (p0 : p → P0 = 0) (p0' : ¬ p → P0 = 1) (p1 : q → P1 = 0) (p1' : ¬ q → P1 = 1)
    (e1 : 1000 ≤ m0 → xs = 1000) (e2 : m0 < 1000 → xs = m0 + P0 + P1) : rb_ST mv Op g H t a b p q xs := by
  have hP0 : P0 ≤ 1 := by by_cases z : p; { have := p0 z; omega }; { have := p0' z; omega }
  have hP1 : P1 ≤ 1 := by by_cases z : q; { have := p1 z; omega }; { have := p1' z; omega }
  have hm0 : m0 = 1000 ∨ m0 ≤ 2 * (H - (t + 1)) := by
    rcases hx with h | ⟨m, n, c, d, a1, a2, a3, a4, a5, a6, a7, e⟩
    · exact Or.inl h
    · have := (hv m n c d a1 a2 a5 a6).1
      rw [e] at this
      exact this
  refine ⟨?_, ?_, ?_⟩
  · rcases hm0 with h | h
    · exact Or.inl (e1 (by omega))
    · exact Or.inr (by have := e2 (by omega); omega)
  · intro y hy hxy
    have hlt : m0 < 1000 := by
      by_cases z : m0 < 1000
      · exact z
      · have := e1 (by omega); omega
    have hxs := e2 hlt
    rcases hx with h | ⟨m, n, c, d, a1, a2, a3, a4, a5, a6, a7, e⟩
    · omega
    obtain ⟨u0, u1, b1, b2, b3, b4, b5, b6, b7, J⟩ := ((hv m n c d a1 a2 a5 a6).2 m0 hlt).mp (by omega)
    have key : ∀ v0 v1, t ≤ v0 → v0 ≤ H → t ≤ v1 → v1 ≤ H → (p → v0 = t) → (q → v1 = t) → (¬ p → v0 = u0) → (¬ q → v1 = u1) → rb_KS mv Op g H t a b p q y := by
      intro v0 v1 c1 c2 c3 c4 c5 c6 c7 c8
      refine ⟨v0, v1, c1, c2, c3, c4, c5, c6, ?_, (rb_JF_s M ht).mpr ⟨h0, h1, hab, ?_, ?_, m, n, c, d, a1, a2, a5, a6, a7, rb_JF_mono J ?_ ?_⟩⟩
      · by_cases zp : p
        · have := c5 zp; have := p0 zp; have := b5 zp
          by_cases zq : q
          · have := c6 zq; have := p1 zq; have := b6 zq; omega
          · have := c8 zq; have := p1' zq; omega
        · have := c7 zp; have := p0' zp
          by_cases zq : q
          · have := c6 zq; have := p1 zq; have := b6 zq; omega
          · have := c8 zq; have := p1' zq; omega
      · intro z
        by_cases zp : p
        · exact hp zp
        · have := c7 zp; omega
      · intro z
        by_cases zq : q
        · exact hq zq
        · have := c8 zq; omega
      · intro i hi hz
        by_cases zp : p
        · have := b5 zp; omega
        · have := c7 zp; omega
      · intro i hi hz
        by_cases zq : q
        · have := b6 zq; omega
        · have := c8 zq; omega
    by_cases zp : p
    · by_cases zq : q
      · exact key t t (by omega) (by omega) (by omega) (by omega) (fun _ => rfl) (fun _ => rfl) (fun z => absurd zp z) (fun z => absurd zq z)
      · exact key t u1 (by omega) (by omega) (by omega) (by omega) (fun _ => rfl) (fun z => absurd z zq) (fun z => absurd zp z) (fun z => rfl)
    · by_cases zq : q
      · exact key u0 t (by omega) (by omega) (by omega) (by omega) (fun z => absurd z zp) (fun _ => rfl) (fun z => rfl) (fun z => absurd zq z)
      · exact key u0 u1 (by omega) (by omega) (by omega) (by omega) (fun z => absurd z zp) (fun z => absurd z zq) (fun z => rfl) (fun z => rfl)
  · intro y u0 u1 hy a1 a2 a3 a4 a5 a6 a7 a8 a9 J
    obtain ⟨_, _, _, j1, j2, m, n, c, d, b1, b2, b3, b4, b5, J'⟩ := (rb_JF_s M ht).mp J
    have hm : p → m = 0 := by
      intro z
      have e1 := a5 z
      have e2 := j1 (by omega)
      have e3 := J'.2.2.2.1 (by omega)
      rw [show c = a by omega] at b3
      exact M.2.1 _ _ _ _ b3 b1
    have hn : q → n = 0 := by
      intro z
      have e1 := a6 z
      have e2 := j2 (by omega)
      have e3 := J'.2.2.2.2.1 (by omega)
      rw [show d = b by omega] at b4
      exact M.2.1 _ _ _ _ b4 b2
    have l1 := hle m n c d b1 b2 hm hn b3 b4 b5
    have l2 : val c d ≤ y - P0 - P1 ∧ P0 + P1 ≤ y := by
      have key : ∀ v0 v1, t + 1 ≤ v0 → v0 ≤ H → t + 1 ≤ v1 → v1 ≤ H → (p → v0 = t + 1) → (q → v1 = t + 1) → (¬ p → v0 = u0) → (¬ q → v1 = u1) → val c d ≤ y - P0 - P1 ∧ P0 + P1 ≤ y := by
        intro v0 v1 c1 c2 c3 c4 c5 c6 c7 c8
        have hs : v0 + v1 + P0 + P1 ≤ y + 2 * (t + 1) := by
          by_cases zp : p
          · have := c5 zp; have := p0 zp; have := a5 zp
            by_cases zq : q
            · have := c6 zq; have := p1 zq; have := a6 zq; omega
            · have := c8 zq; have := p1' zq; omega
          · have := c7 zp; have := p0' zp
            by_cases zq : q
            · have := c6 zq; have := p1 zq; have := a6 zq; omega
            · have := c8 zq; have := p1' zq; omega
        refine ⟨((hv m n c d b1 b2 b3 b4).2 (y - P0 - P1) (by omega)).mpr ⟨v0, v1, c1, c2, c3, c4, c5, c6, by omega, rb_JF_mono J' ?_ ?_⟩, by omega⟩
        · intro i hi hz
          by_cases zp : p
          · have := a5 zp; omega
          · have := c7 zp; omega
        · intro i hi hz
          by_cases zq : q
          · have := a6 zq; omega
          · have := c8 zq; omega
      by_cases zp : p
      · by_cases zq : q
        · exact key (t + 1) (t + 1) (by omega) (by omega) (by omega) (by omega) (fun _ => rfl) (fun _ => rfl) (fun z => absurd zp z) (fun z => absurd zq z)
        · have := a8 zq
          exact key (t + 1) u1 (by omega) (by omega) (by omega) (by omega) (fun _ => rfl) (fun z => absurd z zq) (fun z => absurd zp z) (fun z => rfl)
      · have := a7 zp
        by_cases zq : q
        · exact key u0 (t + 1) (by omega) (by omega) (by omega) (by omega) (fun z => absurd z zp) (fun _ => rfl) (fun z => rfl) (fun z => absurd zq z)
        · have := a8 zq
          exact key u0 u1 (by omega) (by omega) (by omega) (by omega) (fun z => absurd z zp) (fun z => absurd z zq) (fun z => rfl) (fun z => rfl)
    have := e2 (by omega)
    omega
end
section
variable (mv : Nat → Nat → Nat → Nat → Nat → Prop) (Op : Nat → Nat → Nat → Prop) (g : Nat → Nat) (H : Nat)
/-- a joint step, whatever the goals -/
def rb_s0 (t : Nat) (a b m c d : Nat) : Prop := mv 0 t a (m / 5) c ∧ mv 1 t b (m % 5) d ∧ c ≠ d ∧ ¬ (c = b ∧ d = a)
/-- a traced beginning, up to tick t -/
def rb_PV (t : Nat) (pc pd cs : Nat → Nat) : Prop :=
  (∀ j, j ≤ t → Op 0 j (pc j) ∧ Op 1 j (pd j) ∧ pc j ≠ pd j) ∧ (∀ j, j < t → cs j < 25 ∧ rb_s0 mv j (pc j) (pd j) (cs j) (pc (j + 1)) (pd (j + 1)))
/-- it can be gone on with, to a total of at most y -/
def rb_EX (t : Nat) (pc pd : Nat → Nat) (y : Nat) : Prop :=
  ∃ u0 u1, u0 ≤ H ∧ u1 ≤ H ∧ u0 + u1 ≤ y ∧ (∀ j, j ≤ t → u0 ≤ j → pc j = g 0) ∧ (∀ j, j ≤ t → u1 ≤ j → pd j = g 1) ∧ rb_JF mv Op g H t (pc t) (pd t) u0 u1
/-- since when a robot has been on its goal -/
def rb_SI (r t : Nat) (p : Nat → Nat) (s : Nat) : Prop := s ≤ t ∧ (p t = g r → (∀ j, s ≤ j → j ≤ t → p j = g r) ∧ (s = 0 ∨ p (s - 1) ≠ g r))
end
section
variable {mv : Nat → Nat → Nat → Nat → Nat → Prop} {Op : Nat → Nat → Nat → Prop} {g : Nat → Nat} {H : Nat}
theorem rb_EX_iff {t y : Nat} {pc pd pc' pd' : Nat → Nat} (hc : ∀ j, j ≤ t → pc' j = pc j) (hd : ∀ j, j ≤ t → pd' j = pd j) (h : rb_EX mv Op g H t pc pd y) : rb_EX mv Op g H t pc' pd' y := by
  obtain ⟨u0, u1, a1, a2, a3, a4, a5, J⟩ := h
  refine ⟨u0, u1, a1, a2, a3, fun j hj hz => (hc j hj).trans (a4 j hj hz), fun j hj hz => (hd j hj).trans (a5 j hj hz), ?_⟩
  rw [hc t (Nat.le_refl t), hd t (Nat.le_refl t)]
  exact J
theorem rb_SI_s {r t s s' : Nat} {p : Nat → Nat} (h : rb_SI g r t p s) (h1 : p t = g r → p (t + 1) = g r → s' = s) (h2 : ¬ (p t = g r ∧ p (t + 1) = g r) → s' = t + 1) : rb_SI g r (t + 1) p s' := by
  by_cases a : p t = g r ∧ p (t + 1) = g r
  · have e := h1 a.1 a.2
    subst e
    refine ⟨by have := h.1; omega, fun _ => ⟨fun j hj hl => ?_, (h.2 a.1).2⟩⟩
    by_cases z : j = t + 1
    · rw [z]; exact a.2
    · exact (h.2 a.1).1 j hj (by omega)
  · have e := h2 a
    subst e
    refine ⟨Nat.le_refl _, fun hz => ⟨fun j hj hl => ?_, Or.inr ?_⟩⟩
    · rw [show j = t + 1 by omega]; exact hz
    · rw [Nat.add_sub_cancel]; exact fun z => a ⟨z, hz⟩
theorem rb_TF {t s0 s1 x : Nat} {pc pd : Nat → Nat} {K paid : Nat → Nat} (hH : H < 100) (ht : t ≤ H) (i0 : rb_SI g 0 t pc s0) (i1 : rb_SI g 1 t pd s1)
    (hK : ∀ f, f < 4 → rb_IsK mv Op g H t (pc t) (pd t) (f % 2 = 1) (2 ≤ f) (K f))
    (q0 : paid 0 = t + t) (q1 : paid 1 = s0 + t) (q2 : paid 2 = t + s1) (q3 : paid 3 = s0 + s1)
    (hle : ∀ f, f < 4 → x ≤ paid f + K f) (hx : x = 1000 ∨ ∃ f, f < 4 ∧ x = paid f + K f) (y : Nat) (hy : y < 1000) : x ≤ y ↔ rb_EX mv Op g H t pc pd y := by
  have b0 := i0.1
  have b1 := i1.1
  constructor
  · intro hxy
    rcases hx with h | ⟨f, hf, e⟩
    · omega
    have hKf : K f < 1000 := by omega
    obtain ⟨u0, u1, a1, a2, a3, a4, a5, a6, a7, J⟩ := ((hK f hf).2 (K f) hKf).mp (Nat.le_refl _)
    have key : ∀ v0 v1, v0 ≤ H → v1 ≤ H → v0 + v1 ≤ y → (u0 = t ∧ v0 = s0 ∨ v0 = u0) → (u1 = t ∧ v1 = s1 ∨ v1 = u1) → rb_EX mv Op g H t pc pd y := by
      intro v0 v1 c1 c2 c3 c4 c5
      refine ⟨v0, v1, c1, c2, c3, fun j hj hz => ?_, fun j hj hz => ?_, rb_JF_mono J (fun i hi hz => ?_) (fun i hi hz => ?_)⟩
      · rcases c4 with ⟨e1, e2⟩ | e1
        · exact (i0.2 (J.2.2.2.1 (by omega))).1 j (by omega) hj
        · have : j = t := by omega
          rw [this]; exact J.2.2.2.1 (by omega)
      · rcases c5 with ⟨e1, e2⟩ | e1
        · exact (i1.2 (J.2.2.2.2.1 (by omega))).1 j (by omega) hj
        · have : j = t := by omega
          rw [this]; exact J.2.2.2.2.1 (by omega)
      · rcases c4 with ⟨e1, e2⟩ | e1 <;> omega
      · rcases c5 with ⟨e1, e2⟩ | e1 <;> omega
    have hf4 : f = 0 ∨ f = 1 ∨ f = 2 ∨ f = 3 := by omega
    rcases hf4 with rfl | rfl | rfl | rfl
    · exact key u0 u1 a2 a4 (by omega) (Or.inr rfl) (Or.inr rfl)
    · have := a5 rfl
      exact key s0 u1 (by omega) a4 (by omega) (Or.inl ⟨this, rfl⟩) (Or.inr rfl)
    · have := a6 (by omega)
      exact key u0 s1 a2 (by omega) (by omega) (Or.inr rfl) (Or.inl ⟨this, rfl⟩)
    · have := a5 rfl
      have := a6 (by omega)
      exact key s0 s1 (by omega) (by omega) (by omega) (Or.inl ⟨a5 rfl, rfl⟩) (Or.inl ⟨a6 (by omega), rfl⟩)
  · intro ⟨u0, u1, a1, a2, a3, a4, a5, J⟩
    have e0 : u0 < t → s0 ≤ u0 := by
      intro z
      have := i0.2 (a4 t (Nat.le_refl t) (by omega))
      rcases this.2 with h | h
      · omega
      · by_cases hh : s0 ≤ u0
        · exact hh
        · exact absurd (a4 (s0 - 1) (by omega) (by omega)) h
    have e1 : u1 < t → s1 ≤ u1 := by
      intro z
      have := i1.2 (a5 t (Nat.le_refl t) (by omega))
      rcases this.2 with h | h
      · omega
      · by_cases hh : s1 ≤ u1
        · exact hh
        · exact absurd (a5 (s1 - 1) (by omega) (by omega)) h
    have key : ∀ f v0 v1 z, f < 4 → t ≤ v0 → v0 ≤ H → t ≤ v1 → v1 ≤ H → (f % 2 = 1 → v0 = t) → (2 ≤ f → v1 = t) → (v0 = u0 ∨ u0 < t) → (v1 = u1 ∨ u1 < t) → v0 + v1 = z + 2 * t → z < 1000 → paid f + z ≤ y → x ≤ y := by
      intro f v0 v1 z hf c1 c2 c3 c4 c5 c6 c7 c8 c9 c10 c11
      have := ((hK f hf).2 z c10).mpr ⟨v0, v1, c1, c2, c3, c4, c5, c6, by omega, rb_JF_mono J (fun i hi hz => by omega) (fun i hi hz => by omega)⟩
      have := hle f hf
      omega
    by_cases z0 : u0 < t
    · have := e0 z0
      by_cases z1 : u1 < t
      · have := e1 z1
        exact key 3 t t 0 (by omega) (by omega) (by omega) (by omega) (by omega) (fun _ => rfl) (fun _ => rfl) (Or.inr z0) (Or.inr z1) (by omega) (by omega) (by omega)
      · exact key 1 t u1 (u1 - t) (by omega) (by omega) (by omega) (by omega) (by omega) (fun _ => rfl) (fun z => by omega) (Or.inr z0) (Or.inl rfl) (by omega) (by omega) (by omega)
    · by_cases z1 : u1 < t
      · have := e1 z1
        exact key 2 u0 t (u0 - t) (by omega) (by omega) (by omega) (by omega) (by omega) (fun z => by omega) (fun _ => rfl) (Or.inl rfl) (Or.inr z1) (by omega) (by omega) (by omega)
      · exact key 0 u0 u1 (u0 - t + (u1 - t)) (by omega) (by omega) (by omega) (by omega) (by omega) (fun z => by omega) (fun z => by omega) (Or.inl rfl) (Or.inl rfl) (by omega) (by omega) (by omega)
theorem rb_EX_back {t y : Nat} {pc pd cs : Nat → Nat} (M : rb_MV mv Op) (ht : t < H) (hp : rb_PV mv Op (t + 1) pc pd cs) (h : rb_EX mv Op g H (t + 1) pc pd y) : rb_EX mv Op g H t pc pd y := by
  obtain ⟨u0, u1, a1, a2, a3, a4, a5, J⟩ := h
  have hs := hp.2 t (by omega)
  have ho := hp.1 t (by omega)
  exact ⟨u0, u1, a1, a2, a3, fun j hj => a4 j (by omega), fun j hj => a5 j (by omega),
    (rb_JF_s M ht).mpr ⟨ho.1, ho.2.1, ho.2.2, a4 t (by omega), a5 t (by omega), cs t / 5, cs t % 5, _, _, by omega, by omega, hs.2.1, hs.2.2.1, hs.2.2.2.2, J⟩⟩
theorem rb_EX_0 {y : Nat} {pc pd cs : Nat → Nat} (M : rb_MV mv Op) : ∀ t, t ≤ H → rb_PV mv Op t pc pd cs → rb_EX mv Op g H t pc pd y → rb_KS mv Op g H 0 (pc 0) (pd 0) False False y := by
  intro t
  induction t with
  | zero =>
    intro _ _ ⟨u0, u1, a1, a2, a3, a4, a5, J⟩
    exact ⟨u0, u1, Nat.zero_le _, a1, Nat.zero_le _, a2, fun z => z.elim, fun z => z.elim, by omega, J⟩
  | succ t ih =>
    intro ht hp h
    exact ih (by omega) ⟨fun j hj => hp.1 j (by omega), fun j hj => hp.2 j (by omega)⟩ (rb_EX_back M (by omega) hp h)
end
end
section
/-! plans: what the trace and the tries keep is the least of one set -/
section
variable (mv : Nat → Nat → Nat → Nat → Nat → Prop) (Op : Nat → Nat → Nat → Prop) (g : Nat → Nat) (H : Nat)
def rb_ext (p : Nat → Nat) (t c : Nat) : Nat → Nat := fun j => if j ≤ t then p j else c
/-- the trace may take moves m at tick t -/
def rb_AC (t : Nat) (pc pd : Nat → Nat) (m L : Nat) : Prop :=
  ∃ c d, rb_s0 mv t (pc t) (pd t) m c d ∧ rb_EX mv Op g H (t + 1) (rb_ext pc t c) (rb_ext pd t d) L
/-- z is the code sequence of a plan with arrivals at most u0, u1 -/
def rb_PL (s0 s1 u0 u1 : Nat) (z : Nat → Nat) : Prop :=
  (u0 = 0 → s0 = g 0) ∧ (u1 = 0 → s1 = g 1) ∧ ∃ qs : Nat → Nat × Nat, qs 0 = (s0, s1) ∧ ∀ i, i < H → z i < 25 ∧ rb_s3 mv g u0 u1 i (qs i) (z i) (qs (i + 1))
def rb_UB (s0 s1 B : Nat) (z : Nat → Nat) : Prop := ∃ u0 u1, u0 ≤ H ∧ u1 ≤ H ∧ u0 + u1 ≤ B ∧ rb_PL mv g H s0 s1 u0 u1 z
/-- those with a split below due -/
def rb_UD (s0 s1 B due : Nat) (z : Nat → Nat) : Prop := ∃ u, u < due ∧ u ≤ H ∧ u ≤ B ∧ B - u ≤ H ∧ rb_PL mv g H s0 s1 u (B - u) z
/-- a try of the reference: who 1 robot 0 alone, 2 robot 1 alone, 3 both -/
def rb_sY (who u0 u1 t : Nat) (s : Nat × Nat) (m : Nat) (s' : Nat × Nat) : Prop :=
  (who ≠ 2 → mv 0 t s.1 (m / 5) s'.1 ∧ (u0 ≤ t + 1 → s'.1 = g 0)) ∧ (who = 2 → m / 5 = 0 ∧ s'.1 = s.1) ∧
  (who ≠ 1 → mv 1 t s.2 (m % 5) s'.2 ∧ (u1 ≤ t + 1 → s'.2 = g 1)) ∧ (who = 1 → m % 5 = 0 ∧ s'.2 = s.2) ∧
  (who = 3 → s'.1 ≠ s'.2 ∧ ¬ (s'.1 = s.2 ∧ s'.2 = s.1))
def rb_i0 (who u0 u1 s0 s1 : Nat) : Prop := (who ≠ 2 → Op 0 0 s0 ∧ (u0 ≤ 0 → s0 = g 0)) ∧ (who ≠ 1 → Op 1 0 s1 ∧ (u1 ≤ 0 → s1 = g 1))
end
theorem rb_ext_le {p : Nat → Nat} {t c j : Nat} (h : j ≤ t) : rb_ext p t c j = p j := if_pos h
theorem rb_ext_s {p : Nat → Nat} {t c : Nat} : rb_ext p t c (t + 1) = c := if_neg (by omega)
section
variable {mv : Nat → Nat → Nat → Nat → Nat → Prop} {Op : Nat → Nat → Nat → Prop} {g : Nat → Nat} {H : Nat}
theorem rb_s3_det {u0 u1 v0 v1 t m : Nat} {s s' s'' : Nat × Nat} (M : rb_MV mv Op) (h : rb_s3 mv g u0 u1 t s m s') (h' : rb_s3 mv g v0 v1 t s m s'') : s' = s'' :=
  Prod.ext (M.1 _ _ _ _ _ _ h.1 h'.1) (M.1 _ _ _ _ _ _ h.2.1 h'.2.1)
theorem rb_PL_mono {s0 s1 u0 u1 v0 v1 : Nat} {z : Nat → Nat} (h0 : u0 ≤ v0) (h1 : u1 ≤ v1) (h : rb_PL mv g H s0 s1 u0 u1 z) : rb_PL mv g H s0 s1 v0 v1 z := by
  obtain ⟨a1, a2, qs, a3, a4⟩ := h
  refine ⟨fun z => a1 (by omega), fun z => a2 (by omega), qs, a3, fun i hi => ⟨(a4 i hi).1, ?_⟩⟩
  obtain ⟨b1, b2, b3, b4, b5⟩ := (a4 i hi).2
  exact ⟨b1, b2, fun z => b3 (by omega), fun z => b4 (by omega), b5⟩
theorem rb_UD_all {s0 s1 B : Nat} (hB : B ≤ 2 * H) (z : Nat → Nat) : rb_UD mv g H s0 s1 B (H + 1) z ↔ rb_UB mv g H s0 s1 B z := by
  constructor
  · intro ⟨u, _, a1, a2, a3, h⟩
    exact ⟨u, B - u, a1, a3, by omega, h⟩
  · intro ⟨u0, u1, a1, a2, a3, h⟩
    by_cases c : B - H ≤ u0
    · exact ⟨u0, by omega, a1, by omega, by omega, rb_PL_mono (Nat.le_refl _) (by omega) h⟩
    · exact ⟨B - H, by omega, by omega, by omega, by omega, rb_PL_mono (by omega) (by omega) h⟩
theorem rb_UD_s {s0 s1 B due : Nat} (z : Nat → Nat) : rb_UD mv g H s0 s1 B (due + 1) z ↔ rb_UD mv g H s0 s1 B due z ∨ (due ≤ H ∧ due ≤ B ∧ B - due ≤ H ∧ rb_PL mv g H s0 s1 due (B - due) z) := by
  constructor
  · intro ⟨u, a1, a2, a3, a4, h⟩
    by_cases c : u = due
    · subst c; exact Or.inr ⟨a2, a3, a4, h⟩
    · exact Or.inl ⟨u, by omega, a2, a3, a4, h⟩
  · intro h
    rcases h with ⟨u, a1, a2, a3, a4, h⟩ | ⟨a2, a3, a4, h⟩
    · exact ⟨u, by omega, a2, a3, a4, h⟩
    · exact ⟨due, by omega, a2, a3, a4, h⟩
theorem rb_PL_goal0 {s0 s1 u0 u1 j : Nat} {z : Nat → Nat} {qs : Nat → Nat × Nat} (h1 : u0 = 0 → s0 = g 0) (h3 : qs 0 = (s0, s1))
    (h4 : ∀ i, i < H → z i < 25 ∧ rb_s3 mv g u0 u1 i (qs i) (z i) (qs (i + 1))) (hj : j ≤ H) (hu : u0 ≤ j) : (qs j).1 = g 0 := by
  cases j with
  | zero => rw [h3]; exact h1 (by omega)
  | succ j => exact (h4 j (by omega)).2.2.2.1 hu
theorem rb_PL_goal1 {s0 s1 u0 u1 j : Nat} {z : Nat → Nat} {qs : Nat → Nat × Nat} (h1 : u1 = 0 → s1 = g 1) (h3 : qs 0 = (s0, s1))
    (h4 : ∀ i, i < H → z i < 25 ∧ rb_s3 mv g u0 u1 i (qs i) (z i) (qs (i + 1))) (hj : j ≤ H) (hu : u1 ≤ j) : (qs j).2 = g 1 := by
  cases j with
  | zero => rw [h3]; exact h1 (by omega)
  | succ j => exact (h4 j (by omega)).2.2.2.2.1 hu
theorem rb_X_lm {s0 s1 L : Nat} {pc pd cs : Nat → Nat} (M : rb_MV mv Op) (e0 : pc 0 = s0) (e1 : pd 0 = s1) (hp : rb_PV mv Op H pc pd cs) (hE : rb_EX mv Op g H H pc pd L)
    (hm : ∀ t, t < H → ∀ m, m < cs t → ¬ rb_AC mv Op g H t pc pd m L) : rb_lm H (rb_UB mv g H s0 s1 L) cs := by
  constructor
  · obtain ⟨u0, u1, a1, a2, a3, a4, a5, J⟩ := hE
    refine ⟨u0, u1, a1, a2, a3, fun z => ?_, fun z => ?_, fun i => (pc i, pd i), ?_, fun i hi => ?_⟩
    · rw [← e0]; exact a4 0 (by omega) (by omega)
    · rw [← e1]; exact a5 0 (by omega) (by omega)
    · show (pc 0, pd 0) = _; rw [e0, e1]
    · obtain ⟨b1, b2, b3, b4, b5⟩ := hp.2 i hi
      exact ⟨b1, b2, b3, fun z => a4 _ (by omega) z, fun z => a5 _ (by omega) z, b4, b5⟩
  · intro y ⟨u0, u1, a1, a2, a3, c1, c2, qs, c3, c4⟩ t ht hpre
    by_cases hlt : cs t ≤ y t
    · exact hlt
    exfalso
    have hpos : ∀ i, i ≤ t → qs i = (pc i, pd i) := by
      intro i
      induction i with
      | zero => intro _; rw [c3, e0, e1]
      | succ i ih =>
        intro hi
        have s1 := (c4 i (by omega)).2
        rw [ih (by omega), hpre i (by omega)] at s1
        obtain ⟨b1, b2, b3, b4, b5⟩ := hp.2 i (by omega)
        exact Prod.ext (M.1 _ _ _ _ _ _ s1.1 b2) (M.1 _ _ _ _ _ _ s1.2.1 b3)
    refine hm t ht (y t) (by omega) ⟨(qs (t + 1)).1, (qs (t + 1)).2, ?_, u0, u1, a1, a2, a3, fun j hj hz => ?_, fun j hj hz => ?_, ?_⟩
    · have s1 := (c4 t ht).2
      rw [hpos t (Nat.le_refl t)] at s1
      exact ⟨s1.1, s1.2.1, s1.2.2.2.2.1, s1.2.2.2.2.2⟩
    · by_cases z : j ≤ t
      · rw [rb_ext_le z]
        have := rb_PL_goal0 c1 c3 c4 (by omega : j ≤ H) hz
        rw [hpos j z] at this
        exact this
      · rw [show j = t + 1 by omega, rb_ext_s]
        exact rb_PL_goal0 c1 c3 c4 (by omega) (by omega)
    · by_cases z : j ≤ t
      · rw [rb_ext_le z]
        have := rb_PL_goal1 c2 c3 c4 (by omega : j ≤ H) hz
        rw [hpos j z] at this
        exact this
      · rw [show j = t + 1 by omega, rb_ext_s]
        exact rb_PL_goal1 c2 c3 c4 (by omega) (by omega)
    · rw [rb_ext_s, rb_ext_s]
      have s1 := (c4 t ht).2
      refine ⟨M.2.2.1 _ _ _ _ _ s1.1, M.2.2.1 _ _ _ _ _ s1.2.1, s1.2.2.2.2.1, s1.2.2.1, s1.2.2.2.1, ?_⟩
      exact rb_ok_plan y qs (H - (t + 1)) (t + 1) (fun i h1 h2 => c4 i (by omega))
theorem rb_dfs_lm {α : Type} {St : Nat → α → Nat → α → Prop} {N : Nat} {s0 : α} (det : ∀ t s m s' s'', St t s m s' → St t s m s'' → s' = s'') (cs : Nat → Nat) (ps : Nat → α) (h0 : ps 0 = s0)
    (hs : ∀ i, i < H → cs i < N ∧ St i (ps i) (cs i) (ps (i + 1))) (hm : ∀ i, i < H → ∀ m, m < cs i → ∀ s', St i (ps i) m s' → ¬ rb_ok St N (H - (i + 1)) (i + 1) s') :
    rb_lm H (fun z => ∃ qs : Nat → α, qs 0 = s0 ∧ ∀ i, i < H → z i < N ∧ St i (qs i) (z i) (qs (i + 1))) cs := by
  refine ⟨⟨ps, h0, hs⟩, ?_⟩
  intro y ⟨qs, c3, c4⟩ t ht hpre
  by_cases hlt : cs t ≤ y t
  · exact hlt
  exfalso
  have hpos : ∀ i, i ≤ t → qs i = ps i := by
    intro i
    induction i with
    | zero => intro _; rw [c3, h0]
    | succ i ih =>
      intro hi
      have s1 := (c4 i (by omega)).2
      rw [ih (by omega), hpre i (by omega)] at s1
      exact det _ _ _ _ _ s1 (hs i (by omega)).2
  have s1 := (c4 t ht).2
  rw [hpos t (Nat.le_refl t)] at s1
  exact hm t ht (y t) (by omega) _ s1 (rb_ok_plan y qs (H - (t + 1)) (t + 1) (fun i h1 h2 => c4 i (by omega)))
theorem rb_sY_det {who u0 u1 t m : Nat} {s s' s'' : Nat × Nat} (M : rb_MV mv Op) (h : rb_sY mv g who u0 u1 t s m s') (h' : rb_sY mv g who u0 u1 t s m s'') : s' = s'' := by
  have e1 : s'.1 = s''.1 := by
    by_cases z : who = 2
    · rw [(h.2.1 z).2, (h'.2.1 z).2]
    · exact M.1 _ _ _ _ _ _ (h.1 z).1 (h'.1 z).1
  have e2 : s'.2 = s''.2 := by
    by_cases z : who = 1
    · rw [(h.2.2.2.1 z).2, (h'.2.2.2.1 z).2]
    · exact M.1 _ _ _ _ _ _ (h.2.2.1 z).1 (h'.2.2.1 z).1
  exact Prod.ext e1 e2
theorem rb_sY_3 {u0 u1 t m : Nat} {s s' : Nat × Nat} : rb_sY mv g 3 u0 u1 t s m s' ↔ rb_s3 mv g u0 u1 t s m s' := by
  constructor
  · intro h
    have a := h.1 (by decide)
    have b := h.2.2.1 (by decide)
    have c := h.2.2.2.2 rfl
    exact ⟨a.1, b.1, a.2, b.2, c.1, c.2⟩
  · intro ⟨h1, h2, h3, h4, h5, h6⟩
    exact ⟨fun _ => ⟨h1, h3⟩, fun z => absurd z (by decide), fun _ => ⟨h2, h4⟩, fun z => absurd z (by decide), fun _ => ⟨h5, h6⟩⟩
theorem rb_Y1 {u v s0 s1 : Nat} : (rb_i0 Op g 1 u v s0 s1 ∧ rb_ok (rb_sY mv g 1 u v) 25 H 0 (s0, s1)) ↔ rb_LF mv Op g H 0 0 s0 u := by
  unfold rb_LF
  rw [Nat.sub_zero]
  constructor
  · intro ⟨h1, h2⟩
    have a := h1.1 (by decide)
    exact ⟨a.1, a.2, rb_ok_map (fun (s : Nat × Nat) q => s.1 = q) (fun t s m s' q hm hr hs => ⟨m / 5, by omega, s'.1, hr ▸ hs.1 (by decide), rfl⟩) _ _ _ _ rfl h2⟩
  · intro ⟨h1, h2, h3⟩
    refine ⟨⟨fun _ => ⟨h1, h2⟩, fun z => absurd rfl z⟩, ?_⟩
    refine rb_ok_map (fun s (q : Nat × Nat) => q = (s, s1)) (fun t s m s' q hm hr hs => ⟨5 * m, by omega, (s', s1), ?_, rfl⟩) _ _ _ _ rfl h3
    subst hr
    refine ⟨fun _ => ?_, fun z => absurd z (by decide), fun z => absurd rfl z, fun _ => ⟨by omega, rfl⟩, fun z => absurd z (by decide)⟩
    rw [show 5 * m / 5 = m by omega]
    exact hs
theorem rb_Y2 {u v s0 s1 : Nat} : (rb_i0 Op g 2 u v s0 s1 ∧ rb_ok (rb_sY mv g 2 u v) 25 H 0 (s0, s1)) ↔ rb_LF mv Op g H 1 0 s1 v := by
  unfold rb_LF
  rw [Nat.sub_zero]
  constructor
  · intro ⟨h1, h2⟩
    have a := h1.2 (by decide)
    exact ⟨a.1, a.2, rb_ok_map (fun (s : Nat × Nat) q => s.2 = q) (fun t s m s' q hm hr hs => ⟨m % 5, by omega, s'.2, hr ▸ hs.2.2.1 (by decide), rfl⟩) _ _ _ _ rfl h2⟩
  · intro ⟨h1, h2, h3⟩
    refine ⟨⟨fun z => absurd rfl z, fun _ => ⟨h1, h2⟩⟩, ?_⟩
    refine rb_ok_map (fun s (q : Nat × Nat) => q = (s0, s)) (fun t s m s' q hm hr hs => ⟨m, by omega, (s0, s'), ?_, rfl⟩) _ _ _ _ rfl h3
    subst hr
    refine ⟨fun z => absurd rfl z, fun _ => ⟨by omega, rfl⟩, fun _ => ?_, fun z => absurd z (by decide), fun z => absurd z (by decide)⟩
    rw [show m % 5 = m by omega]
    exact hs
/-- a try for both that ends well keeps the least plan; one that fails shows that there is none -/
theorem rb_Y3_lm {u0 u1 s0 s1 : Nat} (M : rb_MV mv Op) (hi : rb_i0 Op g 3 u0 u1 s0 s1) (cs : Nat → Nat) (ps : Nat → Nat × Nat) (h0 : ps 0 = (s0, s1))
    (hs : ∀ i, i < H → cs i < 25 ∧ rb_sY mv g 3 u0 u1 i (ps i) (cs i) (ps (i + 1))) (hm : ∀ i, i < H → ∀ m, m < cs i → ∀ s', rb_sY mv g 3 u0 u1 i (ps i) m s' → ¬ rb_ok (rb_sY mv g 3 u0 u1) 25 (H - (i + 1)) (i + 1) s') :
    rb_lm H (rb_PL mv g H s0 s1 u0 u1) cs := by
  refine rb_lm_iff (rb_dfs_lm (St := rb_sY mv g 3 u0 u1) (N := 25) (fun t s m s' s'' => rb_sY_det M) cs ps h0 hs hm) (fun z => ⟨?_, ?_⟩)
  · intro ⟨qs, a1, a2⟩
    exact ⟨fun z => (hi.1 (by decide)).2 (by omega), fun z => (hi.2 (by decide)).2 (by omega), qs, a1, fun i hi => ⟨(a2 i hi).1, rb_sY_3.mp (a2 i hi).2⟩⟩
  · intro ⟨_, _, qs, a1, a2⟩
    exact ⟨qs, a1, fun i hi => ⟨(a2 i hi).1, rb_sY_3.mpr (a2 i hi).2⟩⟩
theorem rb_Y3_no {u0 u1 s0 s1 : Nat} (o0 : Op 0 0 s0) (o1 : Op 1 0 s1) (h : ¬ (rb_i0 Op g 3 u0 u1 s0 s1 ∧ rb_ok (rb_sY mv g 3 u0 u1) 25 H 0 (s0, s1))) (z : Nat → Nat) : ¬ rb_PL mv g H s0 s1 u0 u1 z := by
  intro ⟨a1, a2, qs, a3, a4⟩
  refine h ⟨⟨fun _ => ⟨o0, fun z => a1 (by omega)⟩, fun _ => ⟨o1, fun z => a2 (by omega)⟩⟩, ?_⟩
  have := rb_ok_plan (St := rb_sY mv g 3 u0 u1) (N := 25) z qs H 0 (fun i _ hi => ⟨(a4 i (by omega)).1, rb_sY_3.mpr (a4 i (by omega)).2⟩)
  rw [a3] at this
  exact this
end
end
section
/-! the grid, the rules, numbers -/
abbrev rb_A14 : Type := (Nat → Int32) → (Nat → Int32) → (Nat → Int32) → (Nat → Int32) → (Nat → Int32) → (Nat → Int32) → (Nat → Int32) → (Nat → Int32) → (Nat → Int32) → (Nat → Int32) → (Nat → Int32) → (Nat → Int32) → (Nat → Int32) → (Nat → Int32) → Prop
abbrev rb_S21 : Type := Int32 → Int32 → Int32 → Int32 → Int32 → Int32 → Int32 → rb_A14
abbrev rb_A11 : Type := (Nat → Int32) → (Nat → Int32) → (Nat → Int32) → (Nat → Int32) → (Nat → Int32) → (Nat → Int32) → (Nat → Int32) → (Nat → Int32) → (Nat → Int32) → (Nat → Int32) → (Nat → Int32) → Prop
abbrev rb_S17 : Type := Int32 → Int32 → Int32 → Int32 → Int32 → Int32 → rb_A11
def rb_cl (w c : Nat) : Nat := if 2 * w ≤ c then c - 2 * w else if w ≤ c then c - w else c
/-- the cell that a move leads to -/
def rb_tg (w C c d : Nat) : Option Nat :=
  if (d = 2 ∧ rb_cl w c + 1 = w) ∨ (d = 4 ∧ rb_cl w c = 0) then none
  else if d = 1 then (if w ≤ c then some (c - w) else none)
  else if d = 2 then (if c + 1 < C then some (c + 1) else none)
  else if d = 3 then (if c + w < C then some (c + w) else none)
  else if d = 4 then (if 1 ≤ c then some (c - 1) else none)
  else some c
def rb_cd (r c d t : Nat) : Nat := ((r * 16 + c) * 5 + d) * 16 + t
def rb_HR (rules : Nat → Int32) (rc : Nat) (x : Int32) : Prop := ∃ i, i < rc ∧ rules i = x
def rb_Op (walls rules : Nat → Int32) (rc C r t c : Nat) : Prop := c < C ∧ walls c = 0 ∧ ¬ rb_HR rules rc (nI (rb_cd r c 0 t))
def rb_mv (walls rules : Nat → Int32) (rc w C r t c d c' : Nat) : Prop :=
  rb_tg w C c d = some c' ∧ (0 < d → ¬ rb_HR rules rc (nI (rb_cd r c d t))) ∧ rb_Op walls rules rc C r (t + 1) c'
theorem rb_tg_0 {w C c : Nat} : rb_tg w C c 0 = some c := by
  unfold rb_tg
  simp
theorem rb_tg_ne {w C c d : Nat} (hw : 1 ≤ w) (hd : d < 5) (h : rb_tg w C c d = some c) : d = 0 := by
  unfold rb_tg at h
  have h5 : d = 0 ∨ d = 1 ∨ d = 2 ∨ d = 3 ∨ d = 4 := by omega
  rcases h5 with rfl | rfl | rfl | rfl | rfl
  · rfl
  · simp at h <;> omega
  · simp at h <;> omega
  · simp at h <;> omega
  · simp at h <;> omega
theorem rb_tg_lt {w C c d c' : Nat} (hc : c < C) (h : rb_tg w C c d = some c') : c' < C := by
  unfold rb_tg at h
  split at h
  · cases h
  split at h
  · split at h
    · cases h; omega
    · cases h
  split at h
  · split at h
    · cases h; omega
    · cases h
  split at h
  · split at h
    · cases h; omega
    · cases h
  split at h
  · split at h
    · cases h; omega
    · cases h
  cases h
  exact hc
theorem rb_isMV {walls rules : Nat → Int32} {rc w C : Nat} (hw : 1 ≤ w) : rb_MV (rb_mv walls rules rc w C) (rb_Op walls rules rc C) := by
  refine ⟨fun r t c d c' c'' h h' => ?_, fun r t c d h hd => rb_tg_ne hw hd h.1, fun r t c d c' h => h.2.2, fun r t c h => ⟨rb_tg_0, fun z => absurd z (Nat.lt_irrefl 0), h⟩⟩
  have e := h.1.symm.trans h'.1
  cases e
  rfl
theorem rb_spot (r t c : Nat) : ((nI r * 13) + nI t) * 15 + nI c = nI ((r * 13 + t) * 15 + c) := by
  rw [show (13 : Int32) = nI 13 from rfl, show (15 : Int32) = nI 15 from rfl, pk_mul, nI_add, pk_mul, nI_add]
theorem rb_code (r c d t : Nat) : ((((nI r * 16) + nI c) * 5) + nI d) * 16 + nI t = nI (rb_cd r c d t) := by
  rw [show (16 : Int32) = nI 16 from rfl, show (5 : Int32) = nI 5 from rfl, pk_mul, nI_add, pk_mul, nI_add, pk_mul, nI_add]
  rfl
theorem rb_jix (t a b f : Nat) : ((((nI t * 15) + nI a) * 15) + nI b) * 4 + nI f = nI (((t * 15 + a) * 15 + b) * 4 + f) := by
  rw [show (15 : Int32) = nI 15 from rfl, show (4 : Int32) = nI 4 from rfl, pk_mul, nI_add, pk_mul, nI_add, pk_mul, nI_add]
theorem rb_m5 (a b : Nat) : nI a * 5 + nI b = nI (a * 5 + b) := by
  rw [show (5 : Int32) = nI 5 from rfl, pk_mul, nI_add]
theorem rb_x5 (a : Nat) : nI a * 5 = nI (a * 5) := by
  rw [show (5 : Int32) = nI 5 from rfl, pk_mul]
theorem rb_x13 (a : Nat) : nI a * 13 = nI (a * 13) := by
  rw [show (13 : Int32) = nI 13 from rfl, pk_mul]
theorem rb_b0 : vp_nar .boolean 0 = 0 := rfl
theorem rb_b1 : vp_nar .boolean 1 = 1 := rfl
theorem rb_neg1 : (-1 : Int32) < 0 := by decide
theorem rb_nIneg {n : Nat} (h : n < 2 ^ 31) : nI n ≠ -1 := fun e => by
  have := nI_pos (n := n) h
  rw [e] at this
  exact this rb_neg1
/-- a changes to a' only within lo .. hi -/
def rb_FR (lo hi : Nat) (a a' : Nat → Int32) : Prop := ∀ i, i < lo ∨ hi ≤ i → a' i = a i
theorem rb_FR_rf {lo hi : Nat} {a : Nat → Int32} : rb_FR lo hi a a := fun _ _ => rfl
theorem rb_FR_upd {lo hi k : Nat} {a a' : Nat → Int32} {v : Int32} (h : rb_FR lo hi a a') (h1 : lo ≤ k) (h2 : k < hi) : rb_FR lo hi a (upd a' k v) :=
  fun i hi => (pk_un (by omega)).trans (h i hi)
/-- an entry of the table of neighbours, of free spots, of moves -/
def rb_NB (w C : Nat) (a : Nat → Int32) (c d : Nat) : Prop :=
  (rb_tg w C c d = none ∧ a (c * 5 + d) = -1) ∨ ∃ c', rb_tg w C c d = some c' ∧ a (c * 5 + d) = nI c'
def rb_OT (Op : Nat → Nat → Nat → Prop) (a : Nat → Int32) (r t c : Nat) : Prop := a ((r * 13 + t) * 15 + c) ≠ 0 ↔ Op r t c
def rb_NT (mv : Nat → Nat → Nat → Nat → Nat → Prop) (a : Nat → Int32) (r t c d : Nat) : Prop :=
  (∃ c', mv r t c d c' ∧ a (((r * 13 + t) * 15 + c) * 5 + d) = nI c') ∨ ((∀ c', ¬ mv r t c d c') ∧ a (((r * 13 + t) * 15 + c) * 5 + d) = -1)
def rb_ET (mv : Nat → Nat → Nat → Nat → Nat → Prop) (Op : Nat → Nat → Nat → Prop) (g : Nat → Nat) (H : Nat) (a : Nat → Int32) (r t c : Nat) : Prop :=
  ∃ x, a ((r * 13 + t) * 15 + c) = nI x ∧ rb_IsE mv Op g H r t c x
def rb_CT (mv : Nat → Nat → Nat → Nat → Nat → Prop) (Op : Nat → Nat → Nat → Prop) (g : Nat → Nat) (H : Nat) (a : Nat → Int32) (t c d f : Nat) : Prop :=
  ∃ x, a (((t * 15 + c) * 15 + d) * 4 + f) = nI x ∧ rb_IsK mv Op g H t c d (f % 2 = 1) (2 ≤ f) x
theorem rb_OT_upd {Op : Nat → Nat → Nat → Prop} {a : Nat → Int32} {C r t i : Nat} {v : Int32} (hC : C ≤ 15) (hi : i < C) (h : ∀ t' c', c' < C → (t' < t ∨ (t' = t ∧ c' < i)) → rb_OT Op a r t' c') (hv : v ≠ 0 ↔ Op r t i) :
    ∀ t' c', c' < C → (t' < t ∨ (t' = t ∧ c' < i + 1)) → rb_OT Op (upd a ((r * 13 + t) * 15 + i) v) r t' c' := by
  intro t' c' hc' hb
  unfold rb_OT
  by_cases e : t' = t ∧ c' = i
  · rw [e.1, e.2, pk_us]; exact hv
  · rw [pk_un (by omega)]; exact h t' c' hc' (by omega)
theorem rb_NT_upd {mv : Nat → Nat → Nat → Nat → Nat → Prop} {a : Nat → Int32} {C r t i k : Nat} {v : Int32} (hC : C ≤ 15) (hi : i < C) (hk : k < 5)
    (h : ∀ t' c' d', c' < C → d' < 5 → (t' < t ∨ (t' = t ∧ (c' < i ∨ (c' = i ∧ d' < k)))) → rb_NT mv a r t' c' d')
    (hv : (∃ c', mv r t i k c' ∧ v = nI c') ∨ ((∀ c', ¬ mv r t i k c') ∧ v = -1)) :
    ∀ t' c' d', c' < C → d' < 5 → (t' < t ∨ (t' = t ∧ (c' < i ∨ (c' = i ∧ d' < k + 1)))) → rb_NT mv (upd a (((r * 13 + t) * 15 + i) * 5 + k) v) r t' c' d' := by
  intro t' c' d' hc' hd' hb
  unfold rb_NT
  by_cases e : t' = t ∧ c' = i ∧ d' = k
  · rw [e.1, e.2.1, e.2.2, pk_us]; exact hv
  · rw [pk_un (by omega)]; exact h t' c' d' hc' hd' (by omega)
theorem rb_ET_upd {mv : Nat → Nat → Nat → Nat → Nat → Prop} {Op : Nat → Nat → Nat → Prop} {g : Nat → Nat} {H : Nat} {a : Nat → Int32} {C r t i x : Nat} (hC : C ≤ 15) (hi : i < C)
    (h : ∀ t' c', c' < C → t' ≤ H → (t < t' ∨ (t' = t ∧ c' < i)) → rb_ET mv Op g H a r t' c') (hv : rb_IsE mv Op g H r t i x) :
    ∀ t' c', c' < C → t' ≤ H → (t < t' ∨ (t' = t ∧ c' < i + 1)) → rb_ET mv Op g H (upd a ((r * 13 + t) * 15 + i) (nI x)) r t' c' := by
  intro t' c' hc' ht' hb
  unfold rb_ET
  by_cases e : t' = t ∧ c' = i
  · rw [e.1, e.2, pk_us]; exact ⟨x, rfl, hv⟩
  · rw [pk_un (by omega)]; exact h t' c' hc' ht' (by omega)
theorem rb_CT_upd {mv : Nat → Nat → Nat → Nat → Nat → Prop} {Op : Nat → Nat → Nat → Prop} {g : Nat → Nat} {H : Nat} {a : Nat → Int32} {t i j k x : Nat} (hi : i < 15) (hj : j < 15) (hk : k < 4)
    {t' c' d' f' : Nat} (hc : c' < 15) (hd : d' < 15) (hf : f' < 4) (h : (t' = t ∧ c' = i ∧ d' = j ∧ f' = k) ∨ rb_CT mv Op g H a t' c' d' f') (hv : rb_IsK mv Op g H t i j (k % 2 = 1) (2 ≤ k) x) :
    rb_CT mv Op g H (upd a (((t * 15 + i) * 15 + j) * 4 + k) (nI x)) t' c' d' f' := by
  unfold rb_CT
  by_cases e : t' = t ∧ c' = i ∧ d' = j ∧ f' = k
  · rw [e.1, e.2.1, e.2.2.1, e.2.2.2, pk_us]; exact ⟨x, rfl, hv⟩
  · rw [pk_un (by omega)]
    rcases h with h | h
    · exact absurd h e
    · exact h
end
section
/-! the component's walks: small methods, the tables of one robot -/
section
variable {f_never f_status f_bound f_leastTotal : Int32} {a_neighbour a_walls a_placed a_starts a_goals a_rules a_open a_next a_earliest a_solo a_cost a_plan a_since a_done : Nat → Int32} {w C H rc : Nat}
theorem rb_xSpot {post : Int32 → Prop} {r t c : Nat} (h : post (nI ((r * 13 + t) * 15 + c))) : wpX_spot post (f_never, nI C, nI H, nI rc, f_status, f_bound, f_leastTotal, a_neighbour, a_walls, a_placed, a_starts, a_goals, a_rules, a_open, a_next, a_earliest, a_solo, a_cost, a_plan, a_since, a_done) (nI r) (nI t) (nI c) := by
  show post (((nI r * 13) + nI t) * 15 + nI c)
  rw [rb_spot]; exact h
theorem rb_xSpotS {post : Int32 → Prop} {r t c : Nat} (h : post (nI ((r * 13 + (t + 1)) * 15 + c))) : wpX_spot post (f_never, nI C, nI H, nI rc, f_status, f_bound, f_leastTotal, a_neighbour, a_walls, a_placed, a_starts, a_goals, a_rules, a_open, a_next, a_earliest, a_solo, a_cost, a_plan, a_since, a_done) (nI r) (nI t + 1) (nI c) := by
  rw [nI_1]; exact rb_xSpot h
theorem rb_xEncode {post : Int32 → Prop} {r c d t : Nat} (h : post (nI (rb_cd r c d t))) : wpX_encode post (f_never, nI C, nI H, nI rc, f_status, f_bound, f_leastTotal, a_neighbour, a_walls, a_placed, a_starts, a_goals, a_rules, a_open, a_next, a_earliest, a_solo, a_cost, a_plan, a_since, a_done) (nI r) (nI c) (nI d) (nI t) := by
  show post (((((nI r * 16) + nI c) * 5) + nI d) * 16 + nI t)
  rw [rb_code]; exact h
theorem rb_xJix {post : Int32 → Prop} {t a b f : Nat} (h : post (nI (((t * 15 + a) * 15 + b) * 4 + f))) : wpX_jointIndex post (f_never, nI C, nI H, nI rc, f_status, f_bound, f_leastTotal, a_neighbour, a_walls, a_placed, a_starts, a_goals, a_rules, a_open, a_next, a_earliest, a_solo, a_cost, a_plan, a_since, a_done) (nI t) (nI a) (nI b) (nI f) := by
  show post (((((nI t * 15) + nI a) * 15) + nI b) * 4 + nI f)
  rw [rb_jix]; exact h
theorem rb_xSmaller {post : Int32 → Prop} {a b : Nat} (ha : a < 2 ^ 31) (hb : b < 2 ^ 31) (h : ∀ m, m ≤ a → m ≤ b → (m = a ∨ m = b) → post (nI m)) : wpX_smaller post (f_never, nI C, nI H, nI rc, f_status, f_bound, f_leastTotal, a_neighbour, a_walls, a_placed, a_starts, a_goals, a_rules, a_open, a_next, a_earliest, a_solo, a_cost, a_plan, a_since, a_done) (nI a) (nI b) :=
  pk_le b a (fun z => h b z (Nat.le_refl b) (Or.inr rfl)) (fun z => h a (Nat.le_refl a) (by omega) (Or.inl rfl))
theorem rb_xHas2 {post : Int32 → Prop} {x : Int32} (hrc : rc ≤ 8) (h1 : rb_HR a_rules rc x → post 1) (h0 : ¬ rb_HR a_rules rc x → post 0) :
    ∀ n i, i ≤ rc → rc - i < n → (∀ j, j < i → a_rules j ≠ x) → wX_hasRule_2 post x f_never (nI C) (nI H) (nI rc) f_status f_bound f_leastTotal a_neighbour a_walls a_placed a_starts a_goals a_rules a_open a_next a_earliest a_solo a_cost a_plan a_since a_done n (nI i) := by
  intro n
  induction n with
  | zero => intro i _ h; omega
  | succ n ih =>
    intro i hi hn hp
    refine pk_le rc i (fun h => h0 fun ⟨j, hj, e⟩ => hp j (by omega) e) (fun h => ⟨vp_in_nI (by omega) (by omega), br_c (fun e => h1 ⟨i, h, ?_⟩) (fun e => nm_r (nI_1 i) (ih (i + 1) (by omega) (by omega) fun j hj => ?_))⟩)
    · rw [nI_clamp (by omega)] at e; exact e
    · rw [nI_clamp (by omega)] at e
      by_cases z : j = i
      · rw [z]; exact e
      · exact hp j (by omega)
theorem rb_xHas {post : Int32 → Prop} {x : Int32} (hrc : rc ≤ 8) (h1 : rb_HR a_rules rc x → post 1) (h0 : ¬ rb_HR a_rules rc x → post 0) : wpX_hasRule post (f_never, nI C, nI H, nI rc, f_status, f_bound, f_leastTotal, a_neighbour, a_walls, a_placed, a_starts, a_goals, a_rules, a_open, a_next, a_earliest, a_solo, a_cost, a_plan, a_since, a_done) x :=
  ⟨rc + 1, rb_xHas2 hrc h1 h0 (rc + 1) 0 (Nat.zero_le _) (by omega) (fun j hj => absurd hj (Nat.not_lt_zero j))⟩
theorem rb_xOpen12 {post : SX → Prop} {J2 : Int32 → rb_A14}
    {a0 : Nat → Int32} {r t : Nat} (hr : r < 2) (ht : t < 13) (hC : C ≤ 15) (hrc : rc ≤ 8)
    (hJ : ∀ a_open, rb_FR (r * 195) (r * 195 + 195) a0 a_open → (∀ t' c', c' < C → (t' < t ∨ (t' = t ∧ c' < C)) → rb_OT (rb_Op a_walls a_rules rc C) a_open r t' c') → J2 (nI (t + 1)) a_neighbour a_walls a_placed a_starts a_goals a_rules a_open a_next a_earliest a_solo a_cost a_plan a_since a_done) :
    ∀ n i a_open, i ≤ C → C - i < n → rb_FR (r * 195) (r * 195 + 195) a0 a_open → (∀ t' c', c' < C → (t' < t ∨ (t' = t ∧ c' < i)) → rb_OT (rb_Op a_walls a_rules rc C) a_open r t' c') →
      wX_openCells_12 post J2 (nI r) (nI t) f_never (nI C) (nI H) (nI rc) f_status f_bound f_leastTotal n (nI i) a_neighbour a_walls a_placed a_starts a_goals a_rules a_open a_next a_earliest a_solo a_cost a_plan a_since a_done := by
  intro n
  induction n with
  | zero => intro i _ _ h; omega
  | succ n ih =>
    intro i a_open hi hn hf hp
    refine pk_le C i (fun h => nm_r (nI_1 t) (hJ a_open hf fun t' c' h1 h2 => hp t' c' h1 (by omega))) (fun h => ?_)
    refine rb_xEncode (d := 0) (rb_xSpot ⟨vp_in_nI (by omega) (by omega), br_c (fun e => ?_) (fun e => ?_)⟩)
    · rw [nI_clamp (by omega)] at e
      refine rb_xHas hrc (fun h1 => ?_) (fun h1 => ?_)
      · refine br_f (by decide) ⟨vp_in_nI (by omega) (by omega), nm_r (e' := upd a_open ((r * 13 + t) * 15 + i) 0) (by rw [nI_clamp (by omega), rb_b0]) (nm_r (nI_1 i) (ih (i + 1) _ (by omega) (by omega) (rb_FR_upd hf (by omega) (by omega)) (rb_OT_upd hC h hp ⟨fun z => absurd rfl z, fun z => absurd h1 z.2.2⟩)))⟩
      · refine br_t rfl ⟨vp_in_nI (by omega) (by omega), nm_r (e' := upd a_open ((r * 13 + t) * 15 + i) 1) (by rw [nI_clamp (by omega), rb_b1]) (nm_r (nI_1 i) (ih (i + 1) _ (by omega) (by omega) (rb_FR_upd hf (by omega) (by omega)) (rb_OT_upd hC h hp ⟨fun z => ⟨h, e, h1⟩, fun z => by decide⟩)))⟩
    · rw [nI_clamp (by omega)] at e
      exact ⟨vp_in_nI (by omega) (by omega), nm_r (e' := upd a_open ((r * 13 + t) * 15 + i) 0) (by rw [nI_clamp (by omega), rb_b0]) (nm_r (nI_1 i) (ih (i + 1) _ (by omega) (by omega) (rb_FR_upd hf (by omega) (by omega)) (rb_OT_upd hC h hp ⟨fun z => absurd rfl z, fun z => absurd z.2.1 e⟩)))⟩
theorem rb_xOpen2 {post : SX → Prop} {a0 : Nat → Int32} {r : Nat} (hr : r < 2) (hH : H ≤ 12) (hC : C ≤ 15) (hrc : rc ≤ 8)
    (hJ : ∀ a_open, rb_FR (r * 195) (r * 195 + 195) a0 a_open → (∀ t c, t ≤ H → c < C → rb_OT (rb_Op a_walls a_rules rc C) a_open r t c) → post (f_never, nI C, nI H, nI rc, f_status, f_bound, f_leastTotal, a_neighbour, a_walls, a_placed, a_starts, a_goals, a_rules, a_open, a_next, a_earliest, a_solo, a_cost, a_plan, a_since, a_done)) :
    ∀ n t a_open, t ≤ H + 1 → H + 1 - t < n → rb_FR (r * 195) (r * 195 + 195) a0 a_open → (∀ t' c', c' < C → t' < t → rb_OT (rb_Op a_walls a_rules rc C) a_open r t' c') →
      wX_openCells_2 post (nI r) f_never (nI C) (nI H) (nI rc) f_status f_bound f_leastTotal n (nI t) a_neighbour a_walls a_placed a_starts a_goals a_rules a_open a_next a_earliest a_solo a_cost a_plan a_since a_done := by
  intro n
  induction n with
  | zero => intro t _ _ h; omega
  | succ n ih =>
    intro t a_open ht hn hf hp
    refine pk_lt H t (fun h => hJ a_open hf fun t' c' h1 h2 => hp t' c' h2 (by omega)) (fun h => ?_)
    exact ⟨C + 1, rb_xOpen12 hr (by omega) hC hrc (fun a_open hf hp => ih (t + 1) a_open (by omega) (by omega) hf (fun t' c' h1 h2 => hp t' c' h1 (by omega))) (C + 1) 0 a_open (Nat.zero_le _) (by omega) hf (fun t' c' h1 h2 => hp t' c' h1 (by omega))⟩
theorem rb_xOpen {post : SX → Prop} {r : Nat} (hr : r < 2) (hH : H ≤ 12) (hC : C ≤ 15) (hrc : rc ≤ 8)
    (hJ : ∀ a_open', rb_FR (r * 195) (r * 195 + 195) a_open a_open' → (∀ t c, t ≤ H → c < C → rb_OT (rb_Op a_walls a_rules rc C) a_open' r t c) → post (f_never, nI C, nI H, nI rc, f_status, f_bound, f_leastTotal, a_neighbour, a_walls, a_placed, a_starts, a_goals, a_rules, a_open', a_next, a_earliest, a_solo, a_cost, a_plan, a_since, a_done)) : wpX_openCells post (f_never, nI C, nI H, nI rc, f_status, f_bound, f_leastTotal, a_neighbour, a_walls, a_placed, a_starts, a_goals, a_rules, a_open, a_next, a_earliest, a_solo, a_cost, a_plan, a_since, a_done) (nI r) :=
  ⟨H + 2, rb_xOpen2 hr hH hC hrc hJ (H + 2) 0 a_open (Nat.zero_le _) (by omega) rb_FR_rf (fun t' c' _ h => absurd h (Nat.not_lt_zero t'))⟩
theorem rb_xLink100 {post : SX → Prop} {J14 : Int32 → rb_A14}
    {x1 x2 x3 x6 x7 : Int32} {s d : Nat} (hs : s * 5 + d < 1950) (h0 : x7 = 0 → J14 (nI (d + 1)) a_neighbour a_walls a_placed a_starts a_goals a_rules a_open (upd a_next (s * 5 + d) (-1)) a_earliest a_solo a_cost a_plan a_since a_done) (h1 : x7 ≠ 0 → J14 (nI (d + 1)) a_neighbour a_walls a_placed a_starts a_goals a_rules a_open (upd a_next (s * 5 + d) x6) a_earliest a_solo a_cost a_plan a_since a_done) :
    wX_linkCell_100 post J14 x1 x2 x3 (nI (s * 5)) (nI d) x6 x7 f_never (nI C) (nI H) (nI rc) f_status f_bound f_leastTotal a_neighbour a_walls a_placed a_starts a_goals a_rules a_open a_next a_earliest a_solo a_cost a_plan a_since a_done := by
  have e : nI (s * 5) + nI d = nI (s * 5 + d) := nI_add _ _
  refine br_c (fun z => ?_) (fun z => ?_)
  · rw [e]
    exact ⟨vp_in_nI (by omega) (by omega), nm_r (e' := upd a_next (s * 5 + d) (-1)) (by rw [nI_clamp (by omega)]) (nm_r (nI_1 d) (h0 z))⟩
  · rw [e]
    exact ⟨vp_in_nI (by omega) (by omega), nm_r (e' := upd a_next (s * 5 + d) x6) (by rw [nI_clamp (by omega)]) (nm_r (nI_1 d) (h1 z))⟩
theorem rb_xLink14 {post : SX → Prop} {a0 : Nat → Int32} {r t c : Nat} (hr : r < 2) (hH : H ≤ 12) (ht : t < H) (hc : c < C) (hC : C ≤ 15) (hrc : rc ≤ 8)
    (hnb : ∀ c d, c < C → d < 5 → rb_NB w C a_neighbour c d) (hop : ∀ t c, t ≤ H → c < C → rb_OT (rb_Op a_walls a_rules rc C) a_open r t c)
    (hJ : ∀ a_next, rb_FR (r * 975) (r * 975 + 975) a0 a_next → (∀ t' c' d', c' < C → d' < 5 → (t' < t ∨ (t' = t ∧ (c' < c ∨ (c' = c ∧ d' < 5)))) → rb_NT (rb_mv a_walls a_rules rc w C) a_next r t' c' d') → post (f_never, nI C, nI H, nI rc, f_status, f_bound, f_leastTotal, a_neighbour, a_walls, a_placed, a_starts, a_goals, a_rules, a_open, a_next, a_earliest, a_solo, a_cost, a_plan, a_since, a_done)) :
    ∀ n k a_next, k ≤ 5 → 5 - k < n → rb_FR (r * 975) (r * 975 + 975) a0 a_next → (∀ t' c' d', c' < C → d' < 5 → (t' < t ∨ (t' = t ∧ (c' < c ∨ (c' = c ∧ d' < k)))) → rb_NT (rb_mv a_walls a_rules rc w C) a_next r t' c' d') →
      wX_linkCell_14 post (nI r) (nI t) (nI c) (nI (((r * 13 + t) * 15 + c) * 5)) f_never (nI C) (nI H) (nI rc) f_status f_bound f_leastTotal n (nI k) a_neighbour a_walls a_placed a_starts a_goals a_rules a_open a_next a_earliest a_solo a_cost a_plan a_since a_done := by
  intro n
  induction n with
  | zero => intro i _ _ h; omega
  | succ n ih =>
    intro k a_next hk hn hf hp
    refine pk_le 5 k (fun h => hJ a_next hf fun t' c' d' h1 h2 h3 => hp t' c' d' h1 h2 (by omega)) (fun h => ?_)
    have e5 : nI c * 5 + nI k = nI (c * 5 + k) := rb_m5 c k
    rw [e5]
    refine ⟨vp_in_nI (by omega) (by omega), ?_⟩
    rw [nI_clamp (by omega)]
    have no : (∀ c', ¬ rb_mv a_walls a_rules rc w C r t c k c') → wX_linkCell_14 post (nI r) (nI t) (nI c) (nI (((r * 13 + t) * 15 + c) * 5)) f_never (nI C) (nI H) (nI rc) f_status f_bound f_leastTotal n (nI (k + 1)) a_neighbour a_walls a_placed a_starts a_goals a_rules a_open (upd a_next (((r * 13 + t) * 15 + c) * 5 + k) (-1)) a_earliest a_solo a_cost a_plan a_since a_done := fun hno =>
      ih (k + 1) _ (by omega) (by omega) (rb_FR_upd hf (by omega) (by omega)) (rb_NT_upd hC hc h hp (Or.inr ⟨hno, rfl⟩))
    have yes : ∀ c', rb_mv a_walls a_rules rc w C r t c k c' → wX_linkCell_14 post (nI r) (nI t) (nI c) (nI (((r * 13 + t) * 15 + c) * 5)) f_never (nI C) (nI H) (nI rc) f_status f_bound f_leastTotal n (nI (k + 1)) a_neighbour a_walls a_placed a_starts a_goals a_rules a_open (upd a_next (((r * 13 + t) * 15 + c) * 5 + k) (nI c')) a_earliest a_solo a_cost a_plan a_since a_done := fun c' hc' =>
      ih (k + 1) _ (by omega) (by omega) (rb_FR_upd hf (by omega) (by omega)) (rb_NT_upd hC hc h hp (Or.inl ⟨c', hc', rfl⟩))
    have hnb1 := hnb c k hc h
    rcases hnb1 with ⟨e1, e2⟩ | ⟨c', e1, e2⟩
    · refine nm_r e2 (br_t rb_neg1 ?_)
      exact br_t rfl (rb_xLink100 (by omega) (fun _ => no fun c' hm => by have k := hm.1; rw [e1] at k; cases k) (fun z => absurd rfl z))
    · have hc' := rb_tg_lt hc e1
      have hot := hop (t + 1) c' (by omega) hc'
      unfold rb_OT at hot
      refine nm_r e2 (br_f (nI_pos (by omega)) (rb_xSpotS ⟨vp_in_nI (by omega) (by omega), ?_⟩))
      rw [nI_clamp (by omega)]
      refine br_c (fun z => ?_) (fun z => ?_)
      · exact br_t rfl (rb_xLink100 (by omega) (fun _ => no fun c'' hm => by
          have e3 := e1.symm.trans hm.1
          cases e3
          exact hot.mpr hm.2.2 z) (fun z => absurd rfl z))
      · refine br_f (by decide) (pk_le k 0 (fun hk0 => ?_) (fun hk0 => ?_))
        · exact rb_xLink100 (by omega) (fun z => absurd z (by decide)) (fun _ => yes c' ⟨e1, fun z => by omega, hot.mp z⟩)
        · refine rb_xEncode (rb_xHas hrc (fun h1 => br_f (by decide) ?_) (fun h1 => br_t rfl ?_))
          · exact rb_xLink100 (by omega) (fun _ => no fun c'' hm => hm.2.1 hk0 h1) (fun z => absurd rfl z)
          · exact rb_xLink100 (by omega) (fun z => absurd z (by decide)) (fun _ => yes c' ⟨e1, fun _ => h1, hot.mp z⟩)
theorem rb_xLink {post : SX → Prop} {a0 : Nat → Int32} {r t c : Nat} (hr : r < 2) (hH : H ≤ 12) (ht : t < H) (hc : c < C) (hC : C ≤ 15) (hrc : rc ≤ 8)
    (hnb : ∀ c d, c < C → d < 5 → rb_NB w C a_neighbour c d) (hop : ∀ t c, t ≤ H → c < C → rb_OT (rb_Op a_walls a_rules rc C) a_open r t c)
    (hf : rb_FR (r * 975) (r * 975 + 975) a0 a_next) (hp : ∀ t' c' d', c' < C → d' < 5 → (t' < t ∨ (t' = t ∧ c' < c)) → rb_NT (rb_mv a_walls a_rules rc w C) a_next r t' c' d')
    (hJ : ∀ a_next, rb_FR (r * 975) (r * 975 + 975) a0 a_next → (∀ t' c' d', c' < C → d' < 5 → (t' < t ∨ (t' = t ∧ c' < c + 1)) → rb_NT (rb_mv a_walls a_rules rc w C) a_next r t' c' d') → post (f_never, nI C, nI H, nI rc, f_status, f_bound, f_leastTotal, a_neighbour, a_walls, a_placed, a_starts, a_goals, a_rules, a_open, a_next, a_earliest, a_solo, a_cost, a_plan, a_since, a_done)) :
    wpX_linkCell post (f_never, nI C, nI H, nI rc, f_status, f_bound, f_leastTotal, a_neighbour, a_walls, a_placed, a_starts, a_goals, a_rules, a_open, a_next, a_earliest, a_solo, a_cost, a_plan, a_since, a_done) (nI r) (nI t) (nI c) := by
  unfold wpX_linkCell
  exact rb_xSpot (nm_r (rb_x5 _) ⟨6, rb_xLink14 hr hH ht hc hC hrc hnb hop (fun a_next hf hp => hJ a_next hf fun t' c' d' h1 h2 h3 => hp t' c' d' h1 h2 (by omega)) 6 0 a_next (Nat.zero_le _) (by omega) hf (fun t' c' d' h1 h2 h3 => hp t' c' d' h1 h2 (by omega))⟩)
end
end
section
/-! the component: links, earliest arrivals, the lone cost -/
section
variable {f_never f_status f_bound f_leastTotal : Int32} {a_neighbour a_walls a_placed a_starts a_goals a_rules a_open a_next a_earliest a_solo a_cost a_plan a_since a_done : Nat → Int32} {w C H rc : Nat} {g : Nat → Nat}
theorem rb_xLinks12 {post : SX → Prop} {J2 : Int32 → rb_S21} {a0 : Nat → Int32} {r t : Nat} (hr : r < 2) (hH : H ≤ 12) (ht : t < H) (hC : C ≤ 15) (hrc : rc ≤ 8)
    (hnb : ∀ c d, c < C → d < 5 → rb_NB w C a_neighbour c d) (hop : ∀ t c, t ≤ H → c < C → rb_OT (rb_Op a_walls a_rules rc C) a_open r t c)
    (hJ : ∀ a_next, rb_FR (r * 975) (r * 975 + 975) a0 a_next → (∀ t' c' d', c' < C → d' < 5 → t' < t + 1 → rb_NT (rb_mv a_walls a_rules rc w C) a_next r t' c' d') → J2 (nI (t + 1)) f_never (nI C) (nI H) (nI rc) f_status f_bound f_leastTotal a_neighbour a_walls a_placed a_starts a_goals a_rules a_open a_next a_earliest a_solo a_cost a_plan a_since a_done) :
    ∀ n i a_next, i ≤ C → C - i < n → rb_FR (r * 975) (r * 975 + 975) a0 a_next → (∀ t' c' d', c' < C → d' < 5 → (t' < t ∨ (t' = t ∧ c' < i)) → rb_NT (rb_mv a_walls a_rules rc w C) a_next r t' c' d') →
      wX_linkCells_12 post J2 (nI r) (nI t) n (nI i) f_never (nI C) (nI H) (nI rc) f_status f_bound f_leastTotal a_neighbour a_walls a_placed a_starts a_goals a_rules a_open a_next a_earliest a_solo a_cost a_plan a_since a_done := by
  intro n
  induction n with
  | zero => intro i _ _ h; omega
  | succ n ih =>
    intro i a_next hi hn hf hp
    refine pk_le C i (fun h => nm_r (nI_1 t) (hJ a_next hf fun t' c' d' h1 h2 h3 => hp t' c' d' h1 h2 (by omega))) (fun h => ?_)
    exact rb_xLink hr hH ht h hC hrc hnb hop hf hp (fun a_next hf hp => nm_r (nI_1 i) (ih (i + 1) a_next (by omega) (by omega) hf hp))
theorem rb_xLinks2 {post : SX → Prop} {a0 : Nat → Int32} {r : Nat} (hr : r < 2) (hH : H ≤ 12) (hC : C ≤ 15) (hrc : rc ≤ 8)
    (hnb : ∀ c d, c < C → d < 5 → rb_NB w C a_neighbour c d) (hop : ∀ t c, t ≤ H → c < C → rb_OT (rb_Op a_walls a_rules rc C) a_open r t c)
    (hJ : ∀ a_next, rb_FR (r * 975) (r * 975 + 975) a0 a_next → (∀ t c d, t < H → c < C → d < 5 → rb_NT (rb_mv a_walls a_rules rc w C) a_next r t c d) → post (f_never, nI C, nI H, nI rc, f_status, f_bound, f_leastTotal, a_neighbour, a_walls, a_placed, a_starts, a_goals, a_rules, a_open, a_next, a_earliest, a_solo, a_cost, a_plan, a_since, a_done)) :
    ∀ n t a_next, t ≤ H → H - t < n → rb_FR (r * 975) (r * 975 + 975) a0 a_next → (∀ t' c' d', c' < C → d' < 5 → t' < t → rb_NT (rb_mv a_walls a_rules rc w C) a_next r t' c' d') →
      wX_linkCells_2 post (nI r) n (nI t) f_never (nI C) (nI H) (nI rc) f_status f_bound f_leastTotal a_neighbour a_walls a_placed a_starts a_goals a_rules a_open a_next a_earliest a_solo a_cost a_plan a_since a_done := by
  intro n
  induction n with
  | zero => intro i _ _ h; omega
  | succ n ih =>
    intro t a_next hi hn hf hp
    refine pk_le H t (fun h => hJ a_next hf fun t' c' d' h1 h2 h3 => hp t' c' d' h2 h3 (by omega)) (fun h => ?_)
    exact ⟨C + 1, rb_xLinks12 hr hH h hC hrc hnb hop (fun a_next hf hp => ih (t + 1) a_next (by omega) (by omega) hf hp) (C + 1) 0 a_next (Nat.zero_le _) (by omega) hf (fun t' c' d' h1 h2 h3 => hp t' c' d' h1 h2 (by omega))⟩
theorem rb_xLinks {post : SX → Prop} {r : Nat} (hr : r < 2) (hH : H ≤ 12) (hC : C ≤ 15) (hrc : rc ≤ 8)
    (hnb : ∀ c d, c < C → d < 5 → rb_NB w C a_neighbour c d) (hop : ∀ t c, t ≤ H → c < C → rb_OT (rb_Op a_walls a_rules rc C) a_open r t c)
    (hJ : ∀ a_next', rb_FR (r * 975) (r * 975 + 975) a_next a_next' → (∀ t c d, t < H → c < C → d < 5 → rb_NT (rb_mv a_walls a_rules rc w C) a_next' r t c d) → post (f_never, nI C, nI H, nI rc, f_status, f_bound, f_leastTotal, a_neighbour, a_walls, a_placed, a_starts, a_goals, a_rules, a_open, a_next', a_earliest, a_solo, a_cost, a_plan, a_since, a_done)) : wpX_linkCells post (f_never, nI C, nI H, nI rc, f_status, f_bound, f_leastTotal, a_neighbour, a_walls, a_placed, a_starts, a_goals, a_rules, a_open, a_next, a_earliest, a_solo, a_cost, a_plan, a_since, a_done) (nI r) :=
  ⟨H + 1, rb_xLinks2 hr hH hC hrc hnb hop hJ (H + 1) 0 a_next (Nat.zero_le _) (by omega) rb_FR_rf (fun t' c' d' _ _ h => absurd h (Nat.not_lt_zero t'))⟩
theorem rb_xFrom96 {post : Int32 → Prop} {r t c : Nat} {mv : Nat → Nat → Nat → Nat → Nat → Prop} {val : Nat → Nat} (hr : r < 2) (hH : H ≤ 12) (ht : t < H) (hc : c < C) (hC : C ≤ 15)
    (hmv : ∀ d c', d < 5 → mv r t c d c' → c' < C)
    (hnt : ∀ d, d < 5 → rb_NT mv a_next r t c d) (hv : ∀ d c', d < 5 → mv r t c d c' → a_earliest ((r * 13 + (t + 1)) * 15 + c') = nI (val c') ∧ val c' ≤ 1000)
    (hJ : ∀ x, (∀ d c', d < 5 → mv r t c d c' → x ≤ val c') → (x = 1000 ∨ ∃ d c', d < 5 ∧ mv r t c d c' ∧ val c' = x) → post (nI x)) (md : ∀ d c' c'', mv r t c d c' → mv r t c d c'' → c' = c'') :
    ∀ n k x, k ≤ 5 → 5 - k < n → x ≤ 1000 → (∀ d c', d < k → mv r t c d c' → x ≤ val c') → (x = 1000 ∨ ∃ d c', d < 5 ∧ mv r t c d c' ∧ val c' = x) →
      wX_earliestFrom_96 post (nI r) (nI t) (nI ((r * 13 + t) * 15 + c)) f_never (nI C) (nI H) (nI rc) f_status f_bound f_leastTotal a_neighbour a_walls a_placed a_starts a_goals a_rules a_open a_next a_earliest a_solo a_cost a_plan a_since a_done n (nI x) (nI k) := by
  intro n
  induction n with
  | zero => intro i _ _ h; omega
  | succ n ih =>
    intro k x hk hn hx hle hex
    refine pk_le 5 k (fun h => hJ x (fun d c' h1 h2 => hle d c' (by omega) h2) hex) (fun h => ?_)
    have e5 : nI ((r * 13 + t) * 15 + c) * 5 + nI k = nI (((r * 13 + t) * 15 + c) * 5 + k) := rb_m5 _ k
    rw [e5]
    refine ⟨vp_in_nI (by omega) (by omega), ?_⟩
    rw [nI_clamp (by omega)]
    rcases hnt k h with ⟨c', hm, e⟩ | ⟨hno, e⟩
    · have hc' := hmv k c' h hm
      obtain ⟨hv1, hv2⟩ := hv k c' h hm
      refine nm_r e (br_f (nI_pos (by omega)) (rb_xSpotS ⟨vp_in_nI (by omega) (by omega), ?_⟩))
      rw [nI_clamp (by omega)]
      refine nm_r hv1 (rb_xSmaller (by omega) (by omega) fun m h1 h2 h3 => nm_r (nI_1 k) (ih (k + 1) m (by clear hex; omega) (by clear hex; omega) (by clear hex; omega) (fun d c'' hd hm' => ?_) ?_))
      · by_cases z : d = k
        · subst z
          rw [← md d c' c'' hm hm']
          exact h2
        · have := hle d c'' (by omega) hm'
          omega
      · rcases h3 with h3 | h3
        · rw [h3]; exact hex
        · exact Or.inr ⟨k, c', h, hm, h3.symm⟩
    · refine nm_r e (br_t rb_neg1 (nm_r (nI_1 k) (ih (k + 1) x (by clear hex; omega) (by clear hex; omega) hx (fun d c'' hd hm' => ?_) hex)))
      by_cases z : d = k
      · subst z
        exact absurd hm' (hno c'')
      · exact hle d c'' (by omega) hm'
/-- the least arrival from one spot -/
theorem rb_xFrom {post : Int32 → Prop} {r t c : Nat} (hr : r < 2) (hH : H ≤ 12) (hw : 1 ≤ w) (ht : t ≤ H) (hc : c < C) (hC : C ≤ 15) (hg : g r < C) (eg : a_goals r = nI (g r))
    (hop : rb_OT (rb_Op a_walls a_rules rc C) a_open r t c) (hnt : t < H → ∀ d, d < 5 → rb_NT (rb_mv a_walls a_rules rc w C) a_next r t c d)
    (het : t < H → ∀ c', c' < C → rb_ET (rb_mv a_walls a_rules rc w C) (rb_Op a_walls a_rules rc C) g H a_earliest r (t + 1) c')
    (hJ : ∀ x, rb_IsE (rb_mv a_walls a_rules rc w C) (rb_Op a_walls a_rules rc C) g H r t c x → post (nI x)) : wpX_earliestFrom post (f_never, nI C, nI H, nI rc, f_status, f_bound, f_leastTotal, a_neighbour, a_walls, a_placed, a_starts, a_goals, a_rules, a_open, a_next, a_earliest, a_solo, a_cost, a_plan, a_since, a_done) (nI r) (nI t) (nI c) := by
  have M := rb_isMV (walls := a_walls) (rules := a_rules) (rc := rc) (w := w) (C := C) hw
  have go : t < H → rb_Op a_walls a_rules rc C r t c → (c = g r → a_earliest ((r * 13 + (t + 1)) * 15 + c) ≠ nI (t + 1)) → ∃ n96 : Nat, wX_earliestFrom_96 post (nI r) (nI t) (nI ((r * 13 + t) * 15 + c)) f_never (nI C) (nI H) (nI rc) f_status f_bound f_leastTotal a_neighbour a_walls a_placed a_starts a_goals a_rules a_open a_next a_earliest a_solo a_cost a_plan a_since a_done n96 (nI 1000) (nI 0) := by
    intro htH ho hne
    have hval : ∃ val : Nat → Nat, ∀ c', c' < C → a_earliest ((r * 13 + (t + 1)) * 15 + c') = nI (val c') ∧ rb_IsE (rb_mv a_walls a_rules rc w C) (rb_Op a_walls a_rules rc C) g H r (t + 1) c' (val c') := by
      refine ⟨fun c' => (a_earliest ((r * 13 + (t + 1)) * 15 + c')).toNatClampNeg, fun c' hc' => ?_⟩
      obtain ⟨x, e1, e2⟩ := het htH c' hc'
      have hx : x ≤ 1000 := by rcases e2.1 with h | h <;> omega
      have e3 : (a_earliest ((r * 13 + (t + 1)) * 15 + c')).toNatClampNeg = x := by rw [e1, nI_clamp (by omega)]
      show a_earliest ((r * 13 + (t + 1)) * 15 + c') = nI (a_earliest ((r * 13 + (t + 1)) * 15 + c')).toNatClampNeg ∧ rb_IsE _ _ g H r (t + 1) c' (a_earliest ((r * 13 + (t + 1)) * 15 + c')).toNatClampNeg
      rw [e3]
      exact ⟨e1, e2⟩
    obtain ⟨val, hval⟩ := hval
    have hmv : ∀ d c', d < 5 → rb_mv a_walls a_rules rc w C r t c d c' → c' < C := fun d c' _ hm => hm.2.2.1
    refine ⟨6, rb_xFrom96 (mv := rb_mv a_walls a_rules rc w C) (val := val) hr hH htH hc hC hmv (hnt htH) (fun d c' hd hm => ⟨(hval c' (hmv d c' hd hm)).1, ?_⟩) (fun x h1 h2 => hJ x ?_) (fun d c' c'' => M.1 _ _ _ _ _ _) 6 0 1000 (by omega) (by omega) (by omega) (fun d c' hd => absurd hd (Nat.not_lt_zero d)) (Or.inl rfl)⟩
    · rcases (hval c' (hmv d c' hd hm)).2.1 with h | h <;> omega
    · refine rb_E_go M (by omega) htH val ho (fun d c' hd hm => (hval c' (hmv d c' hd hm)).2) (fun e _ e2 => hne e ?_) (fun e => (hval c hc).2) h1 h2
      rw [(hval c hc).1, e2]
  unfold wpX_earliestFrom
  refine rb_xSpot ⟨vp_in_nI (by omega) (by omega), ?_⟩
  rw [nI_clamp (by omega), eg]
  unfold rb_OT at hop
  refine pk_eq c (g r) (fun e => ?_) (fun e => ?_)
  · refine ⟨vp_in_nI (by omega) (by omega), ?_⟩
    rw [nI_clamp (by omega)]
    refine br_c (fun z => hJ 1000 (rb_E_shut (by omega) fun ho => hop.mpr ho z)) (fun z => ?_)
    have ho := hop.mp z
    refine pk_eq t H (fun e2 => ?_) (fun e2 => br_f (by decide) (rb_xSpotS ⟨vp_in_nI (by omega) (by omega), ?_⟩))
    · subst e2
      exact br_f (by decide) (hJ t (rb_E_Hy ho e))
    · rw [nI_clamp (by omega), nI_1]
      refine br_c (fun h => hJ t ?_) (fun h => go (by omega) ho (fun _ => h))
      obtain ⟨x, e3, e4⟩ := het (by omega) c hc
      have hx : x ≤ 1000 := by rcases e4.1 with h | h <;> omega
      rw [e3, nI_eq (by omega) (by omega)] at h
      subst h
      exact rb_E_stay M (by omega) ho e e4
  · refine ⟨vp_in_nI (by omega) (by omega), ?_⟩
    rw [nI_clamp (by omega)]
    refine br_c (fun z => hJ 1000 (rb_E_shut (by omega) fun ho => hop.mpr ho z)) (fun z => ?_)
    have ho := hop.mp z
    refine pk_eq t H (fun e2 => ?_) (fun e2 => br_t rfl (go (by omega) ho (fun h => absurd h e)))
    subst e2
    exact br_t rfl (hJ 1000 (rb_E_Hn (by omega) e))
theorem rb_xFill11 {post : SX → Prop} {J5 : Int32 → rb_A14} {a0 : Nat → Int32} {r t : Nat} (hr : r < 2) (hH : H ≤ 12) (hw : 1 ≤ w) (ht : t ≤ H) (hC : C ≤ 15) (hg : g r < C) (eg : a_goals r = nI (g r))
    (hop : ∀ t c, t ≤ H → c < C → rb_OT (rb_Op a_walls a_rules rc C) a_open r t c) (hnt : ∀ t c d, t < H → c < C → d < 5 → rb_NT (rb_mv a_walls a_rules rc w C) a_next r t c d)
    (hJ : ∀ a_earliest, rb_FR (r * 195) (r * 195 + 195) a0 a_earliest → (∀ t' c', c' < C → t' ≤ H → t ≤ t' → rb_ET (rb_mv a_walls a_rules rc w C) (rb_Op a_walls a_rules rc C) g H a_earliest r t' c') → J5 (nI t + (-1)) a_neighbour a_walls a_placed a_starts a_goals a_rules a_open a_next a_earliest a_solo a_cost a_plan a_since a_done) :
    ∀ n i a_earliest, i ≤ C → C - i < n → rb_FR (r * 195) (r * 195 + 195) a0 a_earliest → (∀ t' c', c' < C → t' ≤ H → (t < t' ∨ (t' = t ∧ c' < i)) → rb_ET (rb_mv a_walls a_rules rc w C) (rb_Op a_walls a_rules rc C) g H a_earliest r t' c') →
      wX_fillEarliest_11 post J5 (nI r) (nI t) f_never (nI C) (nI H) (nI rc) f_status f_bound f_leastTotal n (nI i) a_neighbour a_walls a_placed a_starts a_goals a_rules a_open a_next a_earliest a_solo a_cost a_plan a_since a_done := by
  intro n
  induction n with
  | zero => intro i _ _ h; omega
  | succ n ih =>
    intro i a_earliest hi hn hf hp
    refine pk_le C i (fun h => nm_e (hJ a_earliest hf fun t' c' h1 h2 h3 => hp t' c' h1 h2 (by omega))) (fun h => ?_)
    refine rb_xSpot (rb_xFrom hr hH hw ht h hC hg eg (hop t i ht h) (fun z d hd => hnt t i d z h hd) (fun z c' hc' => hp (t + 1) c' hc' (by omega) (by omega)) (fun x hx => ⟨vp_in_nI (by omega) (by omega), ?_⟩))
    exact nm_r (e' := upd a_earliest ((r * 13 + t) * 15 + i) (nI x)) (by rw [nI_clamp (by omega)]) (nm_r (nI_1 i) (ih (i + 1) _ (by omega) (by omega) (rb_FR_upd hf (by omega) (by omega)) (rb_ET_upd hC h hp hx)))
theorem rb_xFill5 {post : SX → Prop} {a0 : Nat → Int32} {r : Nat} (hr : r < 2) (hH : H ≤ 12) (hw : 1 ≤ w) (hC : C ≤ 15) (hg : g r < C) (eg : a_goals r = nI (g r))
    (hop : ∀ t c, t ≤ H → c < C → rb_OT (rb_Op a_walls a_rules rc C) a_open r t c) (hnt : ∀ t c d, t < H → c < C → d < 5 → rb_NT (rb_mv a_walls a_rules rc w C) a_next r t c d)
    (hJ : ∀ a_earliest, rb_FR (r * 195) (r * 195 + 195) a0 a_earliest → (∀ t c, t ≤ H → c < C → rb_ET (rb_mv a_walls a_rules rc w C) (rb_Op a_walls a_rules rc C) g H a_earliest r t c) → post (f_never, nI C, nI H, nI rc, f_status, f_bound, f_leastTotal, a_neighbour, a_walls, a_placed, a_starts, a_goals, a_rules, a_open, a_next, a_earliest, a_solo, a_cost, a_plan, a_since, a_done)) :
    ∀ t a_earliest, t ≤ H → rb_FR (r * 195) (r * 195 + 195) a0 a_earliest → (∀ t' c', c' < C → t' ≤ H → t < t' → rb_ET (rb_mv a_walls a_rules rc w C) (rb_Op a_walls a_rules rc C) g H a_earliest r t' c') →
      ∀ n, t + 1 < n → wX_fillEarliest_5 post (nI r) f_never (nI C) (nI H) (nI rc) f_status f_bound f_leastTotal n (nI t) a_neighbour a_walls a_placed a_starts a_goals a_rules a_open a_next a_earliest a_solo a_cost a_plan a_since a_done := by
  have fin : ∀ a_earliest, rb_FR (r * 195) (r * 195 + 195) a0 a_earliest → (∀ t c, t ≤ H → c < C → rb_ET (rb_mv a_walls a_rules rc w C) (rb_Op a_walls a_rules rc C) g H a_earliest r t c) → ∀ n, 0 < n → wX_fillEarliest_5 post (nI r) f_never (nI C) (nI H) (nI rc) f_status f_bound f_leastTotal n (nI 0 + (-1)) a_neighbour a_walls a_placed a_starts a_goals a_rules a_open a_next a_earliest a_solo a_cost a_plan a_since a_done := by
    intro a_earliest hf h n hn
    cases n with
    | zero => omega
    | succ n => exact br_t (by decide) (hJ a_earliest hf h)
  intro t
  induction t with
  | zero =>
    intro a_earliest ht hf hp n hn
    cases n with
    | zero => omega
    | succ n =>
      exact br_f (by decide) ⟨C + 1, rb_xFill11 hr hH hw ht hC hg eg hop hnt (fun a_earliest hf h => fin a_earliest hf (fun t c h1 h2 => h t c h2 h1 (Nat.zero_le _)) n (by omega)) (C + 1) 0 a_earliest (Nat.zero_le _) (by omega) hf (fun t' c' h1 h2 h3 => hp t' c' h1 h2 (by omega))⟩
  | succ t ih =>
    intro a_earliest ht hf hp n hn
    cases n with
    | zero => omega
    | succ n =>
      refine br_f (nI_pos (by omega)) ⟨C + 1, rb_xFill11 hr hH hw ht hC hg eg hop hnt (fun a_earliest hf h => ?_) (C + 1) 0 a_earliest (Nat.zero_le _) (by omega) hf (fun t' c' h1 h2 h3 => hp t' c' h1 h2 (by omega))⟩
      rw [pk_m1]
      exact ih a_earliest (by omega) hf (fun t' c' h1 h2 h3 => h t' c' h1 h2 (by omega)) n (by omega)
theorem rb_xFill {post : SX → Prop} {r : Nat} (hr : r < 2) (hH : H ≤ 12) (hw : 1 ≤ w) (hC : C ≤ 15) (hg : g r < C) (eg : a_goals r = nI (g r))
    (hop : ∀ t c, t ≤ H → c < C → rb_OT (rb_Op a_walls a_rules rc C) a_open r t c) (hnt : ∀ t c d, t < H → c < C → d < 5 → rb_NT (rb_mv a_walls a_rules rc w C) a_next r t c d)
    (hJ : ∀ a_earliest', rb_FR (r * 195) (r * 195 + 195) a_earliest a_earliest' → (∀ t c, t ≤ H → c < C → rb_ET (rb_mv a_walls a_rules rc w C) (rb_Op a_walls a_rules rc C) g H a_earliest' r t c) → post (f_never, nI C, nI H, nI rc, f_status, f_bound, f_leastTotal, a_neighbour, a_walls, a_placed, a_starts, a_goals, a_rules, a_open, a_next, a_earliest', a_solo, a_cost, a_plan, a_since, a_done)) : wpX_fillEarliest post (f_never, nI C, nI H, nI rc, f_status, f_bound, f_leastTotal, a_neighbour, a_walls, a_placed, a_starts, a_goals, a_rules, a_open, a_next, a_earliest, a_solo, a_cost, a_plan, a_since, a_done) (nI r) :=
  ⟨H + 2, rb_xFill5 hr hH hw hC hg eg hop hnt hJ H a_earliest (Nat.le_refl H) rb_FR_rf (fun t' c' _ h1 h2 => by omega) (H + 2) (by omega)⟩
end
end
section
/-! the component: the lone cost and the lone plans -/
theorem rb_OT_fr {Op : Nat → Nat → Nat → Prop} {a a' : Nat → Int32} {r q t c : Nat} (hq : q < 2) (hr : r < 2) (hqr : q ≠ r) (ht : t < 13) (hc : c < 15) (hf : rb_FR (r * 195) (r * 195 + 195) a a') (h : rb_OT Op a q t c) : rb_OT Op a' q t c := by
  unfold rb_OT at *
  rw [hf _ (by omega)]; exact h
theorem rb_ET_fr {mv : Nat → Nat → Nat → Nat → Nat → Prop} {Op : Nat → Nat → Nat → Prop} {g : Nat → Nat} {H : Nat} {a a' : Nat → Int32} {r q t c : Nat} (hq : q < 2) (hr : r < 2) (hqr : q ≠ r) (ht : t < 13) (hc : c < 15) (hf : rb_FR (r * 195) (r * 195 + 195) a a') (h : rb_ET mv Op g H a q t c) : rb_ET mv Op g H a' q t c := by
  unfold rb_ET at *
  rw [hf _ (by omega)]; exact h
theorem rb_NT_fr {mv : Nat → Nat → Nat → Nat → Nat → Prop} {a a' : Nat → Int32} {r q t c d : Nat} (hq : q < 2) (hr : r < 2) (hqr : q ≠ r) (ht : t < 13) (hc : c < 15) (hd : d < 5) (hf : rb_FR (r * 975) (r * 975 + 975) a a') (h : rb_NT mv a q t c d) : rb_NT mv a' q t c d := by
  unfold rb_NT at *
  rw [hf _ (by omega)]; exact h
/-- the three tables of robot r are right -/
def rb_TB (a_walls a_rules a_open a_next a_earliest : Nat → Int32) (rc w C H : Nat) (g : Nat → Nat) (r : Nat) : Prop :=
  (∀ t c, t ≤ H → c < C → rb_OT (rb_Op a_walls a_rules rc C) a_open r t c) ∧ (∀ t c d, t < H → c < C → d < 5 → rb_NT (rb_mv a_walls a_rules rc w C) a_next r t c d) ∧
  (∀ t c, t ≤ H → c < C → rb_ET (rb_mv a_walls a_rules rc w C) (rb_Op a_walls a_rules rc C) g H a_earliest r t c)
theorem rb_TB_fr {a_walls a_rules a_open a_next a_earliest a_open' a_next' a_earliest' : Nat → Int32} {rc w C H r q : Nat} {g : Nat → Nat} (hq : q < 2) (hr : r < 2) (hqr : q ≠ r) (hH : H ≤ 12) (hC : C ≤ 15)
    (f1 : rb_FR (r * 195) (r * 195 + 195) a_open a_open') (f2 : rb_FR (r * 975) (r * 975 + 975) a_next a_next') (f3 : rb_FR (r * 195) (r * 195 + 195) a_earliest a_earliest')
    (h : rb_TB a_walls a_rules a_open a_next a_earliest rc w C H g q) : rb_TB a_walls a_rules a_open' a_next' a_earliest' rc w C H g q :=
  ⟨fun t c h1 h2 => rb_OT_fr hq hr hqr (by omega) (by omega) f1 (h.1 t c h1 h2), fun t c d h1 h2 h3 => rb_NT_fr hq hr hqr (by omega) (by omega) h3 f2 (h.2.1 t c d h1 h2 h3), fun t c h1 h2 => rb_ET_fr hq hr hqr (by omega) (by omega) f3 (h.2.2 t c h1 h2)⟩
section
variable {f_never f_status f_bound f_leastTotal : Int32} {a_neighbour a_walls a_placed a_starts a_goals a_rules a_open a_next a_earliest a_solo a_cost a_plan a_since a_done : Nat → Int32} {w C H rc : Nat} {g : Nat → Nat}
theorem rb_xIsR {post : Int32 → Prop} {r : Nat} (hr : r < 2) (h : post 1) : wpX_isRobot post (f_never, nI C, nI H, nI rc, f_status, f_bound, f_leastTotal, a_neighbour, a_walls, a_placed, a_starts, a_goals, a_rules, a_open, a_next, a_earliest, a_solo, a_cost, a_plan, a_since, a_done) (nI r) :=
  pk_eq r 0 (fun _ => h) (fun _ => pk_eq r 1 (fun _ => h) (fun _ => by omega))
theorem rb_xNotR {post : Int32 → Prop} {x : Int32} (h0 : x ≠ 0) (h1 : x ≠ 1) (h : post 0) : wpX_isRobot post (f_never, nI C, nI H, nI rc, f_status, f_bound, f_leastTotal, a_neighbour, a_walls, a_placed, a_starts, a_goals, a_rules, a_open, a_next, a_earliest, a_solo, a_cost, a_plan, a_since, a_done) x :=
  br_f h0 (br_f h1 h)
theorem rb_xSoloCost {post : Int32 → SX → Prop} {r s : Nat} (hr : r < 2) (hH : H ≤ 12) (hw : 1 ≤ w) (hC : C ≤ 15) (hrc : rc ≤ 8) (hg : g r < C) (eg : a_goals r = nI (g r)) (hs : s < C) (es : a_starts r = nI s) (hpl : a_placed r ≠ 0)
    (hnb : ∀ c d, c < C → d < 5 → rb_NB w C a_neighbour c d)
    (hJ : ∀ a_open' a_next' a_earliest', rb_FR (r * 195) (r * 195 + 195) a_open a_open' → rb_FR (r * 975) (r * 975 + 975) a_next a_next' → rb_FR (r * 195) (r * 195 + 195) a_earliest a_earliest' → rb_TB a_walls a_rules a_open' a_next' a_earliest' rc w C H g r →
      (∀ x, x ≤ H → rb_IsE (rb_mv a_walls a_rules rc w C) (rb_Op a_walls a_rules rc C) g H r 0 s x → post (nI x) (f_never, nI C, nI H, nI rc, f_status, f_bound, f_leastTotal, a_neighbour, a_walls, a_placed, a_starts, a_goals, a_rules, a_open', a_next', a_earliest', a_solo, a_cost, a_plan, a_since, a_done)) ∧
      (rb_IsE (rb_mv a_walls a_rules rc w C) (rb_Op a_walls a_rules rc C) g H r 0 s 1000 → post (-1) (f_never, nI C, nI H, nI rc, f_status, f_bound, f_leastTotal, a_neighbour, a_walls, a_placed, a_starts, a_goals, a_rules, a_open', a_next', a_earliest', a_solo, a_cost, a_plan, a_since, a_done))) :
    wpX_soloCost post (f_never, nI C, nI H, nI rc, f_status, f_bound, f_leastTotal, a_neighbour, a_walls, a_placed, a_starts, a_goals, a_rules, a_open, a_next, a_earliest, a_solo, a_cost, a_plan, a_since, a_done) (nI r) := by
  unfold wpX_soloCost
  refine rb_xIsR hr (br_f (by decide) ⟨vp_in_nI (by omega) (by omega), br_f (by rw [nI_clamp (by omega)]; exact hpl) ?_⟩)
  refine rb_xOpen hr hH hC hrc (fun a_open' f1 h1 => ?_)
  refine rb_xLinks hr hH hC hrc hnb h1 (fun a_next' f2 h2 => ?_)
  refine rb_xFill hr hH hw hC hg eg h1 h2 (fun a_earliest' f3 h3 => ?_)
  refine ⟨vp_in_nI (by omega) (by omega), ?_⟩
  rw [nI_clamp (by omega), es]
  refine rb_xSpot (t := 0) ⟨vp_in_nI (by omega) (by omega), ?_⟩
  rw [nI_clamp (by omega)]
  obtain ⟨x, e1, e2⟩ := h3 0 s (Nat.zero_le _) hs
  have hx : x ≤ 1000 := by rcases e2.1 with h | h <;> omega
  have K := hJ a_open' a_next' a_earliest' f1 f2 f3 ⟨h1, h2, h3⟩
  refine nm_r e1 (pk_le 1000 x (fun h => ?_) (fun h => ?_))
  · have : x = 1000 := by omega
    subst this
    exact K.2 e2
  · exact K.1 x (by rcases e2.1 with h | h <;> omega) e2
theorem rb_xStep14 {post : Int32 → Prop} {r t c a : Nat} {x3 : Int32} {mv : Nat → Nat → Nat → Nat → Nat → Prop} {val : Nat → Nat} (hr : r < 2) (hH : H ≤ 12) (ht : t < H) (hc : c < C) (hC : C ≤ 15) (ha : a ≤ 1000)
    (hmv : ∀ d c', d < 5 → mv r t c d c' → c' < C) (md : ∀ d c' c'', mv r t c d c' → mv r t c d c'' → c' = c'')
    (hnt : ∀ d, d < 5 → rb_NT mv a_next r t c d) (hv : ∀ d c', d < 5 → mv r t c d c' → a_earliest ((r * 13 + (t + 1)) * 15 + c') = nI (val c') ∧ val c' ≤ 1000)
    (hex : ∃ d c', d < 5 ∧ mv r t c d c' ∧ val c' = a)
    (hJ : ∀ d c', d < 5 → mv r t c d c' → val c' = a → (∀ d' c'', d' < d → mv r t c d' c'' → val c'' ≠ a) → post (nI c')) :
    ∀ n k, k ≤ 5 → 5 - k < n → (∀ d c', d < k → mv r t c d c' → val c' ≠ a) →
      wX_soloStep_14 post (nI r) (nI t) x3 (nI a) (nI (((r * 13 + t) * 15 + c) * 5)) f_never (nI C) (nI H) (nI rc) f_status f_bound f_leastTotal a_neighbour a_walls a_placed a_starts a_goals a_rules a_open a_next a_earliest a_solo a_cost a_plan a_since a_done n (nI k) := by
  intro n
  induction n with
  | zero => intro i _ h; omega
  | succ n ih =>
    intro k hk hn hle
    refine pk_le 5 k (fun h => ?_) (fun h => ?_)
    · obtain ⟨d, c', h1, h2, h3⟩ := hex
      exact absurd h3 (hle d c' (by omega) h2)
    have e5 : nI (((r * 13 + t) * 15 + c) * 5) + nI k = nI (((r * 13 + t) * 15 + c) * 5 + k) := nI_add _ _
    rw [e5]
    refine ⟨vp_in_nI (by omega) (by omega), ?_⟩
    rw [nI_clamp (by omega)]
    rcases hnt k h with ⟨c', hm, e⟩ | ⟨hno, e⟩
    · have hc' := hmv k c' h hm
      obtain ⟨hv1, hv2⟩ := hv k c' h hm
      refine nm_r e (br_f (nI_pos (by omega)) (rb_xSpotS ⟨vp_in_nI (by omega) (by omega), ?_⟩))
      rw [nI_clamp (by omega), hv1]
      refine pk_eq (val c') a (fun z => hJ k c' h hm z hle) (fun z => nm_r (nI_1 k) (ih (k + 1) (by omega) (by omega) (fun d c'' hd hm' => ?_)))
      by_cases z2 : d = k
      · subst z2
        rw [← md d c' c'' hm hm']
        exact z
      · exact hle d c'' (by omega) hm'
    · refine nm_r e (br_t rb_neg1 (nm_r (nI_1 k) (ih (k + 1) (by omega) (by omega) (fun d c'' hd hm' => ?_))))
      by_cases z : d = k
      · subst z
        exact absurd hm' (hno c'')
      · exact hle d c'' (by omega) hm'
end
section
variable (mv : Nat → Nat → Nat → Nat → Nat → Prop) (Op : Nat → Nat → Nat → Prop) (g : Nat → Nat) (H : Nat)
/-- p is the component's lone plan, up to tick t -/
def rb_TR (r arr t : Nat) (p : Nat → Nat) : Prop :=
  ∀ j, j < t → (j < arr → ∃ m, m < 5 ∧ mv r j (p j) m (p (j + 1)) ∧ rb_LF mv Op g H r (j + 1) (p (j + 1)) arr ∧ ∀ m' c', m' < m → mv r j (p j) m' c' → ¬ rb_LF mv Op g H r (j + 1) c' arr) ∧ (arr ≤ j → p (j + 1) = p j)
end
section
variable {mv : Nat → Nat → Nat → Nat → Nat → Prop} {Op : Nat → Nat → Nat → Prop} {g : Nat → Nat} {H : Nat}
theorem rb_TR_ext {r arr t c : Nat} {p : Nat → Nat} (h : rb_TR mv Op g H r arr t p)
    (h1 : t < arr → ∃ m, m < 5 ∧ mv r t (p t) m c ∧ rb_LF mv Op g H r (t + 1) c arr ∧ ∀ m' c', m' < m → mv r t (p t) m' c' → ¬ rb_LF mv Op g H r (t + 1) c' arr) (h2 : arr ≤ t → c = p t) :
    rb_TR mv Op g H r arr (t + 1) (rb_ext p t c) := by
  intro j hj
  by_cases e : j = t
  · subst e
    rw [rb_ext_s, rb_ext_le (Nat.le_refl j)]
    exact ⟨h1, h2⟩
  · rw [rb_ext_le (show j ≤ t by omega), rb_ext_le (show j + 1 ≤ t by omega)]
    exact h j (by omega)
/-- from a spot whose least arrival is arr, later than now, arr is the least that any move leads to -/
theorem rb_E_eq {r t c arr d c' x : Nat} (M : rb_MV mv Op) (hH : H < 1000) (ht : t < arr) (hE : rb_IsE mv Op g H r t c arr) (ha : arr ≤ H) (hd : d < 5) (hm : mv r t c d c') (hx : rb_IsE mv Op g H r (t + 1) c' x) :
    x = arr ↔ rb_LF mv Op g H r (t + 1) c' arr := by
  constructor
  · intro e
    exact (hx.2 arr (by omega) ha).mp (by omega)
  · intro h
    have h1 := (hx.2 arr (by omega) ha).mpr h
    have h2 : t + 1 ≤ x := by rcases hx.1 with h | h <;> omega
    have h3 := (hx.2 x h2 (by omega)).mp (Nat.le_refl x)
    have h4 : rb_LF mv Op g H r t c arr := (hE.2 arr (by omega) ha).mp (Nat.le_refl _)
    have h5 := (hE.2 x (by omega) (by omega)).mpr ((rb_LF_s M (by omega)).mpr ⟨h4.1, fun z => by omega, d, hd, c', hm, h3⟩)
    omega
/-- the lone plan of the reference's try is the component's -/
theorem rb_TR_Y {r arr : Nat} {p q cs : Nat → Nat} (M : rb_MV mv Op) (h : rb_TR mv Op g H r arr H p) (e0 : p 0 = q 0) (hL : rb_LF mv Op g H r 0 (p 0) arr)
    (hs : ∀ i, i < H → cs i < 5 ∧ mv r i (q i) (cs i) (q (i + 1)) ∧ (arr ≤ i + 1 → q (i + 1) = g r) ∧ rb_LF mv Op g H r (i + 1) (q (i + 1)) arr)
    (hm : ∀ i, i < H → ∀ m c', m < cs i → mv r i (q i) m c' → ¬ rb_LF mv Op g H r (i + 1) c' arr) : ∀ t, t ≤ H → p t = q t := by
  intro t
  induction t with
  | zero => intro _; exact e0
  | succ t ih =>
    intro ht
    have e := ih (by omega)
    have hY := hs t (by omega)
    by_cases c : t < arr
    · obtain ⟨m, b1, b2, b3, b4⟩ := (h t (by omega)).1 c
      rw [e] at b2 b4
      have c1 : ¬ m < cs t := fun z => hm t (by omega) m _ z b2 b3
      have c2 : ¬ cs t < m := fun z => b4 _ _ z hY.2.1 hY.2.2.2
      have c3 : m = cs t := by omega
      subst c3
      exact M.1 _ _ _ _ _ _ b2 hY.2.1
    · rw [(h t (by omega)).2 (by omega), hY.2.2.1 (by omega)]
      rw [e]
      cases t with
      | zero => rw [← e0]; exact hL.2.1 (by omega)
      | succ t => exact (hs t (by omega)).2.2.1 (by omega)
end
section
variable {f_never f_status f_bound f_leastTotal : Int32} {a_neighbour a_walls a_placed a_starts a_goals a_rules a_open a_next a_earliest a_solo a_cost a_plan a_since a_done : Nat → Int32} {w C H rc : Nat} {g : Nat → Nat}
theorem rb_xStep {post : Int32 → Prop} {r t c a : Nat} (hr : r < 2) (hH : H ≤ 12) (hw : 1 ≤ w) (hta : t < a) (ha : a ≤ H) (hc : c < C) (hC : C ≤ 15) (hT : rb_TB a_walls a_rules a_open a_next a_earliest rc w C H g r)
    (hE : rb_IsE (rb_mv a_walls a_rules rc w C) (rb_Op a_walls a_rules rc C) g H r t c a)
    (hJ : ∀ m c', m < 5 → rb_mv a_walls a_rules rc w C r t c m c' → rb_IsE (rb_mv a_walls a_rules rc w C) (rb_Op a_walls a_rules rc C) g H r (t + 1) c' a →
      (∀ m' c'', m' < m → rb_mv a_walls a_rules rc w C r t c m' c'' → ¬ rb_LF (rb_mv a_walls a_rules rc w C) (rb_Op a_walls a_rules rc C) g H r (t + 1) c'' a) → post (nI c')) :
    wpX_soloStep post (f_never, nI C, nI H, nI rc, f_status, f_bound, f_leastTotal, a_neighbour, a_walls, a_placed, a_starts, a_goals, a_rules, a_open, a_next, a_earliest, a_solo, a_cost, a_plan, a_since, a_done) (nI r) (nI t) (nI c) (nI a) := by
  have M := rb_isMV (walls := a_walls) (rules := a_rules) (rc := rc) (w := w) (C := C) hw
  have hval : ∃ val : Nat → Nat, ∀ c', c' < C → a_earliest ((r * 13 + (t + 1)) * 15 + c') = nI (val c') ∧ rb_IsE (rb_mv a_walls a_rules rc w C) (rb_Op a_walls a_rules rc C) g H r (t + 1) c' (val c') := by
    refine ⟨fun c' => (a_earliest ((r * 13 + (t + 1)) * 15 + c')).toNatClampNeg, fun c' hc' => ?_⟩
    obtain ⟨x, e1, e2⟩ := hT.2.2 (t + 1) c' (by omega) hc'
    have hx : x ≤ 1000 := by rcases e2.1 with h | h <;> omega
    have e3 : (a_earliest ((r * 13 + (t + 1)) * 15 + c')).toNatClampNeg = x := by rw [e1, nI_clamp (by omega)]
    show a_earliest ((r * 13 + (t + 1)) * 15 + c') = nI (a_earliest ((r * 13 + (t + 1)) * 15 + c')).toNatClampNeg ∧ rb_IsE _ _ g H r (t + 1) c' (a_earliest ((r * 13 + (t + 1)) * 15 + c')).toNatClampNeg
    rw [e3]
    exact ⟨e1, e2⟩
  obtain ⟨val, hval⟩ := hval
  have hmv : ∀ d c', d < 5 → rb_mv a_walls a_rules rc w C r t c d c' → c' < C := fun d c' _ hm => hm.2.2.1
  have hq : ∀ d c', d < 5 → rb_mv a_walls a_rules rc w C r t c d c' → (val c' = a ↔ rb_LF (rb_mv a_walls a_rules rc w C) (rb_Op a_walls a_rules rc C) g H r (t + 1) c' a) :=
    fun d c' hd hm => rb_E_eq M (by omega) hta hE ha hd hm (hval c' (hmv d c' hd hm)).2
  unfold wpX_soloStep
  refine rb_xSpot (nm_r (rb_x5 _) ⟨6, rb_xStep14 (mv := rb_mv a_walls a_rules rc w C) (val := val) hr hH (by omega) hc hC (by omega) hmv (fun d c' c'' => M.1 _ _ _ _ _ _) (fun d hd => hT.2.1 t c d (by omega) hc hd)
    (fun d c' hd hm => ⟨(hval c' (hmv d c' hd hm)).1, ?_⟩) ?_ (fun d c' hd hm e h => hJ d c' hd hm ?_ (fun m' c'' h1 h2 h3 => h m' c'' h1 h2 ((hq m' c'' (by omega) h2).mpr h3))) 6 0 (by omega) (by omega) (fun d c' hd => absurd hd (Nat.not_lt_zero d))⟩)
  · rcases (hval c' (hmv d c' hd hm)).2.1 with h | h <;> omega
  · obtain ⟨_, _, d, hd, c', hm, h⟩ := (rb_LF_s M (by omega)).mp ((hE.2 a (by omega) ha).mp (Nat.le_refl a))
    exact ⟨d, c', hd, hm, (hq d c' hd hm).mpr h⟩
  · rw [← e]; exact (hval c' (hmv d c' hd hm)).2
theorem rb_xTrace45 {post : SX → Prop} {J20 : Int32 → Int32 → rb_A14} {x2 x3 : Int32} {r t : Nat} (hr : r < 2) (ht : t < 12) (hJ : J20 x3 (nI (t + 1)) a_neighbour a_walls a_placed a_starts a_goals a_rules a_open a_next a_earliest (upd a_solo (r * 13 + (t + 1)) x3) a_cost a_plan a_since a_done) :
    wX_traceSolo_45 post J20 (nI r) x2 x3 (nI t) f_never (nI C) (nI H) (nI rc) f_status f_bound f_leastTotal a_neighbour a_walls a_placed a_starts a_goals a_rules a_open a_next a_earliest a_solo a_cost a_plan a_since a_done := by
  have e : nI r * 13 + nI t + 1 = nI (r * 13 + (t + 1)) := by rw [rb_x13, nI_add, nI_1]; rfl
  unfold wX_traceSolo_45
  rw [e]
  exact ⟨vp_in_nI (by omega) (by omega), nm_r (e' := upd a_solo (r * 13 + (t + 1)) x3) (by rw [nI_clamp (by omega)]) (nm_r (nI_1 t) hJ)⟩
theorem rb_xTrace20 {post : SX → Prop} {a0 : Nat → Int32} {r arr s : Nat} (hr : r < 2) (hH : H ≤ 12) (hw : 1 ≤ w) (ha : arr ≤ H) (hC : C ≤ 15) (hT : rb_TB a_walls a_rules a_open a_next a_earliest rc w C H g r)
    (hJ : ∀ p a_solo, rb_FR (r * 13) (r * 13 + 13) a0 a_solo → p 0 = s → rb_TR (rb_mv a_walls a_rules rc w C) (rb_Op a_walls a_rules rc C) g H r arr H p → (∀ j, j ≤ H → a_solo (r * 13 + j) = nI (p j)) → (∀ j, j ≤ H → p j < C) → post (f_never, nI C, nI H, nI rc, f_status, f_bound, f_leastTotal, a_neighbour, a_walls, a_placed, a_starts, a_goals, a_rules, a_open, a_next, a_earliest, a_solo, a_cost, a_plan, a_since, a_done)) :
    ∀ n t p a_solo, t ≤ H → H - t < n → rb_FR (r * 13) (r * 13 + 13) a0 a_solo → p 0 = s → rb_TR (rb_mv a_walls a_rules rc w C) (rb_Op a_walls a_rules rc C) g H r arr t p → (∀ j, j ≤ t → a_solo (r * 13 + j) = nI (p j)) → (∀ j, j ≤ t → p j < C) →
      (t ≤ arr → rb_IsE (rb_mv a_walls a_rules rc w C) (rb_Op a_walls a_rules rc C) g H r t (p t) arr) → wX_traceSolo_20 post (nI r) (nI arr) f_never (nI C) (nI H) (nI rc) f_status f_bound f_leastTotal n (nI (p t)) (nI t) a_neighbour a_walls a_placed a_starts a_goals a_rules a_open a_next a_earliest a_solo a_cost a_plan a_since a_done := by
  intro n
  induction n with
  | zero => intro i _ _ _ h; omega
  | succ n ih =>
    intro t p a_solo ht hn hf h0 hTR hso hpC hE
    refine pk_le H t (fun h => ?_) (fun h => ?_)
    · have e : t = H := by omega
      subst e
      exact hJ p a_solo hf h0 hTR hso hpC
    have nx : ∀ c, c < C → (t < arr → ∃ m, m < 5 ∧ rb_mv a_walls a_rules rc w C r t (p t) m c ∧ rb_LF (rb_mv a_walls a_rules rc w C) (rb_Op a_walls a_rules rc C) g H r (t + 1) c arr ∧ ∀ m' c', m' < m → rb_mv a_walls a_rules rc w C r t (p t) m' c' → ¬ rb_LF (rb_mv a_walls a_rules rc w C) (rb_Op a_walls a_rules rc C) g H r (t + 1) c' arr) →
        (arr ≤ t → c = p t) → (t + 1 ≤ arr → rb_IsE (rb_mv a_walls a_rules rc w C) (rb_Op a_walls a_rules rc C) g H r (t + 1) c arr) → wX_traceSolo_45 post (wX_traceSolo_20 post (nI r) (nI arr) f_never (nI C) (nI H) (nI rc) f_status f_bound f_leastTotal n) (nI r) (nI arr) (nI c) (nI t) f_never (nI C) (nI H) (nI rc) f_status f_bound f_leastTotal a_neighbour a_walls a_placed a_starts a_goals a_rules a_open a_next a_earliest a_solo a_cost a_plan a_since a_done := by
      intro c hc k1 k2 k3
      refine rb_xTrace45 hr (by clear k1; omega) ?_
      have K := ih (t + 1) (rb_ext p t c) (upd a_solo (r * 13 + (t + 1)) (nI c)) (by clear k1; omega) (by clear k1; omega) (rb_FR_upd hf (by clear k1; omega) (by clear k1; omega)) (by rw [rb_ext_le (Nat.zero_le t)]; exact h0) (rb_TR_ext hTR k1 k2) (fun j hj => ?_) (fun j hj => ?_) (by rw [rb_ext_s]; exact k3)
      · rw [rb_ext_s] at K
        exact K
      · by_cases z : j = t + 1
        · rw [z, pk_us, rb_ext_s]
        · rw [pk_un (by clear k1; omega), rb_ext_le (by clear k1; omega)]; exact hso j (by clear k1; omega)
      · by_cases z : j = t + 1
        · rw [z, rb_ext_s]; exact hc
        · rw [rb_ext_le (by clear k1; omega)]; exact hpC j (by clear k1; omega)
    refine pk_le arr t (fun h2 => nx (p t) (hpC t (Nat.le_refl t)) (fun z => by omega) (fun _ => rfl) (fun z => by omega)) (fun h2 => ?_)
    refine rb_xStep hr hH hw h2 ha (hpC t (Nat.le_refl t)) hC hT (hE (by omega)) (fun m c' hm hmv hE' hmin => ?_)
    exact nx c' hmv.2.2.1 (fun _ => ⟨m, hm, hmv, (hE'.2 arr (by omega) ha).mp (Nat.le_refl _), hmin⟩) (fun z => by omega) (fun _ => hE')
theorem rb_xTrace {post : SX → Prop} {r arr s : Nat} (hr : r < 2) (hH : H ≤ 12) (hw : 1 ≤ w) (ha : arr ≤ H) (hC : C ≤ 15) (hT : rb_TB a_walls a_rules a_open a_next a_earliest rc w C H g r) (hs : s < C) (es : a_starts r = nI s)
    (hE : rb_IsE (rb_mv a_walls a_rules rc w C) (rb_Op a_walls a_rules rc C) g H r 0 s arr)
    (hJ : ∀ p a_solo', rb_FR (r * 13) (r * 13 + 13) a_solo a_solo' → p 0 = s → rb_TR (rb_mv a_walls a_rules rc w C) (rb_Op a_walls a_rules rc C) g H r arr H p → (∀ j, j ≤ H → a_solo' (r * 13 + j) = nI (p j)) → (∀ j, j ≤ H → p j < C) → post (f_never, nI C, nI H, nI rc, f_status, f_bound, f_leastTotal, a_neighbour, a_walls, a_placed, a_starts, a_goals, a_rules, a_open, a_next, a_earliest, a_solo', a_cost, a_plan, a_since, a_done)) :
    wpX_traceSolo post (f_never, nI C, nI H, nI rc, f_status, f_bound, f_leastTotal, a_neighbour, a_walls, a_placed, a_starts, a_goals, a_rules, a_open, a_next, a_earliest, a_solo, a_cost, a_plan, a_since, a_done) (nI r) (nI arr) := by
  refine ⟨vp_in_nI (by omega) (by omega), ?_⟩
  rw [nI_clamp (by omega), es, rb_x13]
  refine nm_e ⟨vp_in_nI (by omega) (by omega), ?_⟩
  rw [nI_clamp (by omega)]
  refine nm_e ⟨H + 1, ?_⟩
  exact rb_xTrace20 (a0 := a_solo) (s := s) hr hH hw ha hC hT hJ (H + 1) 0 (fun _ => s) _ (Nat.zero_le _) (by omega) (rb_FR_upd rb_FR_rf (by omega) (by omega)) rfl (fun j hj => absurd hj (Nat.not_lt_zero j)) (fun j hj => by
    have : j = 0 := by omega
    rw [this, Nat.add_zero, pk_us]) (fun j hj => hs) (fun _ => hE)
end
end
section
/-! the reference's search by tries, as a pure invariant -/
def rb_up {α : Type} (f : Nat → α) (i : Nat) (v : α) : Nat → α := fun j => if j = i then v else f j
theorem rb_up_s {α : Type} {f : Nat → α} {i : Nat} {v : α} : rb_up f i v i = v := if_pos rfl
theorem rb_up_n {α : Type} {f : Nat → α} {i j : Nat} {v : α} (h : j ≠ i) : rb_up f i v j = f j := if_neg h
def rb_sg (k : Nat → Nat) : Nat → Nat
  | 0 => 0
  | t + 1 => rb_sg k t + k t
theorem rb_sg_ext {k k' : Nat → Nat} : ∀ t, (∀ i, i < t → k i = k' i) → rb_sg k t = rb_sg k' t := by
  intro t
  induction t with
  | zero => intro _; rfl
  | succ t ih =>
    intro h
    show rb_sg k t + k t = rb_sg k' t + k' t
    rw [ih (fun i hi => h i (by omega)), h t (by omega)]
theorem rb_sg_le {k : Nat → Nat} : ∀ t, (∀ i, i < t → k i ≤ 25) → rb_sg k t ≤ 25 * t := by
  intro t
  induction t with
  | zero => intro _; exact Nat.le_refl 0
  | succ t ih =>
    intro h
    have h1 := ih (fun i hi => h i (by omega))
    have h2 := h t (by omega)
    show rb_sg k t + k t ≤ _
    omega
def rb_cnt (a : Nat → Int32) : Nat → Nat
  | 0 => 0
  | n + 1 => rb_cnt a n + (if a n = 0 then 0 else 1)
theorem rb_cnt_le {a : Nat → Int32} : ∀ n, rb_cnt a n ≤ n := by
  intro n
  induction n with
  | zero => exact Nat.le_refl 0
  | succ n ih =>
    show rb_cnt a n + (if a n = 0 then 0 else 1) ≤ n + 1
    split <;> omega
theorem rb_cnt_ext {a b : Nat → Int32} : ∀ n, (∀ i, i < n → a i = b i) → rb_cnt a n = rb_cnt b n := by
  intro n
  induction n with
  | zero => intro _; rfl
  | succ n ih =>
    intro h
    show rb_cnt a n + (if a n = 0 then 0 else 1) = rb_cnt b n + (if b n = 0 then 0 else 1)
    rw [ih (fun i hi => h i (by omega)), h n (by omega)]
theorem rb_cnt_upd {a : Nat → Int32} {i : Nat} {v : Int32} (h0 : a i = 0) (hv : v ≠ 0) : ∀ n, i < n → rb_cnt (upd a i v) n = rb_cnt a n + 1 := by
  intro n
  induction n with
  | zero => intro h; omega
  | succ n ih =>
    intro h
    show rb_cnt (upd a i v) n + (if upd a i v n = 0 then 0 else 1) = rb_cnt a n + (if a n = 0 then 0 else 1) + 1
    by_cases e : n = i
    · subst e
      rw [pk_us, if_neg hv, if_pos h0, rb_cnt_ext (a := upd a n v) (b := a) n (fun j hj => pk_un (by omega))]
    · rw [pk_un e, ih (by omega)]
      omega
theorem rb_cnt_0 {a : Nat → Int32} : ∀ n, rb_cnt a n ≥ 0 := fun _ => Nat.zero_le _
section
variable (St : Nat → Nat × Nat → Nat → Nat × Nat → Prop) (H : Nat)
def rb_F (i : Nat) (s : Nat × Nat) (m : Nat) : Prop := ∀ s', St i s m s' → ¬ rb_ok St 25 (H - (i + 1)) (i + 1) s'
def rb_dx (i : Nat) (s : Nat × Nat) : Nat := i * 225 + s.1 * 15 + s.2
/-- the search stands at tick t, with k i codes tried at tick i -/
def rb_DI (C : Nat) (s0 : Nat × Nat) (t trial : Nat) (k : Nat → Nat) (ps : Nat → Nat × Nat) (dead : Nat → Int32) : Prop :=
  ps 0 = s0 ∧ (∀ i, i ≤ t → (ps i).1 < C ∧ (ps i).2 < C) ∧
  (∀ i, i < t → 1 ≤ k i ∧ k i ≤ 25 ∧ St i (ps i) (k i - 1) (ps (i + 1)) ∧ ∀ m, m + 1 < k i → rb_F St H i (ps i) m) ∧
  k t ≤ 25 ∧ (∀ m, m < k t → rb_F St H t (ps t) m) ∧
  (∀ i s, i ≤ H → s.1 < C → s.2 < C → dead (rb_dx i s) ≠ 0 → ¬ rb_ok St 25 (H - i) i s) ∧
  (∀ i, i ≤ t → dead (rb_dx i (ps i)) = 0) ∧ trial ≤ 26 * rb_cnt dead 2925 + rb_sg k t + k t
end
theorem rb_dx_inj {i j : Nat} {s q : Nat × Nat} (h1 : s.1 < 15) (h2 : s.2 < 15) (h3 : q.1 < 15) (h4 : q.2 < 15) (h : rb_dx i s = rb_dx j q) : i = j ∧ s = q := by
  unfold rb_dx at h
  have a : i = j := by omega
  have b : s.1 = q.1 := by omega
  have c : s.2 = q.2 := by omega
  exact ⟨a, Prod.ext b c⟩
section
variable {St : Nat → Nat × Nat → Nat → Nat × Nat → Prop} {H C : Nat} {s0 : Nat × Nat} {t trial : Nat} {k : Nat → Nat} {ps : Nat → Nat × Nat} {dead : Nat → Int32}
theorem rb_D_lt (h : rb_DI St H C s0 t trial k ps dead) (ht : t ≤ 12) : trial < 80000 - 26 := by
  have h1 := h.2.2.2.2.2.2.2
  have h2 := rb_cnt_le (a := dead) 2925
  have h3 := rb_sg_le (k := k) t (fun i hi => (h.2.2.1 i hi).2.1)
  have h4 := h.2.2.2.1
  omega
theorem rb_D_no (h : rb_DI St H C s0 t trial k ps dead) (ht : t < H) (hk : k t = 25) : ¬ rb_ok St 25 (H - t) t (ps t) := by
  rw [show H - t = (H - (t + 1)) + 1 by omega]
  intro ⟨m, hm, s', hs, ho⟩
  exact h.2.2.2.2.1 m (by omega) s' hs ho
theorem rb_D_fail (h : rb_DI St H C s0 t trial k ps dead) (hk : k t < 25) (hF : rb_F St H t (ps t) (k t)) : rb_DI St H C s0 t (trial + 1) (rb_up k t (k t + 1)) ps dead := by
  obtain ⟨a1, a2, a3, a4, a5, a6, a7, a8⟩ := h
  refine ⟨a1, a2, fun i hi => ?_, ?_, fun m hm => ?_, a6, a7, ?_⟩
  · rw [rb_up_n (by omega)]; exact a3 i hi
  · rw [rb_up_s]; omega
  · rw [rb_up_s] at hm
    by_cases e : m = k t
    · rw [e]; exact hF
    · exact a5 m (by omega)
  · rw [rb_up_s, rb_sg_ext (k := rb_up k t (k t + 1)) (k' := k) t (fun i hi => rb_up_n (by omega))]
    omega
theorem rb_D_push {s' : Nat × Nat} (h : rb_DI St H C s0 t trial k ps dead) (hk : k t < 25) (hs : St t (ps t) (k t) s') (h1 : s'.1 < C) (h2 : s'.2 < C) (hd : dead (rb_dx (t + 1) s') = 0) :
    rb_DI St H C s0 (t + 1) (trial + 1) (rb_up (rb_up k t (k t + 1)) (t + 1) 0) (rb_up ps (t + 1) s') dead := by
  obtain ⟨a1, a2, a3, a4, a5, a6, a7, a8⟩ := h
  refine ⟨?_, fun i hi => ?_, fun i hi => ?_, ?_, fun m hm => ?_, a6, fun i hi => ?_, ?_⟩
  · rw [rb_up_n (by omega)]; exact a1
  · by_cases e : i = t + 1
    · rw [e, rb_up_s]; exact ⟨h1, h2⟩
    · rw [rb_up_n e]; exact a2 i (by omega)
  · rw [rb_up_n (show i ≠ t + 1 by omega), rb_up_n (show i ≠ t + 1 by omega)]
    by_cases e : i = t
    · subst e
      rw [rb_up_s, rb_up_s, Nat.add_sub_cancel]
      exact ⟨by omega, by omega, hs, fun m hm => a5 m (by omega)⟩
    · rw [rb_up_n e, rb_up_n (show i + 1 ≠ t + 1 by omega)]
      exact a3 i (by omega)
  · rw [rb_up_s]; omega
  · rw [rb_up_s] at hm; omega
  · by_cases e : i = t + 1
    · rw [e, rb_up_s]; exact hd
    · rw [rb_up_n e]; exact a7 i (by omega)
  · rw [rb_up_s]
    show _ ≤ _ + (rb_sg (rb_up (rb_up k t (k t + 1)) (t + 1) 0) t + rb_up (rb_up k t (k t + 1)) (t + 1) 0 t) + 0
    rw [rb_up_n (show t ≠ t + 1 by omega), rb_up_s, rb_sg_ext (k := rb_up (rb_up k t (k t + 1)) (t + 1) 0) (k' := k) t (fun i hi => by rw [rb_up_n (by omega), rb_up_n (by omega)])]
    omega
theorem rb_D_pop (det : ∀ t s m s' s'', St t s m s' → St t s m s'' → s' = s'') (hC : C ≤ 15) (hH : H ≤ 12) (h : rb_DI St H C s0 (t + 1) trial k ps dead) (ht : t + 1 < H) (hk : k (t + 1) = 25) :
    rb_DI St H C s0 t (trial + 1) k ps (upd dead (rb_dx (t + 1) (ps (t + 1))) 1) := by
  have hno := rb_D_no h ht hk
  obtain ⟨a1, a2, a3, a4, a5, a6, a7, a8⟩ := h
  have b := a2 (t + 1) (Nat.le_refl _)
  have a3t := a3 t (by omega)
  refine ⟨a1, fun i hi => a2 i (by omega), fun i hi => a3 i (by omega), a3t.2.1, fun m hm => ?_, fun i s hi h1 h2 hd => ?_, fun i hi => ?_, ?_⟩
  · by_cases e : m + 1 = k t
    · intro s' hs
      have e2 : m = k t - 1 := by omega
      subst e2
      rw [det _ _ _ _ _ hs a3t.2.2.1]
      exact hno
    · exact a3t.2.2.2 m (by omega)
  · by_cases e : rb_dx i s = rb_dx (t + 1) (ps (t + 1))
    · have := rb_dx_inj (by omega) (by omega) (by omega) (by omega) e
      rw [this.1, this.2]
      exact hno
    · rw [pk_un e] at hd
      exact a6 i s hi h1 h2 hd
  · have bi := a2 i (by omega)
    rw [pk_un (fun e => by have := rb_dx_inj (by omega) (by omega) (by omega) (by omega) e; omega)]
    exact a7 i (by omega)
  · rw [rb_cnt_upd (a7 (t + 1) (Nat.le_refl _)) (by decide) 2925 (by unfold rb_dx; omega)]
    have e : rb_sg k (t + 1) = rb_sg k t + k t := rfl
    rw [e] at a8
    omega
theorem rb_D_start (h1 : s0.1 < C) (h2 : s0.2 < C) (hd : ∀ i, i < 2925 → dead i = 0) (hC : C ≤ 15) (hH : H ≤ 12) : rb_DI St H C s0 0 0 (fun _ => 0) (fun _ => s0) dead :=
  ⟨rfl, fun i hi => ⟨h1, h2⟩, fun i hi => absurd hi (Nat.not_lt_zero i), Nat.zero_le _, fun m hm => absurd hm (Nat.not_lt_zero m), fun i s hi h3 h4 h5 => absurd (hd _ (by unfold rb_dx; omega)) h5,
   fun i hi => hd _ (by show i * 225 + s0.1 * 15 + s0.2 < 2925; omega), Nat.zero_le _⟩
end
end
section
/-! the reference's walks: small methods, one try of a step -/
section
variable {f_status f_bound : Int32} {a_walls a_placed a_dead a_start a_goal a_done a_rules a_path a_codes a_kept a_lone : Nat → Int32} {w h C H rc : Nat} {g : Nat → Nat}
theorem rb_yIsC {post : Int32 → Prop} {x : Int32} (eC : w * h = C) (hC : C ≤ 15) (h1 : ∀ c, c < C → x = nI c → post 1) (h0 : (∀ c, c < C → x ≠ nI c) → post 0) : wpY_isCell post (nI w, nI h, nI H, nI rc, f_status, f_bound, a_walls, a_placed, a_dead, a_start, a_goal, a_done, a_rules, a_path, a_codes, a_kept, a_lone) x := by
  show (x < 0 → post 0) ∧ (¬ x < 0 → ((nI w * nI h ≤ x → post 0) ∧ (¬ nI w * nI h ≤ x → post 1)))
  rw [pk_mul, eC]
  refine br_c (fun z => h0 fun c hc e => nI_pos (n := c) (by omega) (e ▸ z)) (fun z => ?_)
  obtain ⟨j, hj, rfl⟩ := nI_of z
  exact pk_le C j (fun z => h0 fun c hc e => by rw [nI_eq hj (by omega)] at e; omega) (fun z => h1 j z rfl)
theorem rb_yIsCy {post : Int32 → Prop} {c : Nat} (eC : w * h = C) (hC : C ≤ 15) (hc : c < C) (h1 : post 1) : wpY_isCell post (nI w, nI h, nI H, nI rc, f_status, f_bound, a_walls, a_placed, a_dead, a_start, a_goal, a_done, a_rules, a_path, a_codes, a_kept, a_lone) (nI c) :=
  rb_yIsC eC hC (fun _ _ _ => h1) (fun z => absurd rfl (z c hc))
theorem rb_yIsCn {post : Int32 → Prop} {x : Int32} (eC : w * h = C) (hC : C ≤ 15) (hx : x < 0) (h0 : post 0) : wpY_isCell post (nI w, nI h, nI H, nI rc, f_status, f_bound, a_walls, a_placed, a_dead, a_start, a_goal, a_done, a_rules, a_path, a_codes, a_kept, a_lone) x :=
  rb_yIsC eC hC (fun c hc e => absurd (e ▸ hx) (nI_pos (by omega))) (fun _ => h0)
theorem rb_yIsCb {post : Int32 → Prop} {c : Nat} (eC : w * h = C) (hC : C ≤ 15) (hc2 : c < 1000) (hc : ¬ c < C) (h0 : post 0) : wpY_isCell post (nI w, nI h, nI H, nI rc, f_status, f_bound, a_walls, a_placed, a_dead, a_start, a_goal, a_done, a_rules, a_path, a_codes, a_kept, a_lone) (nI c) :=
  rb_yIsC eC hC (fun c' hc' e => by rw [nI_eq (by omega) (by omega)] at e; omega) (fun _ => h0)
theorem rb_yT117y {post : Int32 → Prop} {c : Nat} (eC : w * h = C) (hC : C ≤ 15) (hc : c < C) (h1 : post (nI c)) : wY_target_117 post (nI c) (nI w) (nI h) (nI H) (nI rc) f_status f_bound a_walls a_placed a_dead a_start a_goal a_done a_rules a_path a_codes a_kept a_lone :=
  rb_yIsCy eC hC hc (br_f (by decide) h1)
theorem rb_yT117n {post : Int32 → Prop} {x : Int32} (eC : w * h = C) (hC : C ≤ 15) (hx : x < 0) (h0 : post (-1)) : wY_target_117 post x (nI w) (nI h) (nI H) (nI rc) f_status f_bound a_walls a_placed a_dead a_start a_goal a_done a_rules a_path a_codes a_kept a_lone :=
  rb_yIsCn eC hC hx (br_t rfl h0)
theorem rb_yT117b {post : Int32 → Prop} {c : Nat} (eC : w * h = C) (hC : C ≤ 15) (hc2 : c < 1000) (hc : ¬ c < C) (h0 : post (-1)) : wY_target_117 post (nI c) (nI w) (nI h) (nI H) (nI rc) f_status f_bound a_walls a_placed a_dead a_start a_goal a_done a_rules a_path a_codes a_kept a_lone :=
  rb_yIsCb eC hC hc2 hc (br_t rfl h0)
theorem rb_yT39 {post : Int32 → Prop} {c d : Nat} (eC : w * h = C) (hC : C ≤ 15) (hw : 1 ≤ w) (hw5 : w ≤ 5) (hc : c < C) (hd : d < 5)
    (h0 : rb_tg w C c d = none → post (-1)) (h1 : ∀ c', rb_tg w C c d = some c' → post (nI c')) : wY_target_39 post (nI c) (nI d) (nI (rb_cl w c)) (nI w) (nI h) (nI H) (nI rc) f_status f_bound a_walls a_placed a_dead a_start a_goal a_done a_rules a_path a_codes a_kept a_lone := by
  have ecl : rb_cl w c ≤ c := by unfold rb_cl; split <;> (try split) <;> omega
  have h5 : d = 0 ∨ d = 1 ∨ d = 2 ∨ d = 3 ∨ d = 4 := by omega
  rcases h5 with rfl | rfl | rfl | rfl | rfl
  · refine br_f (by decide) (br_f (by decide) (br_f (by decide) (br_f (by decide) (br_f (by decide) (br_f (by decide) ?_)))))
    exact rb_yT117y eC hC hc (h1 c rb_tg_0)
  · refine br_f (by decide) (br_f (by decide) (br_t rfl ?_))
    by_cases z : w ≤ c
    · rw [pk_sub z]
      exact rb_yT117y eC hC (by omega) (h1 _ (by simp [rb_tg, z]))
    · exact rb_yT117n eC hC (pk_sneg (by omega) (by omega)) (h0 (by simp [rb_tg, z]))
  · refine br_t rfl (pk_eq (rb_cl w c) (w - 1) (fun z => h0 (by simp [rb_tg]; omega)) (fun z => br_f (by decide) (br_f (by decide) (br_t rfl ?_))) rfl (pk_sub (b := 1) hw))
    rw [nI_1]
    by_cases z2 : c + 1 < C
    · exact rb_yT117y eC hC z2 (h1 _ (by simp [rb_tg, z2]; omega))
    · exact rb_yT117b eC hC (by omega) z2 (h0 (by simp [rb_tg, z2]))
  · refine br_f (by decide) (br_f (by decide) (br_f (by decide) (br_f (by decide) (br_t rfl ?_))))
    rw [nI_add]
    by_cases z2 : c + w < C
    · exact rb_yT117y eC hC z2 (h1 _ (by simp [rb_tg, z2]))
    · exact rb_yT117b eC hC (by omega) z2 (h0 (by simp [rb_tg, z2]))
  · refine br_f (by decide) (br_t rfl (pk_eq (rb_cl w c) 0 (fun z => h0 (by simp [rb_tg, z])) (fun z => br_f (by decide) (br_f (by decide) (br_f (by decide) (br_t rfl ?_))))))
    have e : nI c - 1 = nI (c - 1) := pk_sub (b := 1) (by omega)
    rw [e]
    have h1c : 1 ≤ c := by omega
    exact rb_yT117y eC hC (by omega) (h1 _ (by simp [rb_tg, h1c, z]))
theorem rb_yTarget {post : Int32 → Prop} {c d : Nat} (eC : w * h = C) (hC : C ≤ 15) (hw : 1 ≤ w) (hw5 : w ≤ 5) (hc : c < C) (hd : d < 5)
    (h0 : rb_tg w C c d = none → post (-1)) (h1 : ∀ c', rb_tg w C c d = some c' → post (nI c')) : wpY_target post (nI w, nI h, nI H, nI rc, f_status, f_bound, a_walls, a_placed, a_dead, a_start, a_goal, a_done, a_rules, a_path, a_codes, a_kept, a_lone) (nI c) (nI d) := by
  have e2 : (2 : Int32) * nI w = nI (2 * w) := pk_mul 2 w
  have K := rb_yT39 (f_status := f_status) (f_bound := f_bound) (a_walls := a_walls) (a_placed := a_placed) (a_dead := a_dead) (a_start := a_start) (a_goal := a_goal) (a_done := a_done) (a_rules := a_rules) (a_path := a_path) (a_codes := a_codes) (a_kept := a_kept) (a_lone := a_lone) (H := H) (rc := rc) eC hC hw hw5 hc hd h0 h1
  show (nI c < 2 * nI w → _) ∧ (¬ nI c < 2 * nI w → _)
  rw [e2]
  refine pk_lt c (2 * w) (fun z => pk_lt c w (fun z2 => ?_) (fun z2 => ?_)) (fun z => ?_)
  · have e : rb_cl w c = c := by unfold rb_cl; rw [if_neg (by omega), if_neg (by omega)]
    rw [e] at K; exact K
  · have e : rb_cl w c = c - w := by unfold rb_cl; rw [if_neg (by omega), if_pos (by omega)]
    rw [e] at K
    rw [pk_sub z2]; exact K
  · have e : rb_cl w c = c - 2 * w := by unfold rb_cl; rw [if_pos (by omega)]
    rw [e] at K
    rw [pk_sub z]; exact K
theorem rb_yHas3 {post : Int32 → Prop} {r c d t : Nat} (hrc : rc ≤ 8) (h1 : rb_HR a_rules rc (nI (rb_cd r c d t)) → post 1) (h0 : ¬ rb_HR a_rules rc (nI (rb_cd r c d t)) → post 0) :
    ∀ n i, i ≤ rc → rc - i < n → (∀ j, j < i → a_rules j ≠ nI (rb_cd r c d t)) → wY_hasRule_3 post (nI r) (nI c) (nI d) (nI t) (nI w) (nI h) (nI H) (nI rc) f_status f_bound a_walls a_placed a_dead a_start a_goal a_done a_rules a_path a_codes a_kept a_lone n (nI i) := by
  intro n
  induction n with
  | zero => intro i _ h; omega
  | succ n ih =>
    intro i hi hn hp
    have ec := rb_code r c d t
    refine pk_le rc i (fun h => h0 fun ⟨j, hj, e⟩ => hp j (by omega) e) (fun h => ⟨vp_in_nI (by omega) (by omega), br_c (fun e => h1 ⟨i, h, ?_⟩) (fun e => nm_r (nI_1 i) (ih (i + 1) (by omega) (by omega) fun j hj => ?_))⟩)
    · rw [nI_clamp (by omega), ec] at e; exact e
    · rw [nI_clamp (by omega), ec] at e
      by_cases z : j = i
      · rw [z]; exact e
      · exact hp j (by omega)
theorem rb_yHas {post : Int32 → Prop} {r c d t : Nat} (hrc : rc ≤ 8) (h1 : rb_HR a_rules rc (nI (rb_cd r c d t)) → post 1) (h0 : ¬ rb_HR a_rules rc (nI (rb_cd r c d t)) → post 0) : wpY_hasRule post (nI w, nI h, nI H, nI rc, f_status, f_bound, a_walls, a_placed, a_dead, a_start, a_goal, a_done, a_rules, a_path, a_codes, a_kept, a_lone) (nI r) (nI c) (nI d) (nI t) :=
  ⟨rc + 1, rb_yHas3 hrc h1 h0 (rc + 1) 0 (Nat.zero_le _) (by omega) (fun j hj => absurd hj (Nat.not_lt_zero j))⟩
theorem rb_yStand {post : Int32 → Prop} {r c t u : Nat} (eC : w * h = C) (hC : C ≤ 15) (hrc : rc ≤ 8) (hr : r < 2) (hc : c < C) (ht : t < 1000) (hu : u < 1000) (hg : g r < C) (eg : a_goal r = nI (g r))
    (h1 : rb_Op a_walls a_rules rc C r t c → (u ≤ t → c = g r) → post 1) (h0 : ¬ (rb_Op a_walls a_rules rc C r t c ∧ (u ≤ t → c = g r)) → post 0) : wpY_mayStand post (nI w, nI h, nI H, nI rc, f_status, f_bound, a_walls, a_placed, a_dead, a_start, a_goal, a_done, a_rules, a_path, a_codes, a_kept, a_lone) (nI r) (nI c) (nI t) (nI u) := by
  unfold wpY_mayStand
  refine rb_yIsCy eC hC hc (br_f (by decide) ⟨vp_in_nI (by omega) (by omega), ?_⟩)
  rw [nI_clamp (by omega)]
  refine br_c (fun z => ?_) (fun z => h0 fun k => z k.1.2.1)
  have last : (u ≤ t → c = g r) → wY_mayStand_33 post (nI r) (nI c) (nI t) (nI w) (nI h) (nI H) (nI rc) f_status f_bound a_walls a_placed a_dead a_start a_goal a_done a_rules a_path a_codes a_kept a_lone := fun hz =>
    rb_yHas (d := 0) hrc (fun k => br_f (by decide) (h0 fun k2 => k2.1.2.2 k)) (fun k => br_t rfl (h1 ⟨hc, z, k⟩ hz))
  refine pk_lt t u (fun k => last fun k2 => by omega) (fun k => ⟨vp_in_nI (by omega) (by omega), ?_⟩)
  rw [nI_clamp (by omega), eg]
  exact pk_eq c (g r) (fun k2 => last fun _ => k2) (fun k2 => h0 fun k3 => k2 (k3.2 k))
theorem rb_yStandN {post : Int32 → Prop} {r x3 x4 : Int32} (eC : w * h = C) (hC : C ≤ 15) (h0 : post 0) : wpY_mayStand post (nI w, nI h, nI H, nI rc, f_status, f_bound, a_walls, a_placed, a_dead, a_start, a_goal, a_done, a_rules, a_path, a_codes, a_kept, a_lone) r (-1) x3 x4 := by
  unfold wpY_mayStand
  exact rb_yIsCn eC hC rb_neg1 (br_t rfl h0)
theorem rb_y182 {post : Int32 → SY → Prop} {t c d : Nat} (hC : C ≤ 15) (ht : t < 12) (hc : c < C) (hd : d < C)
    (h1 : a_dead (rb_dx (t + 1) (c, d)) = 0 → post 1 (nI w, nI h, nI H, nI rc, f_status, f_bound, a_walls, a_placed, a_dead, a_start, a_goal, a_done, a_rules, upd (upd a_path (t + 1) (nI c)) (14 + t) (nI d), a_codes, a_kept, a_lone)) (h0 : a_dead (rb_dx (t + 1) (c, d)) ≠ 0 → post 0 (nI w, nI h, nI H, nI rc, f_status, f_bound, a_walls, a_placed, a_dead, a_start, a_goal, a_done, a_rules, upd (upd a_path (t + 1) (nI c)) (14 + t) (nI d), a_codes, a_kept, a_lone)) :
    wY_mayStep_182 post (nI t) (nI c) (nI d) (nI w) (nI h) (nI H) (nI rc) f_status f_bound a_walls a_placed a_dead a_start a_goal a_done a_rules a_path a_codes a_kept a_lone := by
  have e1 : nI t + 1 = nI (t + 1) := nI_1 t
  have e2 : (14 : Int32) + nI t = nI (14 + t) := nI_add 14 t
  have e3 : nI (t + 1) * 225 + nI c * 15 + nI d = nI (rb_dx (t + 1) (c, d)) := by
    rw [show (225 : Int32) = nI 225 from rfl, show (15 : Int32) = nI 15 from rfl, pk_mul, pk_mul, nI_add, nI_add]
    rfl
  have b : rb_dx (t + 1) (c, d) < 2925 := by unfold rb_dx; show (t + 1) * 225 + c * 15 + d < 2925; omega
  unfold wY_mayStep_182
  rw [e1, e2, e3]
  refine ⟨vp_in_nI (by omega) (by omega), nm_r (e' := upd a_path (t + 1) (nI c)) (by rw [nI_clamp (by omega)]) ⟨vp_in_nI (by omega) (by omega), nm_r (e' := upd (upd a_path (t + 1) (nI c)) (14 + t) (nI d)) (by rw [nI_clamp (by omega)]) ⟨vp_in_nI b (by omega), ?_⟩⟩⟩
  rw [nI_clamp (by omega)]
  exact br_c h1 h0
end
end
section
/-! the reference: one try of a step -/
section
variable {f_status f_bound : Int32} {a_walls a_placed a_dead a_start a_goal a_done a_rules a_path a_codes a_kept a_lone : Nat → Int32} {w h C H rc : Nat} {g : Nat → Nat}
theorem rb_y154 {post : Int32 → SY → Prop} {who t c d c' d' : Nat} (hC : C ≤ 15) (hwho : who < 4) (ht : t < 12) (hc : c < C) (hd : d < C) (hc' : c' < C) (hd' : d' < C)
    (hN : ¬ (who = 3 → c' ≠ d' ∧ ¬ (c' = d ∧ d' = c)) → post 0 (nI w, nI h, nI H, nI rc, f_status, f_bound, a_walls, a_placed, a_dead, a_start, a_goal, a_done, a_rules, a_path, a_codes, a_kept, a_lone))
    (hY : (who = 3 → c' ≠ d' ∧ ¬ (c' = d ∧ d' = c)) → (a_dead (rb_dx (t + 1) (c', d')) = 0 → post 1 (nI w, nI h, nI H, nI rc, f_status, f_bound, a_walls, a_placed, a_dead, a_start, a_goal, a_done, a_rules, upd (upd a_path (t + 1) (nI c')) (14 + t) (nI d'), a_codes, a_kept, a_lone)) ∧ (a_dead (rb_dx (t + 1) (c', d')) ≠ 0 → post 0 (nI w, nI h, nI H, nI rc, f_status, f_bound, a_walls, a_placed, a_dead, a_start, a_goal, a_done, a_rules, upd (upd a_path (t + 1) (nI c')) (14 + t) (nI d'), a_codes, a_kept, a_lone))) :
    wY_mayStep_154 post (nI who) (nI t) (nI c) (nI d) (nI c') (nI d') (nI w) (nI h) (nI H) (nI rc) f_status f_bound a_walls a_placed a_dead a_start a_goal a_done a_rules a_path a_codes a_kept a_lone := by
  have go : (who = 3 → c' ≠ d' ∧ ¬ (c' = d ∧ d' = c)) → wY_mayStep_182 post (nI t) (nI c') (nI d') (nI w) (nI h) (nI H) (nI rc) f_status f_bound a_walls a_placed a_dead a_start a_goal a_done a_rules a_path a_codes a_kept a_lone := fun z => rb_y182 hC ht hc' hd' (hY z).1 (hY z).2
  refine pk_eq who 3 (fun e => pk_eq c' d' (fun e1 => hN fun z => (z e).1 e1) (fun e1 => pk_eq c' d (fun e2 => pk_eq d' c (fun e3 => hN fun z => (z e).2 ⟨e2, e3⟩) (fun e3 => go fun _ => ⟨e1, fun z => e3 z.2⟩)) (fun e2 => go fun _ => ⟨e1, fun z => e2 z.1⟩))) (fun e => go fun z => absurd z e)
/-- robot 1's half of a try, robot 0's having been found right -/
theorem rb_y106 {post : Int32 → SY → Prop} {who t u1 c d c' n : Nat} {x10 : Int32} (eC : w * h = C) (hC : C ≤ 15) (hrc : rc ≤ 8) (hwho : who < 4) (ht : t < 12) (hu : u1 ≤ 24) (hc : c < C) (hd : d < C) (hc' : c' < C) (hn : n < 5) (hg : g 1 < C) (eg : a_goal 1 = nI (g 1))
    (hx : (rb_tg w C d n = none ∧ x10 = -1) ∨ ∃ d', rb_tg w C d n = some d' ∧ x10 = nI d')
    (hN : (∀ d', ¬ ((who ≠ 1 → rb_mv a_walls a_rules rc w C 1 t d n d' ∧ (u1 ≤ t + 1 → d' = g 1)) ∧ (who = 1 → n = 0 ∧ d' = d) ∧ (who = 3 → c' ≠ d' ∧ ¬ (c' = d ∧ d' = c)))) → post 0 (nI w, nI h, nI H, nI rc, f_status, f_bound, a_walls, a_placed, a_dead, a_start, a_goal, a_done, a_rules, a_path, a_codes, a_kept, a_lone))
    (hY : ∀ d', d' < C → ((who ≠ 1 → rb_mv a_walls a_rules rc w C 1 t d n d' ∧ (u1 ≤ t + 1 → d' = g 1)) ∧ (who = 1 → n = 0 ∧ d' = d) ∧ (who = 3 → c' ≠ d' ∧ ¬ (c' = d ∧ d' = c))) →
      (a_dead (rb_dx (t + 1) (c', d')) = 0 → post 1 (nI w, nI h, nI H, nI rc, f_status, f_bound, a_walls, a_placed, a_dead, a_start, a_goal, a_done, a_rules, upd (upd a_path (t + 1) (nI c')) (14 + t) (nI d'), a_codes, a_kept, a_lone)) ∧ (a_dead (rb_dx (t + 1) (c', d')) ≠ 0 → post 0 (nI w, nI h, nI H, nI rc, f_status, f_bound, a_walls, a_placed, a_dead, a_start, a_goal, a_done, a_rules, upd (upd a_path (t + 1) (nI c')) (14 + t) (nI d'), a_codes, a_kept, a_lone))) :
    wY_mayStep_106 post (nI who) (nI t) (nI u1) (nI c) (nI d) (nI n) (nI c') x10 (nI w) (nI h) (nI H) (nI rc) f_status f_bound a_walls a_placed a_dead a_start a_goal a_done a_rules a_path a_codes a_kept a_lone := by
  have g137 : who ≠ 1 → (0 < n → ¬ rb_HR a_rules rc (nI (rb_cd 1 d n t))) → wY_mayStep_137 post (nI who) (nI t) (nI u1) (nI c) (nI d) (nI c') x10 (nI w) (nI h) (nI H) (nI rc) f_status f_bound a_walls a_placed a_dead a_start a_goal a_done a_rules a_path a_codes a_kept a_lone := by
    intro hw1 hru
    unfold wY_mayStep_137
    rcases hx with ⟨e1, e2⟩ | ⟨d', e1, e2⟩
    · rw [e2]
      exact rb_yStandN eC hC (br_t rfl (hN fun d' z => by have := (z.1 hw1).1.1; rw [e1] at this; cases this))
    · have hd' := rb_tg_lt hd e1
      rw [e2, nI_1]
      refine rb_yStand (r := 1) (g := g) eC hC hrc (by omega) hd' (by omega) (by omega) hg eg (fun k1 k2 => br_f (by decide) ?_) (fun k => br_t rfl (hN fun d'' z => k ?_))
      · exact rb_y154 hC hwho ht hc hd hc' hd' (fun z => hN fun d'' z2 => z fun e3 => by
          have e4 := e1.symm.trans (z2.1 hw1).1.1
          cases e4
          exact z2.2.2 e3) (fun z => hY d' hd' ⟨fun _ => ⟨⟨e1, hru, k1⟩, k2⟩, fun z => absurd z hw1, z⟩)
      · have e4 := e1.symm.trans (z.1 hw1).1.1
        cases e4
        exact ⟨(z.1 hw1).1.2.2, (z.1 hw1).2⟩
  refine pk_eq who 1 (fun e => pk_le n 0 (fun z => ?_) (fun z => hN fun d' k => by have := (k.2.1 e).1; omega)) (fun e => pk_le n 0 (fun z => g137 e fun k => by omega) (fun z => ?_))
  · have e0 : n = 0 := by omega
    subst e0
    rcases hx with ⟨e1, e2⟩ | ⟨d', e1, e2⟩
    · rw [rb_tg_0] at e1; cases e1
    · rw [rb_tg_0] at e1
      cases e1
      rw [e2]
      exact rb_y154 hC hwho ht hc hd hc' hd (fun z => by omega) (fun z => hY d hd ⟨fun z => absurd e z, fun _ => ⟨rfl, rfl⟩, z⟩)
  · exact rb_yHas (r := 1) hrc (fun k => br_f (by decide) (hN fun d' k2 => (k2.1 e).1.2.1 z k)) (fun k => br_t rfl (g137 e fun _ => k))
theorem rb_yStep {post : Int32 → SY → Prop} {who t u0 u1 c d m : Nat} (eC : w * h = C) (hC : C ≤ 15) (hw : 1 ≤ w) (hw5 : w ≤ 5) (hrc : rc ≤ 8) (hwho : who < 4) (ht : t < 12) (hu0 : u0 ≤ 24) (hu1 : u1 ≤ 24) (hc : c < C) (hd : d < C) (hm : m < 25)
    (hg0 : g 0 < C) (eg0 : a_goal 0 = nI (g 0)) (hg1 : g 1 < C) (eg1 : a_goal 1 = nI (g 1)) (ec : a_path t = nI c) (ed : a_path (13 + t) = nI d) (em : a_codes t = nI m)
    (hN : (∀ s', ¬ rb_sY (rb_mv a_walls a_rules rc w C) g who u0 u1 t (c, d) m s') → post 0 (nI w, nI h, nI H, nI rc, f_status, f_bound, a_walls, a_placed, a_dead, a_start, a_goal, a_done, a_rules, a_path, a_codes, a_kept, a_lone))
    (hY : ∀ c' d', c' < C → d' < C → rb_sY (rb_mv a_walls a_rules rc w C) g who u0 u1 t (c, d) m (c', d') →
      (a_dead (rb_dx (t + 1) (c', d')) = 0 → post 1 (nI w, nI h, nI H, nI rc, f_status, f_bound, a_walls, a_placed, a_dead, a_start, a_goal, a_done, a_rules, upd (upd a_path (t + 1) (nI c')) (14 + t) (nI d'), a_codes, a_kept, a_lone)) ∧ (a_dead (rb_dx (t + 1) (c', d')) ≠ 0 → post 0 (nI w, nI h, nI H, nI rc, f_status, f_bound, a_walls, a_placed, a_dead, a_start, a_goal, a_done, a_rules, upd (upd a_path (t + 1) (nI c')) (14 + t) (nI d'), a_codes, a_kept, a_lone))) :
    wpY_mayStep post (nI w, nI h, nI H, nI rc, f_status, f_bound, a_walls, a_placed, a_dead, a_start, a_goal, a_done, a_rules, a_path, a_codes, a_kept, a_lone) (nI who) (nI t) (nI u0) (nI u1) := by
  have e13 : (13 : Int32) + nI t = nI (13 + t) := nI_add 13 t
  have m5 : m / 5 < 5 := by omega
  have n5 : m % 5 < 5 := by omega
  have g106 : ∀ c' x10, c' < C → ((who ≠ 2 → rb_mv a_walls a_rules rc w C 0 t c (m / 5) c' ∧ (u0 ≤ t + 1 → c' = g 0)) ∧ (who = 2 → m / 5 = 0 ∧ c' = c)) → (∀ c'', ((who ≠ 2 → rb_mv a_walls a_rules rc w C 0 t c (m / 5) c'' ∧ (u0 ≤ t + 1 → c'' = g 0)) ∧ (who = 2 → m / 5 = 0 ∧ c'' = c)) → c'' = c') →
      ((rb_tg w C d (m % 5) = none ∧ x10 = -1) ∨ ∃ d', rb_tg w C d (m % 5) = some d' ∧ x10 = nI d') → wY_mayStep_106 post (nI who) (nI t) (nI u1) (nI c) (nI d) (nI (m % 5)) (nI c') x10 (nI w) (nI h) (nI H) (nI rc) f_status f_bound a_walls a_placed a_dead a_start a_goal a_done a_rules a_path a_codes a_kept a_lone := by
    intro c' x10 hc' hA huniq hx
    refine rb_y106 (g := g) eC hC hrc hwho ht hu1 hc hd hc' n5 hg1 eg1 hx (fun k => hN fun s' z => ?_) (fun d' hd' k => hY c' d' hc' hd' ⟨hA.1, hA.2, k.1, k.2.1, k.2.2⟩)
    have e := huniq s'.1 ⟨z.1, z.2.1⟩
    have z5 := z.2.2.2.2
    rw [e] at z5
    exact k s'.2 ⟨z.2.2.1, z.2.2.2.1, z5⟩
  show vp_in (nI t) 26 ∧ _
  rw [nI_clamp (by omega), ec, e13, nI_clamp (by omega), ed, em]
  refine ⟨vp_in_nI (by omega) (by omega), nm_e ⟨vp_in_nI (by omega) (by omega), nm_e ⟨vp_in_nI (by omega) (by omega), by decide, nm_r (pk_div (d := 5) (by omega) (by omega) (by omega)) ⟨vp_in_nI (by omega) (by omega), by decide, nm_r (pk_rem (d := 5) (by omega) (by omega) (by omega)) ?_⟩⟩⟩⟩
  have two : ∀ x9, ((rb_tg w C c (m / 5) = none ∧ x9 = -1) ∨ ∃ c', rb_tg w C c (m / 5) = some c' ∧ x9 = nI c') → ∀ x10, ((rb_tg w C d (m % 5) = none ∧ x10 = -1) ∨ ∃ d', rb_tg w C d (m % 5) = some d' ∧ x10 = nI d') →
      ((nI who = 2 → ((nI (m / 5) ≤ 0 → wY_mayStep_106 post (nI who) (nI t) (nI u1) (nI c) (nI d) (nI (m % 5)) x9 x10 (nI w) (nI h) (nI H) (nI rc) f_status f_bound a_walls a_placed a_dead a_start a_goal a_done a_rules a_path a_codes a_kept a_lone) ∧ (¬ nI (m / 5) ≤ 0 → post 0 (nI w, nI h, nI H, nI rc, f_status, f_bound, a_walls, a_placed, a_dead, a_start, a_goal, a_done, a_rules, a_path, a_codes, a_kept, a_lone)))) ∧
       (¬ nI who = 2 → ((nI (m / 5) ≤ 0 → wY_mayStep_90 post (nI who) (nI t) (nI u0) (nI u1) (nI c) (nI d) (nI (m % 5)) x9 x10 (nI w) (nI h) (nI H) (nI rc) f_status f_bound a_walls a_placed a_dead a_start a_goal a_done a_rules a_path a_codes a_kept a_lone) ∧ (¬ nI (m / 5) ≤ 0 → wpY_hasRule (fun r_119 => ((r_119 = 0 → wY_mayStep_90 post (nI who) (nI t) (nI u0) (nI u1) (nI c) (nI d) (nI (m % 5)) x9 x10 (nI w) (nI h) (nI H) (nI rc) f_status f_bound a_walls a_placed a_dead a_start a_goal a_done a_rules a_path a_codes a_kept a_lone) ∧ (¬ r_119 = 0 → post 0 (nI w, nI h, nI H, nI rc, f_status, f_bound, a_walls, a_placed, a_dead, a_start, a_goal, a_done, a_rules, a_path, a_codes, a_kept, a_lone)))) (nI w, nI h, nI H, nI rc, f_status, f_bound, a_walls, a_placed, a_dead, a_start, a_goal, a_done, a_rules, a_path, a_codes, a_kept, a_lone) 0 (nI c) (nI (m / 5)) (nI t))))) := by
    intro x9 hx9 x10 hx10
    have g90 : who ≠ 2 → (0 < m / 5 → ¬ rb_HR a_rules rc (nI (rb_cd 0 c (m / 5) t))) → wY_mayStep_90 post (nI who) (nI t) (nI u0) (nI u1) (nI c) (nI d) (nI (m % 5)) x9 x10 (nI w) (nI h) (nI H) (nI rc) f_status f_bound a_walls a_placed a_dead a_start a_goal a_done a_rules a_path a_codes a_kept a_lone := by
      intro hw2 hru
      unfold wY_mayStep_90
      rcases hx9 with ⟨e1, e2⟩ | ⟨c', e1, e2⟩
      · rw [e2]
        exact rb_yStandN eC hC (br_t rfl (hN fun s' z => by have := (z.1 hw2).1.1; rw [e1] at this; cases this))
      · have hc' := rb_tg_lt hc e1
        rw [e2, nI_1]
        refine rb_yStand (r := 0) (g := g) eC hC hrc (by omega) hc' (by omega) (by omega) hg0 eg0 (fun k1 k2 => br_f (by decide) ?_) (fun k => br_t rfl (hN fun s' z => k ?_))
        · refine g106 c' x10 hc' ⟨fun _ => ⟨⟨e1, hru, k1⟩, k2⟩, fun z => absurd z hw2⟩ (fun c'' z => ?_) hx10
          have e4 := e1.symm.trans (z.1 hw2).1.1
          cases e4
          rfl
        · have e4 : some c' = some s'.1 := e1.symm.trans (z.1 hw2).1.1
          have e5 : c' = s'.1 := by cases e4; rfl
          rw [e5]
          exact ⟨(z.1 hw2).1.2.2, (z.1 hw2).2⟩
    refine pk_eq who 2 (fun e => pk_le (m / 5) 0 (fun z => ?_) (fun z => hN fun s' k => by have := (k.2.1 e).1; omega)) (fun e => pk_le (m / 5) 0 (fun z => g90 e fun k => by omega) (fun z => ?_))
    · have e0 : m / 5 = 0 := by omega
      rcases hx9 with ⟨e1, e2⟩ | ⟨c', e1, e2⟩
      · rw [e0, rb_tg_0] at e1; cases e1
      · rw [e0, rb_tg_0] at e1
        cases e1
        rw [e2]
        exact g106 c x10 hc ⟨fun z => absurd e z, fun _ => ⟨e0, rfl⟩⟩ (fun c'' z => (z.2 e).2) hx10
    · exact rb_yHas (r := 0) hrc (fun k => br_f (by decide) (hN fun s' k2 => (k2.1 e).1.2.1 z k)) (fun k => br_t rfl (g90 e fun _ => k))
  refine rb_yTarget eC hC hw hw5 hc m5 (fun e1 => ?_) (fun c' e1 => ?_)
  · exact rb_yTarget eC hC hw hw5 hd n5 (fun e2 => two (-1) (Or.inl ⟨e1, rfl⟩) (-1) (Or.inl ⟨e2, rfl⟩)) (fun d' e2 => two (-1) (Or.inl ⟨e1, rfl⟩) (nI d') (Or.inr ⟨d', e2, rfl⟩))
  · exact rb_yTarget eC hC hw hw5 hd n5 (fun e2 => two (nI c') (Or.inr ⟨c', e1, rfl⟩) (-1) (Or.inl ⟨e2, rfl⟩)) (fun d' e2 => two (nI c') (Or.inr ⟨c', e1, rfl⟩) (nI d') (Or.inr ⟨d', e2, rfl⟩))
end
end
section
/-! the reference: the search by tries -/
/-- what a try that ends well leaves -/
def rb_RN (St : Nat → Nat × Nat → Nat → Nat × Nat → Prop) (H C : Nat) (s0 : Nat × Nat) (cs : Nat → Nat) (ps : Nat → Nat × Nat) (path codes : Nat → Int32) : Prop :=
  ps 0 = s0 ∧ (∀ i, i < H → cs i < 25 ∧ St i (ps i) (cs i) (ps (i + 1)) ∧ ∀ m, m < cs i → rb_F St H i (ps i) m) ∧
  (∀ i, i ≤ H → path i = nI (ps i).1 ∧ path (13 + i) = nI (ps i).2 ∧ (ps i).1 < C ∧ (ps i).2 < C) ∧ (∀ i, i < H → codes i = nI (cs i))
section
variable {f_status f_bound : Int32} {a_walls a_placed a_dead a_start a_goal a_done a_rules a_path a_codes a_kept a_lone : Nat → Int32} {w h C H rc : Nat} {g : Nat → Nat}
theorem rb_yFind107 {post : Int32 → SY → Prop} {who u0 u1 s0 s1 : Nat} (eC : w * h = C) (hC : C ≤ 15) (hH : H ≤ 12) (hw : 1 ≤ w) (hw5 : w ≤ 5) (hrc : rc ≤ 8) (hwho : who < 4) (hu0 : u0 ≤ 24) (hu1 : u1 ≤ 24)
    (hg0 : g 0 < C) (eg0 : a_goal 0 = nI (g 0)) (hg1 : g 1 < C) (eg1 : a_goal 1 = nI (g 1))
    (hY : ∀ cs ps a_dead a_path a_codes, rb_RN (rb_sY (rb_mv a_walls a_rules rc w C) g who u0 u1) H C (s0, s1) cs ps a_path a_codes → post 1 (nI w, nI h, nI H, nI rc, f_status, f_bound, a_walls, a_placed, a_dead, a_start, a_goal, a_done, a_rules, a_path, a_codes, a_kept, a_lone))
    (hN : ∀ a_dead a_path a_codes, ¬ rb_ok (rb_sY (rb_mv a_walls a_rules rc w C) g who u0 u1) 25 H 0 (s0, s1) → post 0 (nI w, nI h, nI H, nI rc, f_status, f_bound, a_walls, a_placed, a_dead, a_start, a_goal, a_done, a_rules, a_path, a_codes, a_kept, a_lone)) :
    ∀ n t trial k ps a_dead a_path a_codes, t ≤ H → 80000 - trial < n → rb_DI (rb_sY (rb_mv a_walls a_rules rc w C) g who u0 u1) H C (s0, s1) t trial k ps a_dead →
      (∀ i, i ≤ t → a_path i = nI (ps i).1 ∧ a_path (13 + i) = nI (ps i).2) → (∀ i, i ≤ t → a_codes i + 1 = nI (k i)) → wY_find_107 post (nI who) (nI u0) (nI u1) n (nI t) (nI trial) (nI w) (nI h) (nI H) (nI rc) f_status f_bound a_walls a_placed a_dead a_start a_goal a_done a_rules a_path a_codes a_kept a_lone := by
  have M := rb_isMV (walls := a_walls) (rules := a_rules) (rc := rc) (w := w) (C := C) hw
  have det : ∀ t s m s' s'', rb_sY (rb_mv a_walls a_rules rc w C) g who u0 u1 t s m s' → rb_sY (rb_mv a_walls a_rules rc w C) g who u0 u1 t s m s'' → s' = s'' := fun t s m s' s'' => rb_sY_det M
  intro n
  induction n with
  | zero => intro t trial k ps _ _ _ _ h; omega
  | succ n ih =>
    intro t trial k ps a_dead a_path a_codes ht hn hD hp hk
    have hlt := rb_D_lt hD (by omega)
    refine pk_le 80000 trial (fun z => by omega) (fun z => br_f (nI_pos (by omega)) (pk_le H t (fun z2 => ?_) (fun z2 => ?_)))
    · have e : t = H := by omega
      subst e
      refine pk_eq t t (fun _ => hY (fun i => k i - 1) ps a_dead a_path a_codes ⟨hD.1, fun i hi => ?_, fun i hi => ⟨(hp i hi).1, (hp i hi).2, hD.2.1 i hi⟩, fun i hi => ?_⟩) (fun z => absurd rfl z)
      · have a := hD.2.2.1 i hi
        have e1 : k i - 1 < 25 := by omega
        exact ⟨e1, a.2.2.1, fun m hm => a.2.2.2 m (by have hm' : m < k i - 1 := hm; omega)⟩
      · have a := hD.2.2.1 i hi
        have b := hk i (by omega)
        have e : k i = (k i - 1) + 1 := by omega
        rw [e, ← nI_1] at b
        have e2 : a_codes i + 1 - 1 = nI (k i - 1) + 1 - 1 := by rw [b]
        rw [Int32.add_sub_cancel, Int32.add_sub_cancel] at e2
        exact e2
    have pt := hp t (Nat.le_refl t)
    have bt := hD.2.1 t (Nat.le_refl t)
    rw [nI_clamp (show t < 2 ^ 31 by omega), hk t (Nat.le_refl t)]
    refine ⟨vp_in_nI (by omega) (by omega), vp_in_nI (by omega) (by omega), nm_e ⟨vp_in_nI (by omega) (by omega), ?_⟩⟩
    rw [pk_us]
    have hk25 := hD.2.2.2.1
    have hkk : ∀ (v : Nat) i, i ≤ t → upd a_codes t (nI v) i + 1 = nI (rb_up k t (v + 1) i) := by
      intro v i hi
      by_cases e : i = t
      · rw [e, pk_us, rb_up_s, nI_1]
      · rw [pk_un e, rb_up_n e]; exact hk i hi
    refine pk_lt (k t) 25 (fun z3 => ?_) (fun z3 => ?_)
    · refine rb_yStep (g := g) (c := (ps t).1) (d := (ps t).2) (m := k t) eC hC hw hw5 hrc hwho (by omega) hu0 hu1 bt.1 bt.2 z3 hg0 eg0 hg1 eg1 pt.1 pt.2 pk_us (fun hno => ?_) (fun c' d' hc' hd' hs => ⟨fun hd => ?_, fun hd => ?_⟩)
      · exact br_t rfl (nm_r (nI_1 trial) (ih t (trial + 1) (rb_up k t (k t + 1)) ps a_dead a_path _ ht (by omega) (rb_D_fail hD z3 (fun s' hs => absurd hs (hno s'))) hp (hkk (k t))))
      · refine br_f (by decide) (nm_r (nI_1 t) ⟨vp_in_nI (by omega) (by omega), nm_r (e' := upd (upd a_codes t (nI (k t))) (t + 1) (-1)) (by rw [nI_clamp (by omega)]) (nm_r (nI_1 trial) ?_)⟩)
        refine ih (t + 1) (trial + 1) _ (rb_up ps (t + 1) (c', d')) a_dead _ _ (by omega) (by omega) (rb_D_push hD z3 hs hc' hd' hd) (fun i hi => ?_) (fun i hi => ?_)
        · by_cases e : i = t + 1
          · subst e
            rw [rb_up_s]
            refine ⟨?_, ?_⟩
            · rw [pk_un (by omega), pk_us]
            · rw [show 13 + (t + 1) = 14 + t by omega, pk_us]
          · rw [rb_up_n e]
            have := hp i (by omega)
            refine ⟨?_, ?_⟩
            · rw [pk_un (by omega), pk_un (by omega)]; exact this.1
            · rw [pk_un (by omega), pk_un (by omega)]; exact this.2
        · by_cases e : i = t + 1
          · rw [e, pk_us, rb_up_s]; rfl
          · rw [pk_un e, rb_up_n e]; exact hkk (k t) i (by omega)
      · refine br_t rfl (nm_r (nI_1 trial) (ih t (trial + 1) (rb_up k t (k t + 1)) ps a_dead _ _ ht (by omega) (rb_D_fail hD z3 (fun s' hs' => ?_)) (fun i hi => ?_) (hkk (k t))))
        · rw [det _ _ _ _ _ hs' hs]
          exact hD.2.2.2.2.2.1 (t + 1) (c', d') (by omega) hc' hd' hd
        · have := hp i hi
          refine ⟨?_, ?_⟩
          · rw [pk_un (by omega), pk_un (by omega)]; exact this.1
          · rw [pk_un (by omega), pk_un (by omega)]; exact this.2
    · have hk5 : k t = 25 := by omega
      have e13 : (13 : Int32) + nI t = nI (13 + t) := nI_add 13 t
      have b : rb_dx t (ps t) < 2925 := by unfold rb_dx; omega
      have e3 : nI t * 225 + nI (ps t).1 * 15 + nI (ps t).2 = nI (rb_dx t (ps t)) := by
        rw [show (225 : Int32) = nI 225 from rfl, show (15 : Int32) = nI 15 from rfl, pk_mul, pk_mul, nI_add, nI_add]
        rfl
      rw [e13, nI_clamp (show 13 + t < 2 ^ 31 by omega), pt.1, pt.2, e3]
      refine ⟨vp_in_nI (by omega) (by omega), vp_in_nI (by omega) (by omega), vp_in_nI b (by omega), nm_r (e' := upd a_dead (rb_dx t (ps t)) 1) (by rw [nI_clamp (by omega), rb_b1]) (nm_e (nm_r (nI_1 trial) ?_))⟩
      cases t with
      | zero =>
        cases n with
        | zero => omega
        | succ n =>
          refine pk_le 80000 (trial + 1) (fun z => by omega) (fun z => br_t (by decide) (br_f (fun e => ?_) (hN _ _ _ ?_)))
          · exact rb_nIneg (n := H) (by omega) (e.symm.trans (by decide))
          · have := rb_D_no hD (by omega) hk5
            rw [hD.1] at this
            exact this
      | succ t =>
        rw [pk_m1]
        refine ih t (trial + 1) k ps _ a_path _ (by omega) (by omega) (rb_D_pop det hC hH hD (by omega) hk5) (fun i hi => hp i (by omega)) (fun i hi => ?_)
        rw [pk_un (by omega)]
        exact hk i (by omega)
theorem rb_yFind3 {post : Int32 → SY → Prop} {who u0 u1 s0 s1 : Nat} (eC : w * h = C) (hC : C ≤ 15) (hH : H ≤ 12) (hw : 1 ≤ w) (hw5 : w ≤ 5) (hrc : rc ≤ 8) (hwho : who < 4) (hu0 : u0 ≤ 24) (hu1 : u1 ≤ 24)
    (hg0 : g 0 < C) (eg0 : a_goal 0 = nI (g 0)) (hg1 : g 1 < C) (eg1 : a_goal 1 = nI (g 1)) (hs0 : s0 < C) (es0 : a_start 0 = nI s0) (hs1 : s1 < C) (es1 : a_start 1 = nI s1)
    (hY : ∀ cs ps a_dead a_path a_codes, rb_i0 (rb_Op a_walls a_rules rc C) g who u0 u1 s0 s1 → rb_RN (rb_sY (rb_mv a_walls a_rules rc w C) g who u0 u1) H C (s0, s1) cs ps a_path a_codes → post 1 (nI w, nI h, nI H, nI rc, f_status, f_bound, a_walls, a_placed, a_dead, a_start, a_goal, a_done, a_rules, a_path, a_codes, a_kept, a_lone))
    (hN : ∀ a_dead a_path a_codes, ¬ (rb_i0 (rb_Op a_walls a_rules rc C) g who u0 u1 s0 s1 ∧ rb_ok (rb_sY (rb_mv a_walls a_rules rc w C) g who u0 u1) 25 H 0 (s0, s1)) → post 0 (nI w, nI h, nI H, nI rc, f_status, f_bound, a_walls, a_placed, a_dead, a_start, a_goal, a_done, a_rules, a_path, a_codes, a_kept, a_lone)) :
    ∀ n i a_dead, i ≤ 2925 → 2925 - i < n → (∀ j, j < i → a_dead j = 0) → wY_find_3 post (nI who) (nI u0) (nI u1) (nI w) (nI h) (nI H) (nI rc) f_status f_bound n (nI i) a_walls a_placed a_dead a_start a_goal a_done a_rules a_path a_codes a_kept a_lone := by
  intro n
  induction n with
  | zero => intro i _ _ h; omega
  | succ n ih =>
    intro i a_dead hi hn hd
    refine pk_le 2925 i (fun z => ?_) (fun z => ?_)
    · have hd2 : ∀ j, j < 2925 → a_dead j = 0 := fun j hj => hd j (by omega)
      rw [es0, es1]
      refine nm_e (nm_e (nm_e ?_))
      have run : rb_i0 (rb_Op a_walls a_rules rc C) g who u0 u1 s0 s1 → ∃ n107 : Nat, wY_find_107 post (nI who) (nI u0) (nI u1) n107 0 0 (nI w) (nI h) (nI H) (nI rc) f_status f_bound a_walls a_placed a_dead a_start a_goal a_done a_rules (upd (upd a_path 0 (nI s0)) 13 (nI s1)) (upd a_codes 0 (-1)) a_kept a_lone := fun hi0 =>
        ⟨80001, rb_yFind107 (g := g) eC hC hH hw hw5 hrc hwho hu0 hu1 hg0 eg0 hg1 eg1 (fun cs ps a_dead a_path a_codes h => hY cs ps a_dead a_path a_codes hi0 h) (fun a_dead a_path a_codes h => hN a_dead a_path a_codes fun k => h k.2)
          80001 0 0 (fun _ => 0) (fun _ => (s0, s1)) a_dead _ _ (Nat.zero_le _) (by omega) (rb_D_start hs0 hs1 hd2 hC hH) (fun i hi => by
            have e : i = 0 := by omega
            subst e
            exact ⟨by rw [pk_un (by omega), pk_us], pk_us⟩) (fun i hi => by
            have e : i = 0 := by omega
            subst e
            rw [pk_us]; rfl)⟩
      have g78 : (who ≠ 2 → rb_Op a_walls a_rules rc C 0 0 s0 ∧ (u0 ≤ 0 → s0 = g 0)) → wY_find_78 post (nI who) (nI u0) (nI u1) (nI w) (nI h) (nI H) (nI rc) f_status f_bound a_walls a_placed a_dead a_start a_goal a_done a_rules (upd (upd a_path 0 (nI s0)) 13 (nI s1)) (upd a_codes 0 (-1)) a_kept a_lone := by
        intro h1
        unfold wY_find_78
        rw [es1]
        refine pk_eq who 1 (fun e => run ⟨h1, fun z => absurd e z⟩) (fun e => ?_)
        exact rb_yStand (r := 1) (t := 0) (g := g) eC hC hrc (by omega) hs1 (by omega) (by omega) hg1 eg1 (fun k1 k2 => br_f (by decide) (run ⟨h1, fun _ => ⟨k1, k2⟩⟩)) (fun k => br_t rfl (hN _ _ _ fun k2 => k (k2.1.2 e)))
      refine pk_eq who 2 (fun e => g78 fun z => absurd e z) (fun e => ?_)
      exact rb_yStand (r := 0) (t := 0) (g := g) eC hC hrc (by omega) hs0 (by omega) (by omega) hg0 eg0 (fun k1 k2 => br_f (by decide) (g78 fun _ => ⟨k1, k2⟩)) (fun k => br_t rfl (hN _ _ _ fun k2 => k (k2.1.1 e)))
    · refine ⟨vp_in_nI (by omega) (by omega), nm_r (e' := upd a_dead i 0) (by rw [nI_clamp (by omega), rb_b0]) (nm_r (nI_1 i) (ih (i + 1) _ (by omega) (by omega) (fun j hj => ?_)))⟩
      by_cases e : j = i
      · rw [e, pk_us]
      · rw [pk_un e]; exact hd j (by omega)
theorem rb_yFind {post : Int32 → SY → Prop} {who u0 u1 s0 s1 : Nat} (eC : w * h = C) (hC : C ≤ 15) (hH : H ≤ 12) (hw : 1 ≤ w) (hw5 : w ≤ 5) (hrc : rc ≤ 8) (hwho : who < 4) (hu0 : u0 ≤ 24) (hu1 : u1 ≤ 24)
    (hg0 : g 0 < C) (eg0 : a_goal 0 = nI (g 0)) (hg1 : g 1 < C) (eg1 : a_goal 1 = nI (g 1)) (hs0 : s0 < C) (es0 : a_start 0 = nI s0) (hs1 : s1 < C) (es1 : a_start 1 = nI s1)
    (hY : ∀ cs ps a_dead a_path a_codes, rb_i0 (rb_Op a_walls a_rules rc C) g who u0 u1 s0 s1 → rb_RN (rb_sY (rb_mv a_walls a_rules rc w C) g who u0 u1) H C (s0, s1) cs ps a_path a_codes → post 1 (nI w, nI h, nI H, nI rc, f_status, f_bound, a_walls, a_placed, a_dead, a_start, a_goal, a_done, a_rules, a_path, a_codes, a_kept, a_lone))
    (hN : ∀ a_dead a_path a_codes, ¬ (rb_i0 (rb_Op a_walls a_rules rc C) g who u0 u1 s0 s1 ∧ rb_ok (rb_sY (rb_mv a_walls a_rules rc w C) g who u0 u1) 25 H 0 (s0, s1)) → post 0 (nI w, nI h, nI H, nI rc, f_status, f_bound, a_walls, a_placed, a_dead, a_start, a_goal, a_done, a_rules, a_path, a_codes, a_kept, a_lone)) :
    wpY_find post (nI w, nI h, nI H, nI rc, f_status, f_bound, a_walls, a_placed, a_dead, a_start, a_goal, a_done, a_rules, a_path, a_codes, a_kept, a_lone) (nI who) (nI u0) (nI u1) :=
  ⟨2926, rb_yFind3 eC hC hH hw hw5 hrc hwho hu0 hu1 hg0 eg0 hg1 eg1 hs0 es0 hs1 es1 hY hN 2926 0 a_dead (Nat.zero_le _) (by omega) (fun j hj => absurd hj (Nat.not_lt_zero j))⟩
end
end
section
/-! lone costs and lone conflicts, both sides -/
/-- the answer of soloConflict, from two lone plans -/
def rb_cf (p q : Nat → Nat) (H : Nat) : Nat → Nat → Nat
  | 0, _ => 0
  | n + 1, t => if p t = q t then 2 * t else if t < H ∧ p (t + 1) = q t ∧ q (t + 1) = p t then 2 * t + 1 else rb_cf p q H n (t + 1)
theorem rb_cf_1 {p q : Nat → Nat} {H n t : Nat} (h : p t = q t) : rb_cf p q H (n + 1) t = 2 * t := if_pos h
theorem rb_cf_2 {p q : Nat → Nat} {H n t : Nat} (h : ¬ p t = q t) (h2 : t < H ∧ p (t + 1) = q t ∧ q (t + 1) = p t) : rb_cf p q H (n + 1) t = 2 * t + 1 := by
  show (if p t = q t then 2 * t else _) = _
  rw [if_neg h, if_pos h2]
theorem rb_cf_3 {p q : Nat → Nat} {H n t : Nat} (h : ¬ p t = q t) (h2 : ¬ (t < H ∧ p (t + 1) = q t ∧ q (t + 1) = p t)) : rb_cf p q H (n + 1) t = rb_cf p q H n (t + 1) := by
  show (if p t = q t then 2 * t else _) = _
  rw [if_neg h, if_neg h2]
theorem rb_cf_ext {p q p' q' : Nat → Nat} {H : Nat} (h1 : ∀ j, j ≤ H → p j = p' j) (h2 : ∀ j, j ≤ H → q j = q' j) : ∀ n t, n + t = H + 1 → rb_cf p q H n t = rb_cf p' q' H n t := by
  intro n
  induction n with
  | zero => intro t _; rfl
  | succ n ih =>
    intro t ht
    by_cases e : p t = q t
    · rw [rb_cf_1 e, rb_cf_1 (by rw [← h1 t (by omega), ← h2 t (by omega)]; exact e)]
    · have e' : ¬ p' t = q' t := by rw [← h1 t (by omega), ← h2 t (by omega)]; exact e
      by_cases e2 : t < H ∧ p (t + 1) = q t ∧ q (t + 1) = p t
      · rw [rb_cf_2 e e2, rb_cf_2 e' ⟨e2.1, by rw [← h1 (t + 1) (by omega), ← h2 t (by omega)]; exact e2.2.1, by rw [← h2 (t + 1) (by omega), ← h1 t (by omega)]; exact e2.2.2⟩]
      · rw [rb_cf_3 e e2, rb_cf_3 e' (fun z => e2 ⟨z.1, by rw [h1 (t + 1) (by omega), h2 t (by omega)]; exact z.2.1, by rw [h2 (t + 1) (by omega), h1 t (by omega)]; exact z.2.2⟩)]
        exact ih (t + 1) (by omega)
section
variable {f_never f_status f_bound f_leastTotal : Int32} {a_neighbour a_walls a_placed a_starts a_goals a_rules a_open a_next a_earliest a_solo a_cost a_plan a_since a_done : Nat → Int32} {w C H rc : Nat} {g : Nat → Nat}
theorem rb_xConf36 {post : Int32 → SX → Prop} {p q : Nat → Nat} (hH : H ≤ 12) (hC : C ≤ 15) (e0 : ∀ j, j ≤ H → a_solo j = nI (p j) ∧ p j < C) (e1 : ∀ j, j ≤ H → a_solo (13 + j) = nI (q j) ∧ q j < C) :
    ∀ n t m, n + t = H + 1 → n < m → post (nI (rb_cf p q H n t)) (f_never, nI C, nI H, nI rc, f_status, f_bound, f_leastTotal, a_neighbour, a_walls, a_placed, a_starts, a_goals, a_rules, a_open, a_next, a_earliest, a_solo, a_cost, a_plan, a_since, a_done) → wX_soloConflict_36 post f_never (nI C) (nI H) (nI rc) f_status f_bound f_leastTotal a_neighbour a_walls a_placed a_starts a_goals a_rules a_open a_next a_earliest a_solo a_cost a_plan a_since a_done m (nI t) := by
  intro n
  induction n with
  | zero =>
    intro t m ht hm hP
    cases m with
    | zero => omega
    | succ m => exact pk_lt H t (fun _ => hP) (fun z => by omega)
  | succ n ih =>
    intro t m ht hm hP
    cases m with
    | zero => omega
    | succ m =>
      refine pk_lt H t (fun z => by omega) (fun z => ?_)
      have e13 : (13 : Int32) + nI t = nI (13 + t) := nI_add 13 t
      have e14 : (14 : Int32) + nI t = nI (13 + (t + 1)) := (nI_add 14 t).trans (congrArg nI (by omega))
      have a0 := e0 t z
      have a1 := e1 t z
      rw [e13, e14, nI_1, nI_clamp (show t < 2 ^ 31 by omega), nI_clamp (show 13 + t < 2 ^ 31 by omega), nI_clamp (show t + 1 < 2 ^ 31 by omega), nI_clamp (show 13 + (t + 1) < 2 ^ 31 by omega), a0.1, a1.1]
      have e2t : (2 : Int32) * nI t = nI (2 * t) := pk_mul 2 t
      refine ⟨vp_in_nI (by omega) (by omega), vp_in_nI (by omega) (by omega), pk_eq (p t) (q t) (fun c => ?_) (fun c => pk_le H t (fun z2 => ?_) (fun z2 => ⟨vp_in_nI (by omega) (by omega), vp_in_nI (by omega) (by omega), ?_⟩))⟩
      · rw [rb_cf_1 c] at hP
        rw [e2t]; exact hP
      · rw [rb_cf_3 c (fun k => by omega)] at hP
        exact nm_e (ih (t + 1) m (by omega) (by omega) hP)
      · have b0 := e0 (t + 1) z2
        have b1 := e1 (t + 1) z2
        rw [b0.1, b1.1]
        refine pk_eq (p (t + 1)) (q t) (fun c2 => ⟨vp_in_nI (by omega) (by omega), vp_in_nI (by omega) (by omega), pk_eq (q (t + 1)) (p t) (fun c3 => ?_) (fun c3 => ?_)⟩) (fun c2 => ?_)
        · rw [rb_cf_2 c ⟨z2, c2, c3⟩] at hP
          rw [e2t, nI_1]; exact hP
        · rw [rb_cf_3 c (fun k => c3 k.2.2)] at hP
          exact nm_e (ih (t + 1) m (by omega) (by omega) hP)
        · rw [rb_cf_3 c (fun k => c2 k.2.1)] at hP
          exact nm_e (ih (t + 1) m (by omega) (by omega) hP)
end
section
variable {mv : Nat → Nat → Nat → Nat → Nat → Prop} {Op : Nat → Nat → Nat → Prop} {g : Nat → Nat} {H : Nat}
theorem rb_Yr {r u s0 s1 : Nat} {s : Nat → Nat} (hr : r < 2) (e0 : s 0 = s0) (e1 : s 1 = s1) : (rb_i0 Op g (r + 1) u u s0 s1 ∧ rb_ok (rb_sY mv g (r + 1) u u) 25 H 0 (s0, s1)) ↔ rb_LF mv Op g H r 0 (s r) u := by
  have h : r = 0 ∨ r = 1 := by omega
  rcases h with rfl | rfl
  · rw [e0]; exact rb_Y1
  · rw [e1]; exact rb_Y2
end
section
variable {f_status f_bound : Int32} {a_walls a_placed a_dead a_start a_goal a_done a_rules a_path a_codes a_kept a_lone : Nat → Int32} {w h C H rc : Nat} {g s : Nat → Nat}
theorem rb_yIsR {post : Int32 → Prop} {r : Nat} (hr : r < 2) (h1 : post 1) : wpY_isRobot post (nI w, nI h, nI H, nI rc, f_status, f_bound, a_walls, a_placed, a_dead, a_start, a_goal, a_done, a_rules, a_path, a_codes, a_kept, a_lone) (nI r) :=
  pk_eq r 0 (fun _ => h1) (fun _ => pk_eq r 1 (fun _ => h1) (fun _ => by omega))
theorem rb_yNotR {post : Int32 → Prop} {x : Int32} (h0 : x ≠ 0) (h1 : x ≠ 1) (hp : post 0) : wpY_isRobot post (nI w, nI h, nI H, nI rc, f_status, f_bound, a_walls, a_placed, a_dead, a_start, a_goal, a_done, a_rules, a_path, a_codes, a_kept, a_lone) x :=
  br_f h0 (br_f h1 hp)
theorem rb_ySolo21 {post : Int32 → SY → Prop} {r : Nat} (eC : w * h = C) (hC : C ≤ 15) (hH : H ≤ 12) (hw : 1 ≤ w) (hw5 : w ≤ 5) (hrc : rc ≤ 8) (hr : r < 2)
    (hg : ∀ r, r < 2 → g r < C ∧ a_goal r = nI (g r)) (hs : ∀ r, r < 2 → s r < C ∧ a_start r = nI (s r))
    (hY : ∀ due cs ps a_dead a_path a_codes, due ≤ H → rb_LF (rb_mv a_walls a_rules rc w C) (rb_Op a_walls a_rules rc C) g H r 0 (s r) due → (∀ u, u < due → ¬ rb_LF (rb_mv a_walls a_rules rc w C) (rb_Op a_walls a_rules rc C) g H r 0 (s r) u) →
      rb_RN (rb_sY (rb_mv a_walls a_rules rc w C) g (r + 1) due due) H C (s 0, s 1) cs ps a_path a_codes → post (nI due) (nI w, nI h, nI H, nI rc, f_status, f_bound, a_walls, a_placed, a_dead, a_start, a_goal, a_done, a_rules, a_path, a_codes, a_kept, a_lone))
    (hN : ∀ a_dead a_path a_codes, (∀ u, u ≤ H → ¬ rb_LF (rb_mv a_walls a_rules rc w C) (rb_Op a_walls a_rules rc C) g H r 0 (s r) u) → post (-1) (nI w, nI h, nI H, nI rc, f_status, f_bound, a_walls, a_placed, a_dead, a_start, a_goal, a_done, a_rules, a_path, a_codes, a_kept, a_lone)) :
    ∀ n due a_dead a_path a_codes, due ≤ H + 1 → H + 1 - due < n → (∀ u, u < due → ¬ rb_LF (rb_mv a_walls a_rules rc w C) (rb_Op a_walls a_rules rc C) g H r 0 (s r) u) → wY_soloCost_21 post (nI r) n (nI due) (nI w) (nI h) (nI H) (nI rc) f_status f_bound a_walls a_placed a_dead a_start a_goal a_done a_rules a_path a_codes a_kept a_lone := by
  intro n
  induction n with
  | zero => intro i _ _ _ _ h; omega
  | succ n ih =>
    intro due a_dead a_path a_codes hd hn hp
    refine pk_lt H due (fun z => hN a_dead a_path a_codes fun u hu => hp u (by omega)) (fun z => ?_)
    rw [nI_1 r]
    have g0 := hg 0 (by omega)
    have g1 := hg 1 (by omega)
    have s0 := hs 0 (by omega)
    have s1 := hs 1 (by omega)
    refine rb_yFind (g := g) (s0 := s 0) (s1 := s 1) eC hC hH hw hw5 hrc (by omega) (by omega) (by omega) g0.1 g0.2 g1.1 g1.2 s0.1 s0.2 s1.1 s1.2 (fun cs ps a_dead a_path a_codes hi hrn => br_f (by decide) ?_) (fun a_dead a_path a_codes hno => br_t rfl (nm_r (nI_1 due) (ih (due + 1) a_dead a_path a_codes (by omega) (by omega) (fun u hu => ?_))))
    · have ok := rb_ok_plan (St := rb_sY (rb_mv a_walls a_rules rc w C) g (r + 1) due due) (N := 25) cs ps H 0 (fun i _ hi => ⟨(hrn.2.1 i (by omega)).1, (hrn.2.1 i (by omega)).2.1⟩)
      rw [hrn.1] at ok
      exact hY due cs ps a_dead a_path a_codes z ((rb_Yr hr rfl rfl).mp ⟨hi, ok⟩) hp hrn
    · by_cases e : u = due
      · rw [e]; exact fun k => hno ((rb_Yr hr rfl rfl).mpr k)
      · exact hp u (by omega)
theorem rb_ySolo {post : Int32 → SY → Prop} {r : Nat} (eC : w * h = C) (hC : C ≤ 15) (hH : H ≤ 12) (hw : 1 ≤ w) (hw5 : w ≤ 5) (hrc : rc ≤ 8) (hr : r < 2) (hpl : a_placed r ≠ 0)
    (hg : ∀ r, r < 2 → g r < C ∧ a_goal r = nI (g r)) (hs : ∀ r, r < 2 → s r < C ∧ a_start r = nI (s r))
    (hY : ∀ due cs ps a_dead a_path a_codes, due ≤ H → rb_LF (rb_mv a_walls a_rules rc w C) (rb_Op a_walls a_rules rc C) g H r 0 (s r) due → (∀ u, u < due → ¬ rb_LF (rb_mv a_walls a_rules rc w C) (rb_Op a_walls a_rules rc C) g H r 0 (s r) u) →
      rb_RN (rb_sY (rb_mv a_walls a_rules rc w C) g (r + 1) due due) H C (s 0, s 1) cs ps a_path a_codes → post (nI due) (nI w, nI h, nI H, nI rc, f_status, f_bound, a_walls, a_placed, a_dead, a_start, a_goal, a_done, a_rules, a_path, a_codes, a_kept, a_lone))
    (hN : ∀ a_dead a_path a_codes, (∀ u, u ≤ H → ¬ rb_LF (rb_mv a_walls a_rules rc w C) (rb_Op a_walls a_rules rc C) g H r 0 (s r) u) → post (-1) (nI w, nI h, nI H, nI rc, f_status, f_bound, a_walls, a_placed, a_dead, a_start, a_goal, a_done, a_rules, a_path, a_codes, a_kept, a_lone)) :
    wpY_soloCost post (nI w, nI h, nI H, nI rc, f_status, f_bound, a_walls, a_placed, a_dead, a_start, a_goal, a_done, a_rules, a_path, a_codes, a_kept, a_lone) (nI r) := by
  unfold wpY_soloCost
  refine rb_yIsR hr (br_f (by decide) ⟨vp_in_nI (by omega) (by omega), br_f (by rw [nI_clamp (by omega)]; exact hpl) ⟨H + 2, ?_⟩⟩)
  exact rb_ySolo21 eC hC hH hw hw5 hrc hr hg hs hY hN (H + 2) 0 a_dead a_path a_codes (Nat.zero_le _) (by omega) (fun u hu => absurd hu (Nat.not_lt_zero u))
theorem rb_ySoloU {post : Int32 → SY → Prop} {r : Nat} (hr : r < 2) (hpl : a_placed r = 0) (hP : post (-1) (nI w, nI h, nI H, nI rc, f_status, f_bound, a_walls, a_placed, a_dead, a_start, a_goal, a_done, a_rules, a_path, a_codes, a_kept, a_lone)) : wpY_soloCost post (nI w, nI h, nI H, nI rc, f_status, f_bound, a_walls, a_placed, a_dead, a_start, a_goal, a_done, a_rules, a_path, a_codes, a_kept, a_lone) (nI r) := by
  unfold wpY_soloCost
  exact rb_yIsR hr (br_f (by decide) ⟨vp_in_nI (by omega) (by omega), br_t (by rw [nI_clamp (by omega)]; exact hpl) hP⟩)
theorem rb_ySoloN {post : Int32 → SY → Prop} {x : Int32} (h0 : x ≠ 0) (h1 : x ≠ 1) (hP : post (-1) (nI w, nI h, nI H, nI rc, f_status, f_bound, a_walls, a_placed, a_dead, a_start, a_goal, a_done, a_rules, a_path, a_codes, a_kept, a_lone)) : wpY_soloCost post (nI w, nI h, nI H, nI rc, f_status, f_bound, a_walls, a_placed, a_dead, a_start, a_goal, a_done, a_rules, a_path, a_codes, a_kept, a_lone) x := by
  unfold wpY_soloCost
  exact rb_yNotR h0 h1 (br_t rfl hP)
theorem rb_yConf50 {post : Int32 → SY → Prop} {p q : Nat → Nat} (hH : H ≤ 12) (hC : C ≤ 15) (e0 : ∀ j, j ≤ H → a_lone j = nI (p j) ∧ p j < C) (e1 : ∀ j, j ≤ H → a_path (13 + j) = nI (q j) ∧ q j < C) :
    ∀ n t m, n + t = H + 1 → n < m → post (nI (rb_cf p q H n t)) (nI w, nI h, nI H, nI rc, f_status, f_bound, a_walls, a_placed, a_dead, a_start, a_goal, a_done, a_rules, a_path, a_codes, a_kept, a_lone) → wY_soloConflict_50 post (nI w) (nI h) (nI H) (nI rc) f_status f_bound a_walls a_placed a_dead a_start a_goal a_done a_rules a_path a_codes a_kept a_lone m (nI t) := by
  intro n
  induction n with
  | zero =>
    intro t m ht hm hP
    cases m with
    | zero => omega
    | succ m => exact pk_lt H t (fun _ => hP) (fun z => by omega)
  | succ n ih =>
    intro t m ht hm hP
    cases m with
    | zero => omega
    | succ m =>
      refine pk_lt H t (fun z => by omega) (fun z => ?_)
      have e13 : (13 : Int32) + nI t = nI (13 + t) := nI_add 13 t
      have e14 : (14 : Int32) + nI t = nI (13 + (t + 1)) := (nI_add 14 t).trans (congrArg nI (by omega))
      have a0 := e0 t z
      have a1 := e1 t z
      rw [e13, e14, nI_1, nI_clamp (show t < 2 ^ 31 by omega), nI_clamp (show 13 + t < 2 ^ 31 by omega), nI_clamp (show t + 1 < 2 ^ 31 by omega), nI_clamp (show 13 + (t + 1) < 2 ^ 31 by omega), a0.1, a1.1]
      have e2t : (2 : Int32) * nI t = nI (2 * t) := pk_mul 2 t
      refine ⟨vp_in_nI (by omega) (by omega), vp_in_nI (by omega) (by omega), pk_eq (p t) (q t) (fun c => ?_) (fun c => pk_le H t (fun z2 => ?_) (fun z2 => ⟨vp_in_nI (by omega) (by omega), vp_in_nI (by omega) (by omega), ?_⟩))⟩
      · rw [rb_cf_1 c] at hP
        rw [e2t]; exact hP
      · rw [rb_cf_3 c (fun k => by omega)] at hP
        exact nm_e (ih (t + 1) m (by omega) (by omega) hP)
      · have b0 := e0 (t + 1) z2
        have b1 := e1 (t + 1) z2
        rw [b0.1, b1.1]
        refine pk_eq (p (t + 1)) (q t) (fun c2 => ⟨vp_in_nI (by omega) (by omega), vp_in_nI (by omega) (by omega), pk_eq (q (t + 1)) (p t) (fun c3 => ?_) (fun c3 => ?_)⟩) (fun c2 => ?_)
        · rw [rb_cf_2 c ⟨z2, c2, c3⟩] at hP
          rw [e2t, nI_1]; exact hP
        · rw [rb_cf_3 c (fun k => c3 k.2.2)] at hP
          exact nm_e (ih (t + 1) m (by omega) (by omega) hP)
        · rw [rb_cf_3 c (fun k => c2 k.2.1)] at hP
          exact nm_e (ih (t + 1) m (by omega) (by omega) hP)
theorem rb_yConf12 {post : Int32 → SY → Prop} {p : Nat → Nat} (hH : H ≤ 12) (hp : ∀ j, j ≤ H → a_path j = nI (p j))
    (hJ : ∀ a_lone, (∀ j, j ≤ H → a_lone j = nI (p j)) → wpY_soloCost (fun r_21 u => match u with | (f_width, f_height, f_horizon, f_ruleCount, f_status, f_bound, a_walls, a_placed, a_dead, a_start, a_goal, a_done, a_rules, a_path, a_codes, a_kept, a_lone) => (((0 ≤ r_21 → (∃ n50 : Nat, wY_soloConflict_50 post f_width f_height f_horizon f_ruleCount f_status f_bound a_walls a_placed a_dead a_start a_goal a_done a_rules a_path a_codes a_kept a_lone n50 0)) ∧ (¬ 0 ≤ r_21 → (post (-1) (f_width, f_height, f_horizon, f_ruleCount, f_status, f_bound, a_walls, a_placed, a_dead, a_start, a_goal, a_done, a_rules, a_path, a_codes, a_kept, a_lone)))))) (nI w, nI h, nI H, nI rc, f_status, f_bound, a_walls, a_placed, a_dead, a_start, a_goal, a_done, a_rules, a_path, a_codes, a_kept, a_lone) 1) :
    ∀ n t a_lone, t ≤ H + 1 → H + 1 - t < n → (∀ j, j < t → a_lone j = nI (p j)) → wY_soloConflict_12 post (nI w) (nI h) (nI H) (nI rc) f_status f_bound n (nI t) a_walls a_placed a_dead a_start a_goal a_done a_rules a_path a_codes a_kept a_lone := by
  intro n
  induction n with
  | zero => intro i _ _ h; omega
  | succ n ih =>
    intro t a_lone ht hn hl
    refine pk_lt H t (fun z => hJ a_lone fun j hj => hl j (by omega)) (fun z => ⟨vp_in_nI (by omega) (by omega), vp_in_nI (by omega) (by omega), ?_⟩)
    refine nm_r (e' := upd a_lone t (nI (p t))) (by rw [nI_clamp (by omega), hp t z]) (nm_r (nI_1 t) (ih (t + 1) _ (by omega) (by omega) (fun j hj => ?_)))
    by_cases e : j = t
    · rw [e, pk_us]
    · rw [pk_un e]; exact hl j (by omega)
end
end
section
/-! the component: the joint costs -/
theorem rb_and1 {f : Nat} {A B : Prop} (hf : f < 4) (a : ¬ f % 2 = 1 → A) (b : f % 2 = 1 → B) : (nI f &&& 1 = 0 → A) ∧ (¬ nI f &&& 1 = 0 → B) := by
  have h : f = 0 ∨ f = 1 ∨ f = 2 ∨ f = 3 := by omega
  rcases h with rfl | rfl | rfl | rfl
  · exact br_t (by decide) (a (by decide))
  · exact br_f (by decide) (b (by decide))
  · exact br_t (by decide) (a (by decide))
  · exact br_f (by decide) (b (by decide))
theorem rb_and2 {f : Nat} {A B : Prop} (hf : f < 4) (a : ¬ 2 ≤ f → A) (b : 2 ≤ f → B) : (nI f &&& 2 = 0 → A) ∧ (¬ nI f &&& 2 = 0 → B) := by
  have h : f = 0 ∨ f = 1 ∨ f = 2 ∨ f = 3 := by omega
  rcases h with rfl | rfl | rfl | rfl
  · exact br_t (by decide) (a (by decide))
  · exact br_t (by decide) (a (by decide))
  · exact br_f (by decide) (b (by decide))
  · exact br_f (by decide) (b (by decide))
theorem rb_or1 {f : Nat} (hf : f < 4) (h : ¬ f % 2 = 1) : nI f ||| 1 = nI (f + 1) := by
  have h : f = 0 ∨ f = 2 := by omega
  rcases h with rfl | rfl <;> decide
theorem rb_or2 {f : Nat} (hf : f < 4) (h : ¬ 2 ≤ f) : nI f ||| 2 = nI (f + 2) := by
  have h : f = 0 ∨ f = 1 := by omega
  rcases h with rfl | rfl <;> decide
def rb_BX (mv : Nat → Nat → Nat → Nat → Nat → Prop) (t a b N0 N1 : Nat) (val : Nat → Nat → Nat) (x : Nat) : Prop :=
  x = 1000 ∨ ∃ m n c d, m < N0 ∧ n < N1 ∧ mv 0 t a m c ∧ mv 1 t b n d ∧ ¬ (c = b ∧ d = a) ∧ val c d = x
def rb_BL (mv : Nat → Nat → Nat → Nat → Nat → Prop) (t a b N1 : Nat) (val : Nat → Nat → Nat) (x m n : Nat) : Prop :=
  ∀ m' n' c d, ((m' < m ∧ n' < N1) ∨ (m' = m ∧ n' < n)) → mv 0 t a m' c → mv 1 t b n' d → ¬ (c = b ∧ d = a) → x ≤ val c d
section
variable {f_never f_status f_bound f_leastTotal : Int32} {a_neighbour a_walls a_placed a_starts a_goals a_rules a_open a_next a_earliest a_solo a_cost a_plan a_since a_done : Nat → Int32} {w C H rc : Nat} {g : Nat → Nat}
theorem rb_xBest121 {post : Int32 → Prop} {J58 J68 : Int32 → Int32 → Prop} {x2 x3 x5 x6 x7 x8 x10 : Int32} {t f n c d x v : Nat} (hC : C ≤ 15) (ht : t < 12) (hf : f < 4) (hc : c < C) (hd : d < C) (hx : x ≤ 1000) (hv : v ≤ 1000)
    (ev : a_cost ((((t + 1) * 15 + c) * 15 + d) * 4 + f) = nI v) (hJ : ∀ m, m ≤ x → m ≤ v → (m = x ∨ m = v) → J68 (nI m) (nI (n + 1))) :
    wX_bestMove_121 post J58 J68 (nI t) x2 x3 (nI f) x5 x6 x7 x8 (nI x) x10 (nI n) (nI c) (nI d) f_never (nI C) (nI H) (nI rc) f_status f_bound f_leastTotal a_neighbour a_walls a_placed a_starts a_goals a_rules a_open a_next a_earliest a_solo a_cost a_plan a_since a_done := by
  unfold wX_bestMove_121
  rw [nI_1 t]
  refine rb_xJix ⟨vp_in_nI (by omega) (by omega), ?_⟩
  rw [nI_clamp (by omega)]
  exact nm_r ev (rb_xSmaller (by omega) (by omega) fun m h1 h2 h3 => nm_r (nI_1 n) (hJ m h1 h2 h3))
theorem rb_xBest68 {post : Int32 → Prop} {J58 : Int32 → Int32 → Prop} {mv : Nat → Nat → Nat → Nat → Nat → Prop} {val : Nat → Nat → Nat} {t a b f m N0 N1 : Nat} (hC : C ≤ 15) (hH : H ≤ 12) (ht : t < H) (ha : a < C) (hb : b < C) (hf : f < 4) (hm : m < N0) (h0 : N0 ≤ 5) (h1 : N1 ≤ 5)
    (md : ∀ r c d c' c'', mv r t c d c' → mv r t c d c'' → c' = c'') (hmv : ∀ r c d c', mv r t c d c' → c' < C)
    (hn0 : ∀ d, d < 5 → rb_NT mv a_next 0 t a d) (hn1 : ∀ d, d < 5 → rb_NT mv a_next 1 t b d)
    (hv : ∀ c d, c < C → d < C → a_cost ((((t + 1) * 15 + c) * 15 + d) * 4 + f) = nI (val c d) ∧ val c d ≤ 1000)
    (hJ : ∀ x, x ≤ 1000 → rb_BL mv t a b N1 val x m N1 → rb_BX mv t a b N0 N1 val x → J58 (nI x) (nI (m + 1))) :
    ∀ k n x, n ≤ N1 → N1 - n < k → x ≤ 1000 → rb_BL mv t a b N1 val x m n → rb_BX mv t a b N0 N1 val x →
      wX_bestMove_68 post J58 (nI t) (nI a) (nI b) (nI f) (nI N0) (nI N1) (nI (((0 * 13 + t) * 15 + a) * 5)) (nI (((1 * 13 + t) * 15 + b) * 5)) (nI m) f_never (nI C) (nI H) (nI rc) f_status f_bound f_leastTotal a_neighbour a_walls a_placed a_starts a_goals a_rules a_open a_next a_earliest a_solo a_cost a_plan a_since a_done k (nI x) (nI n) := by
  intro k
  induction k with
  | zero => intro i _ _ h; omega
  | succ k ih =>
    intro n x hn hk hx hL hX
    refine pk_le N1 n (fun z => nm_r (nI_1 m) (hJ x hx (fun m' n' c d h => hL m' n' c d (by omega)) hX)) (fun z => ?_)
    have e0 : nI (((0 * 13 + t) * 15 + a) * 5) + nI m = nI (((0 * 13 + t) * 15 + a) * 5 + m) := nI_add _ _
    have e1 : nI (((1 * 13 + t) * 15 + b) * 5) + nI n = nI (((1 * 13 + t) * 15 + b) * 5 + n) := nI_add _ _
    rw [e0, e1, nI_clamp (show ((0 * 13 + t) * 15 + a) * 5 + m < 2 ^ 31 by omega), nI_clamp (show ((1 * 13 + t) * 15 + b) * 5 + n < 2 ^ 31 by omega)]
    have skip : (∀ c d, mv 0 t a m c → mv 1 t b n d → ¬ (c = b ∧ d = a) → False) → wX_bestMove_68 post J58 (nI t) (nI a) (nI b) (nI f) (nI N0) (nI N1) (nI (((0 * 13 + t) * 15 + a) * 5)) (nI (((1 * 13 + t) * 15 + b) * 5)) (nI m) f_never (nI C) (nI H) (nI rc) f_status f_bound f_leastTotal a_neighbour a_walls a_placed a_starts a_goals a_rules a_open a_next a_earliest a_solo a_cost a_plan a_since a_done k (nI x) (nI (n + 1)) := fun hno =>
      ih (n + 1) x (by omega) (by omega) hx (fun m' n' c d h q1 q2 q3 => by
        by_cases e : m' = m ∧ n' = n
        · rw [e.1] at q1; rw [e.2] at q2
          exact (hno c d q1 q2 q3).elim
        · exact hL m' n' c d (by omega) q1 q2 q3) hX
    have take : ∀ c d, mv 0 t a m c → mv 1 t b n d → ¬ (c = b ∧ d = a) → wX_bestMove_121 post J58 (wX_bestMove_68 post J58 (nI t) (nI a) (nI b) (nI f) (nI N0) (nI N1) (nI (((0 * 13 + t) * 15 + a) * 5)) (nI (((1 * 13 + t) * 15 + b) * 5)) (nI m) f_never (nI C) (nI H) (nI rc) f_status f_bound f_leastTotal a_neighbour a_walls a_placed a_starts a_goals a_rules a_open a_next a_earliest a_solo a_cost a_plan a_since a_done k) (nI t) (nI a) (nI b) (nI f) (nI N0) (nI N1) (nI (((0 * 13 + t) * 15 + a) * 5)) (nI (((1 * 13 + t) * 15 + b) * 5)) (nI x) (nI m) (nI n) (nI c) (nI d) f_never (nI C) (nI H) (nI rc) f_status f_bound f_leastTotal a_neighbour a_walls a_placed a_starts a_goals a_rules a_open a_next a_earliest a_solo a_cost a_plan a_since a_done := by
      intro c d q1 q2 q3
      have hc := hmv _ _ _ _ q1
      have hd := hmv _ _ _ _ q2
      have hvv := hv c d hc hd
      refine rb_xBest121 hC (by omega) hf hc hd hx hvv.2 hvv.1 (fun y y1 y2 y3 => ih (n + 1) y (by omega) (by omega) (by omega) (fun m' n' c' d' h p1 p2 p3 => ?_) ?_)
      · by_cases e : m' = m ∧ n' = n
        · rw [e.1] at p1; rw [e.2] at p2
          rw [md _ _ _ _ _ p1 q1, md _ _ _ _ _ p2 q2]
          exact y2
        · have := hL m' n' c' d' (by omega) p1 p2 p3
          omega
      · rcases y3 with y3 | y3
        · rw [y3]; exact hX
        · exact Or.inr ⟨m, n, c, d, hm, z, q1, q2, q3, y3.symm⟩
    refine ⟨vp_in_nI (by omega) (by omega), ?_⟩
    rcases hn0 m (by omega) with ⟨c, q1, e2⟩ | ⟨q1, e2⟩
    · have hc := hmv _ _ _ _ q1
      refine nm_r e2 ⟨vp_in_nI (by omega) (by omega), ?_⟩
      rcases hn1 n (by omega) with ⟨d, q2, e3⟩ | ⟨q2, e3⟩
      · have hd := hmv _ _ _ _ q2
        refine nm_r e3 (br_f (nI_pos (by omega)) (br_f (nI_pos (by omega)) (pk_eq c b (fun z1 => pk_eq d a (fun z2 => nm_r (nI_1 n) (skip fun c' d' p1 p2 p3 => ?_)) (fun z2 => take c d q1 q2 fun z => z2 z.2)) (fun z1 => take c d q1 q2 fun z => z1 z.1))))
        rw [md _ _ _ _ _ p1 q1, md _ _ _ _ _ p2 q2] at p3
        exact p3 ⟨z1, z2⟩
      · exact nm_r e3 (br_f (nI_pos (by omega)) (br_t rb_neg1 (nm_r (nI_1 n) (skip fun c' d' p1 p2 p3 => q2 _ p2))))
    · refine nm_r e2 ⟨vp_in_nI (by omega) (by omega), ?_⟩
      exact nm_e (br_t rb_neg1 (nm_r (nI_1 n) (skip fun c' d' p1 p2 p3 => q1 _ p1)))
theorem rb_xBest58 {post : Int32 → Prop} {mv : Nat → Nat → Nat → Nat → Nat → Prop} {val : Nat → Nat → Nat} {t a b f N0 N1 : Nat} (hC : C ≤ 15) (hH : H ≤ 12) (ht : t < H) (ha : a < C) (hb : b < C) (hf : f < 4) (h0 : N0 ≤ 5) (h1 : N1 ≤ 5)
    (md : ∀ r c d c' c'', mv r t c d c' → mv r t c d c'' → c' = c'') (hmv : ∀ r c d c', mv r t c d c' → c' < C)
    (hn0 : ∀ d, d < 5 → rb_NT mv a_next 0 t a d) (hn1 : ∀ d, d < 5 → rb_NT mv a_next 1 t b d)
    (hv : ∀ c d, c < C → d < C → a_cost ((((t + 1) * 15 + c) * 15 + d) * 4 + f) = nI (val c d) ∧ val c d ≤ 1000)
    (hJ : ∀ x, x ≤ 1000 → (∀ m n c d, m < N0 → n < N1 → mv 0 t a m c → mv 1 t b n d → ¬ (c = b ∧ d = a) → x ≤ val c d) → rb_BX mv t a b N0 N1 val x → post (nI x)) :
    ∀ k m x, m ≤ N0 → N0 - m < k → x ≤ 1000 → rb_BL mv t a b N1 val x m 0 → rb_BX mv t a b N0 N1 val x →
      wX_bestMove_58 post (nI t) (nI a) (nI b) (nI f) (nI N0) (nI N1) (nI (((0 * 13 + t) * 15 + a) * 5)) (nI (((1 * 13 + t) * 15 + b) * 5)) f_never (nI C) (nI H) (nI rc) f_status f_bound f_leastTotal a_neighbour a_walls a_placed a_starts a_goals a_rules a_open a_next a_earliest a_solo a_cost a_plan a_since a_done k (nI x) (nI m) := by
  intro k
  induction k with
  | zero => intro i _ _ h; omega
  | succ k ih =>
    intro m x hm hk hx hL hX
    refine pk_le N0 m (fun z => hJ x hx (fun m' n' c d k1 k2 => hL m' n' c d (by omega)) hX) (fun z => ⟨N1 + 1, ?_⟩)
    exact rb_xBest68 hC hH ht ha hb hf z h0 h1 md hmv hn0 hn1 hv (fun y y1 y2 y3 => ih (m + 1) y (by omega) (by omega) y1 (fun m' n' c d h => y2 m' n' c d (by omega)) y3) (N1 + 1) 0 x (Nat.zero_le _) (by omega) hx hL hX
theorem rb_xBest {post : Int32 → Prop} {mv : Nat → Nat → Nat → Nat → Nat → Prop} {val : Nat → Nat → Nat} {t a b f : Nat} (hC : C ≤ 15) (hH : H ≤ 12) (ht : t < H) (ha : a < C) (hb : b < C) (hf : f < 4)
    (md : ∀ r c d c' c'', mv r t c d c' → mv r t c d c'' → c' = c'') (hmv : ∀ r c d c', mv r t c d c' → c' < C)
    (hn0 : ∀ d, d < 5 → rb_NT mv a_next 0 t a d) (hn1 : ∀ d, d < 5 → rb_NT mv a_next 1 t b d)
    (hv : ∀ c d, c < C → d < C → a_cost ((((t + 1) * 15 + c) * 15 + d) * 4 + f) = nI (val c d) ∧ val c d ≤ 1000)
    (hJ : ∀ x, x ≤ 1000 → (∀ m n c d, m < 5 → n < 5 → (f % 2 = 1 → m = 0) → (2 ≤ f → n = 0) → mv 0 t a m c → mv 1 t b n d → ¬ (c = b ∧ d = a) → x ≤ val c d) →
      (x = 1000 ∨ ∃ m n c d, m < 5 ∧ n < 5 ∧ (f % 2 = 1 → m = 0) ∧ (2 ≤ f → n = 0) ∧ mv 0 t a m c ∧ mv 1 t b n d ∧ ¬ (c = b ∧ d = a) ∧ val c d = x) → post (nI x)) :
    wpX_bestMove post (f_never, nI C, nI H, nI rc, f_status, f_bound, f_leastTotal, a_neighbour, a_walls, a_placed, a_starts, a_goals, a_rules, a_open, a_next, a_earliest, a_solo, a_cost, a_plan, a_since, a_done) (nI t) (nI a) (nI b) (nI f) := by
  have run : ∀ N0 N1, 1 ≤ N0 → N0 ≤ 5 → 1 ≤ N1 → N1 ≤ 5 → (∀ m, m < 5 → (m < N0 ↔ (f % 2 = 1 → m = 0))) → (∀ n, n < 5 → (n < N1 ↔ (2 ≤ f → n = 0))) → wX_bestMove_26 post (nI t) (nI a) (nI b) (nI f) (nI N0) (nI N1) f_never (nI C) (nI H) (nI rc) f_status f_bound f_leastTotal a_neighbour a_walls a_placed a_starts a_goals a_rules a_open a_next a_earliest a_solo a_cost a_plan a_since a_done := by
    intro N0 N1 p0 q0 p1 q1 i0 i1
    unfold wX_bestMove_26
    refine rb_xSpot (r := 0) (nm_r (rb_x5 _) (rb_xSpot (r := 1) (nm_r (rb_x5 _) ⟨N0 + 1, ?_⟩)))
    refine rb_xBest58 (mv := mv) (val := val) hC hH ht ha hb hf q0 q1 md hmv hn0 hn1 hv (fun x hx hL hX => hJ x hx (fun m n c d k1 k2 k3 k4 => hL m n c d ((i0 m k1).mpr k3) ((i1 n k2).mpr k4)) ?_) (N0 + 1) 0 1000 (Nat.zero_le _) (by omega) (Nat.le_refl _) (fun m' n' c d h => by omega) (Or.inl rfl)
    rcases hX with h | ⟨m, n, c, d, k1, k2, k3⟩
    · exact Or.inl h
    · exact Or.inr ⟨m, n, c, d, by omega, by omega, (i0 m (by omega)).mp k1, (i1 n (by omega)).mp k2, k3⟩
  refine rb_and1 hf (fun z => rb_and2 hf (fun z2 => ?_) (fun z2 => ?_)) (fun z => rb_and2 hf (fun z2 => ?_) (fun z2 => ?_))
  · exact run 5 5 (by omega) (by omega) (by omega) (by omega) (fun m hm => ⟨fun _ k => absurd k z, fun _ => hm⟩) (fun n hn => ⟨fun _ k => absurd k z2, fun _ => hn⟩)
  · exact run 5 1 (by omega) (by omega) (by omega) (by omega) (fun m hm => ⟨fun _ k => absurd k z, fun _ => hm⟩) (fun n hn => ⟨fun k _ => by omega, fun k => by have := k z2; omega⟩)
  · exact run 1 5 (by omega) (by omega) (by omega) (by omega) (fun m hm => ⟨fun k _ => by omega, fun k => by have := k z; omega⟩) (fun n hn => ⟨fun _ k => absurd k z2, fun _ => hn⟩)
  · exact run 1 1 (by omega) (by omega) (by omega) (by omega) (fun m hm => ⟨fun k _ => by omega, fun k => by have := k z; omega⟩) (fun n hn => ⟨fun k _ => by omega, fun k => by have := k z2; omega⟩)
end
end
section
/-! the component: the whole cost table -/
section
variable {f_never f_status f_bound f_leastTotal : Int32} {a_neighbour a_walls a_placed a_starts a_goals a_rules a_open a_next a_earliest a_solo a_cost a_plan a_since a_done : Nat → Int32} {w C H rc : Nat} {g : Nat → Nat}
theorem rb_xStep62 {post : Int32 → Prop} {t a b f : Nat} {x5 x6 : Int32} (hw : 1 ≤ w) (hC : C ≤ 15) (hH : H ≤ 12) (ht : t ≤ H) (ha : a < C) (hb : b < C) (hf : f < 4)
    (hn : ∀ r t c d, r < 2 → t < H → c < C → d < 5 → rb_NT (rb_mv a_walls a_rules rc w C) a_next r t c d)
    (hc : t < H → ∀ c d, c < C → d < C → rb_CT (rb_mv a_walls a_rules rc w C) (rb_Op a_walls a_rules rc C) g H a_cost (t + 1) c d f)
    (h0 : rb_Op a_walls a_rules rc C 0 t a) (h1 : rb_Op a_walls a_rules rc C 1 t b) (hab : a ≠ b) (p5 : x5 = 0 ↔ a ≠ g 0) (p6 : x6 = 0 ↔ b ≠ g 1) (hp : f % 2 = 1 → a = g 0) (hq : 2 ≤ f → b = g 1)
    (hJ : ∀ x, rb_ST (rb_mv a_walls a_rules rc w C) (rb_Op a_walls a_rules rc C) g H t a b (f % 2 = 1) (2 ≤ f) x → post (nI x)) :
    wX_stepCost_62 post (nI t) (nI a) (nI b) (nI f) x5 x6 f_never (nI C) (nI H) (nI rc) f_status f_bound f_leastTotal a_neighbour a_walls a_placed a_starts a_goals a_rules a_open a_next a_earliest a_solo a_cost a_plan a_since a_done := by
  have M := rb_isMV (walls := a_walls) (rules := a_rules) (rc := rc) (w := w) (C := C) hw
  refine pk_eq t H (fun e => ?_) (fun e => ?_)
  · subst e
    refine br_c (fun z => hJ 1000 (rb_S_Hn (Or.inl (p5.mp z)))) (fun z => br_c (fun z2 => hJ 1000 (rb_S_Hn (Or.inr (p6.mp z2)))) (fun z2 => hJ 0 ?_))
    have e1 : a = g 0 := Classical.byContradiction fun k => z (p5.mpr k)
    have e2 : b = g 1 := Classical.byContradiction fun k => z2 (p6.mpr k)
    exact rb_S_Hy h0 h1 hab e1 e2
  have htH : t < H := by omega
  have hval : ∃ val : Nat → Nat → Nat, ∀ c d, c < C → d < C → a_cost ((((t + 1) * 15 + c) * 15 + d) * 4 + f) = nI (val c d) ∧ rb_IsK (rb_mv a_walls a_rules rc w C) (rb_Op a_walls a_rules rc C) g H (t + 1) c d (f % 2 = 1) (2 ≤ f) (val c d) := by
    refine ⟨fun c d => (a_cost ((((t + 1) * 15 + c) * 15 + d) * 4 + f)).toNatClampNeg, fun c d h2 h3 => ?_⟩
    obtain ⟨x, e1, e2⟩ := hc htH c d h2 h3
    have hx : x ≤ 1000 := by rcases e2.1 with k | k <;> omega
    have e3 : (a_cost ((((t + 1) * 15 + c) * 15 + d) * 4 + f)).toNatClampNeg = x := by rw [e1, nI_clamp (by omega)]
    show a_cost ((((t + 1) * 15 + c) * 15 + d) * 4 + f) = nI (a_cost ((((t + 1) * 15 + c) * 15 + d) * 4 + f)).toNatClampNeg ∧ rb_IsK _ _ g H (t + 1) c d _ _ (a_cost ((((t + 1) * 15 + c) * 15 + d) * 4 + f)).toNatClampNeg
    rw [e3]
    exact ⟨e1, e2⟩
  obtain ⟨val, hval⟩ := hval
  refine rb_xBest (mv := rb_mv a_walls a_rules rc w C) (val := val) hC hH htH ha hb hf (fun r c d c' c'' => M.1 _ _ _ _ _ _) (fun r c d c' hm => hm.2.2.1) (fun d hd => hn 0 t a d (by omega) htH ha hd) (fun d hd => hn 1 t b d (by omega) htH hb hd)
    (fun c d h2 h3 => ⟨(hval c d h2 h3).1, ?_⟩) (fun x hx hL hX => ?_)
  · rcases (hval c d h2 h3).2.1 with k | k <;> omega
  have fin : ∀ P0 P1 xs, (f % 2 = 1 → P0 = 0) → (¬ f % 2 = 1 → P0 = 1) → (2 ≤ f → P1 = 0) → (¬ 2 ≤ f → P1 = 1) → (1000 ≤ x → xs = 1000) → (x < 1000 → xs = x + P0 + P1) → post (nI xs) := fun P0 P1 xs k1 k2 k3 k4 k5 k6 =>
    hJ xs (rb_S_go M htH (by omega) h0 h1 hab hp hq val (fun m n c d _ _ h2 h3 => (hval c d h2.2.2.1 h3.2.2.1).2) hL hX k1 k2 k3 k4 k5 k6)
  clear hX
  have end2 : ∀ P0, P0 ≤ 1 → (f % 2 = 1 → P0 = 0) → (¬ f % 2 = 1 → P0 = 1) → x < 1000 → wX_stepCost_123 post (nI f) (nI x) (nI P0) f_never (nI C) (nI H) (nI rc) f_status f_bound f_leastTotal a_neighbour a_walls a_placed a_starts a_goals a_rules a_open a_next a_earliest a_solo a_cost a_plan a_since a_done := by
    intro P0 hP k1 k2 hlt
    have e0 : nI x + nI P0 + 0 = nI (x + P0 + 0) := by rw [nI_add]; exact nI_add (x + P0) 0
    have e1 : nI x + nI P0 + 1 = nI (x + P0 + 1) := by rw [nI_add]; exact nI_1 (x + P0)
    unfold wX_stepCost_123
    rw [e0, e1]
    refine rb_and2 hf (fun z => fin P0 1 _ k1 k2 (fun k => by omega) (fun _ => rfl) (fun k => by omega) (fun _ => rfl)) (fun z => fin P0 0 _ k1 k2 (fun _ => rfl) (fun k => absurd z k) (fun k => by omega) (fun _ => rfl))
  refine pk_lt x 1000 (fun z => rb_and1 hf (fun z2 => end2 1 (by omega) (fun k => absurd k z2) (fun _ => rfl) z) (fun z2 => end2 0 (by omega) (fun _ => rfl) (fun k => absurd z2 k) z)) (fun z => ?_)
  by_cases c1 : f % 2 = 1
  · by_cases c2 : 2 ≤ f
    · exact fin 0 0 1000 (fun _ => rfl) (fun k => absurd c1 k) (fun _ => rfl) (fun k => absurd c2 k) (fun _ => rfl) (fun k => by omega)
    · exact fin 0 1 1000 (fun _ => rfl) (fun k => absurd c1 k) (fun k => absurd k c2) (fun k => rfl) (fun _ => rfl) (fun k => by omega)
  · by_cases c2 : 2 ≤ f
    · exact fin 1 0 1000 (fun k => absurd k c1) (fun k => rfl) (fun _ => rfl) (fun k => absurd c2 k) (fun _ => rfl) (fun k => by omega)
    · exact fin 1 1 1000 (fun k => absurd k c1) (fun k => rfl) (fun k => absurd k c2) (fun k => rfl) (fun _ => rfl) (fun k => by omega)
theorem rb_xStepCost {post : Int32 → Prop} {t a b f : Nat} (hw : 1 ≤ w) (hC : C ≤ 15) (hH : H ≤ 12) (ht : t ≤ H) (ha : a < C) (hb : b < C) (hf : f < 4)
    (hg : ∀ r, r < 2 → g r < C ∧ a_goals r = nI (g r))
    (hn : ∀ r t c d, r < 2 → t < H → c < C → d < 5 → rb_NT (rb_mv a_walls a_rules rc w C) a_next r t c d)
    (hc : t < H → ∀ c d, c < C → d < C → rb_CT (rb_mv a_walls a_rules rc w C) (rb_Op a_walls a_rules rc C) g H a_cost (t + 1) c d f)
    (h0 : rb_Op a_walls a_rules rc C 0 t a) (h1 : rb_Op a_walls a_rules rc C 1 t b) (hab : a ≠ b)
    (hJ : ∀ x, rb_ST (rb_mv a_walls a_rules rc w C) (rb_Op a_walls a_rules rc C) g H t a b (f % 2 = 1) (2 ≤ f) x → post (nI x)) :
    wpX_stepCost post (f_never, nI C, nI H, nI rc, f_status, f_bound, f_leastTotal, a_neighbour, a_walls, a_placed, a_starts, a_goals, a_rules, a_open, a_next, a_earliest, a_solo, a_cost, a_plan, a_since, a_done) (nI t) (nI a) (nI b) (nI f) := by
  have g0 := hg 0 (by omega)
  have g1 := hg 1 (by omega)
  have s32 : ∀ x5 x6 : Int32, (x5 = 0 ↔ a ≠ g 0) → (x6 = 0 ↔ b ≠ g 1) → wX_stepCost_32 post (nI t) (nI a) (nI b) (nI f) x5 x6 f_never (nI C) (nI H) (nI rc) f_status f_bound f_leastTotal a_neighbour a_walls a_placed a_starts a_goals a_rules a_open a_next a_earliest a_solo a_cost a_plan a_since a_done := by
    intro x5 x6 p5 p6
    have go : (f % 2 = 1 → a = g 0) → (2 ≤ f → b = g 1) → wX_stepCost_62 post (nI t) (nI a) (nI b) (nI f) x5 x6 f_never (nI C) (nI H) (nI rc) f_status f_bound f_leastTotal a_neighbour a_walls a_placed a_starts a_goals a_rules a_open a_next a_earliest a_solo a_cost a_plan a_since a_done := fun hp hq => rb_xStep62 hw hC hH ht ha hb hf hn hc h0 h1 hab p5 p6 hp hq hJ
    have s46 : (f % 2 = 1 → a = g 0) → wX_stepCost_46 post (nI t) (nI a) (nI b) (nI f) x5 x6 f_never (nI C) (nI H) (nI rc) f_status f_bound f_leastTotal a_neighbour a_walls a_placed a_starts a_goals a_rules a_open a_next a_earliest a_solo a_cost a_plan a_since a_done := fun hp =>
      rb_and2 hf (fun z => go hp fun k => absurd k z) (fun z => br_c (fun k => hJ 1000 (rb_S_away (Or.inr ⟨z, p6.mp k⟩))) (fun k => go hp fun _ => Classical.byContradiction fun k2 => k (p6.mpr k2)))
    exact rb_and1 hf (fun z => s46 fun k => absurd k z) (fun z => br_c (fun k => hJ 1000 (rb_S_away (Or.inl ⟨z, p5.mp k⟩))) (fun k => s46 fun _ => Classical.byContradiction fun k2 => k (p5.mpr k2)))
  have s15 : ∀ x5 : Int32, (x5 = 0 ↔ a ≠ g 0) → wX_stepCost_15 post (nI t) (nI a) (nI b) (nI f) x5 f_never (nI C) (nI H) (nI rc) f_status f_bound f_leastTotal a_neighbour a_walls a_placed a_starts a_goals a_rules a_open a_next a_earliest a_solo a_cost a_plan a_since a_done := by
    intro x5 p5
    unfold wX_stepCost_15
    rw [g1.2]
    exact pk_eq b (g 1) (fun e => s32 x5 1 p5 ⟨fun k => absurd k (by decide), fun k => absurd e k⟩) (fun e => s32 x5 0 p5 ⟨fun _ => e, fun _ => rfl⟩)
  show (nI a = a_goals 0 → _) ∧ (¬ nI a = a_goals 0 → _)
  rw [g0.2]
  exact pk_eq a (g 0) (fun e => s15 1 ⟨fun k => absurd k (by decide), fun k => absurd e k⟩) (fun e => s15 0 ⟨fun _ => e, fun _ => rfl⟩)
theorem rb_xState {post : Int32 → Prop} {t a b f : Nat} (hw : 1 ≤ w) (hC : C ≤ 15) (hH : H ≤ 12) (ht : t ≤ H) (ha : a < C) (hb : b < C) (hf : f < 4)
    (hg : ∀ r, r < 2 → g r < C ∧ a_goals r = nI (g r))
    (ho : ∀ r t c, r < 2 → t ≤ H → c < C → rb_OT (rb_Op a_walls a_rules rc C) a_open r t c)
    (hn : ∀ r t c d, r < 2 → t < H → c < C → d < 5 → rb_NT (rb_mv a_walls a_rules rc w C) a_next r t c d)
    (hc : t < H → ∀ c d, c < C → d < C → rb_CT (rb_mv a_walls a_rules rc w C) (rb_Op a_walls a_rules rc C) g H a_cost (t + 1) c d f)
    (hl : ∀ f', f < f' → f' < 4 → rb_CT (rb_mv a_walls a_rules rc w C) (rb_Op a_walls a_rules rc C) g H a_cost t a b f')
    (hJ : ∀ x, rb_IsK (rb_mv a_walls a_rules rc w C) (rb_Op a_walls a_rules rc C) g H t a b (f % 2 = 1) (2 ≤ f) x → post (nI x)) :
    wpX_stateCost post (f_never, nI C, nI H, nI rc, f_status, f_bound, f_leastTotal, a_neighbour, a_walls, a_placed, a_starts, a_goals, a_rules, a_open, a_next, a_earliest, a_solo, a_cost, a_plan, a_since, a_done) (nI t) (nI a) (nI b) (nI f) := by
  unfold wpX_stateCost
  refine pk_eq a b (fun e => hJ 1000 (rb_K_shut (Or.inl e))) (fun hab => rb_xSpot (r := 0) ⟨vp_in_nI (by omega) (by omega), ?_⟩)
  rw [nI_clamp (by omega)]
  have ho0 := ho 0 t a (by omega) ht ha
  have ho1 := ho 1 t b (by omega) ht hb
  unfold rb_OT at ho0 ho1
  refine br_c (fun z => hJ 1000 (rb_K_shut (Or.inr (Or.inl fun k => ho0.mpr k z)))) (fun z => rb_xSpot (r := 1) ⟨vp_in_nI (by omega) (by omega), ?_⟩)
  rw [nI_clamp (by omega)]
  refine br_c (fun z2 => hJ 1000 (rb_K_shut (Or.inr (Or.inr fun k => ho1.mpr k z2)))) (fun z2 => ?_)
  refine rb_xStepCost hw hC hH ht ha hb hf hg hn hc (ho0.mp z) (ho1.mp z2) hab (fun xs hs => ?_)
  have hxs : xs ≤ 1000 := by rcases hs.1 with k | k <;> omega
  have s85 : ∀ x x1, x ≤ 1000 → x ≤ xs → (¬ f % 2 = 1 → x ≤ x1) → (¬ f % 2 = 1 → rb_IsK (rb_mv a_walls a_rules rc w C) (rb_Op a_walls a_rules rc C) g H t a b True (2 ≤ f) x1) → (x = xs ∨ (¬ f % 2 = 1 ∧ x = x1)) → wX_stateCost_85 post (nI t) (nI a) (nI b) (nI f) (nI x) f_never (nI C) (nI H) (nI rc) f_status f_bound f_leastTotal a_neighbour a_walls a_placed a_starts a_goals a_rules a_open a_next a_earliest a_solo a_cost a_plan a_since a_done := by
    intro x x1 hx l0 l1 h1 e
    refine rb_and2 hf (fun z3 => ?_) (fun z3 => ?_)
    · rw [rb_or2 hf z3]
      refine rb_xJix ⟨vp_in_nI (by omega) (by omega), ?_⟩
      rw [nI_clamp (by omega)]
      obtain ⟨x2, e2, k2⟩ := hl (f + 2) (by omega) (by omega)
      have hx2 : x2 ≤ 1000 := by rcases k2.1 with k | k <;> omega
      refine nm_r e2 (rb_xSmaller (by omega) (by omega) fun m m1 m2 m3 => hJ m ?_)
      refine rb_K_min (x1 := x1) (x2 := x2) hs h1 (fun _ => rb_IsK_iff (by omega) (by constructor <;> intro _ <;> (first | trivial | omega)) k2) (by omega) (fun k => by have := l1 k; omega) (fun _ => m2) ?_
      rcases m3 with m3 | m3
      · rcases e with e | e
        · exact Or.inl (by omega)
        · exact Or.inr (Or.inl ⟨e.1, by omega⟩)
      · exact Or.inr (Or.inr ⟨z3, m3⟩)
    · refine hJ x (rb_K_min (x1 := x1) (x2 := 0) hs h1 (fun k => absurd z3 k) l0 l1 (fun k => absurd z3 k) ?_)
      rcases e with e | e
      · exact Or.inl e
      · exact Or.inr (Or.inl e)
  refine rb_and1 hf (fun z3 => ?_) (fun z3 => ?_)
  · rw [rb_or1 hf z3]
    refine rb_xJix ⟨vp_in_nI (by omega) (by omega), ?_⟩
    rw [nI_clamp (by omega)]
    obtain ⟨x1, e2, k2⟩ := hl (f + 1) (by omega) (by omega)
    have hx1 : x1 ≤ 1000 := by rcases k2.1 with k | k <;> omega
    refine nm_r e2 (rb_xSmaller (by omega) (by omega) fun m m1 m2 m3 => s85 m x1 (by omega) m1 (fun _ => m2) (fun _ => rb_IsK_iff (by constructor <;> intro _ <;> (first | trivial | omega)) (by omega) k2) ?_)
    rcases m3 with m3 | m3
    · exact Or.inl m3
    · exact Or.inr ⟨z3, m3⟩
  · exact s85 xs 0 hxs (Nat.le_refl _) (fun k => absurd z3 k) (fun k => absurd z3 k) (Or.inl rfl)
/-- the cost table is right for what has been filled -/
def rb_CI (mv : Nat → Nat → Nat → Nat → Nat → Prop) (Op : Nat → Nat → Nat → Prop) (g : Nat → Nat) (H C : Nat) (cost : Nat → Int32) (t a b k : Nat) : Prop :=
  ∀ t' a' b' f', t' ≤ H → a' < C → b' < C → f' < 4 → (t < t' ∨ (t' = t ∧ (a' < a ∨ (a' = a ∧ (b' < b ∨ (b' = b ∧ k ≤ f')))))) → rb_CT mv Op g H cost t' a' b' f'
theorem rb_xRow13 {post : SX → Prop} {J2 : Int32 → rb_A14} {t a b : Nat} (hw : 1 ≤ w) (hC : C ≤ 15) (hH : H ≤ 12) (ht : t ≤ H) (ha : a < C) (hb : b < C)
    (hg : ∀ r, r < 2 → g r < C ∧ a_goals r = nI (g r))
    (ho : ∀ r t c, r < 2 → t ≤ H → c < C → rb_OT (rb_Op a_walls a_rules rc C) a_open r t c)
    (hn : ∀ r t c d, r < 2 → t < H → c < C → d < 5 → rb_NT (rb_mv a_walls a_rules rc w C) a_next r t c d)
    (hJ : ∀ a_cost, rb_CI (rb_mv a_walls a_rules rc w C) (rb_Op a_walls a_rules rc C) g H C a_cost t a b 0 → J2 (nI (b + 1)) a_neighbour a_walls a_placed a_starts a_goals a_rules a_open a_next a_earliest a_solo a_cost a_plan a_since a_done) :
    ∀ k a_cost, k ≤ 3 → rb_CI (rb_mv a_walls a_rules rc w C) (rb_Op a_walls a_rules rc C) g H C a_cost t a b (k + 1) → ∀ n, k + 1 < n → wX_fillRow_13 post J2 (nI t) (nI a) (nI b) f_never (nI C) (nI H) (nI rc) f_status f_bound f_leastTotal n (nI k) a_neighbour a_walls a_placed a_starts a_goals a_rules a_open a_next a_earliest a_solo a_cost a_plan a_since a_done := by
  have fin : ∀ a_cost, rb_CI (rb_mv a_walls a_rules rc w C) (rb_Op a_walls a_rules rc C) g H C a_cost t a b 0 → ∀ n, 0 < n → wX_fillRow_13 post J2 (nI t) (nI a) (nI b) f_never (nI C) (nI H) (nI rc) f_status f_bound f_leastTotal n (nI 0 + (-1)) a_neighbour a_walls a_placed a_starts a_goals a_rules a_open a_next a_earliest a_solo a_cost a_plan a_since a_done := by
    intro a_cost h n hn
    cases n with
    | zero => omega
    | succ n => exact br_t (by decide) (nm_r (nI_1 b) (hJ a_cost h))
  have step : ∀ k a_cost, k ≤ 3 → rb_CI (rb_mv a_walls a_rules rc w C) (rb_Op a_walls a_rules rc C) g H C a_cost t a b (k + 1) → ∀ n, (∀ a_cost, rb_CI (rb_mv a_walls a_rules rc w C) (rb_Op a_walls a_rules rc C) g H C a_cost t a b k → wX_fillRow_13 post J2 (nI t) (nI a) (nI b) f_never (nI C) (nI H) (nI rc) f_status f_bound f_leastTotal n (nI k + (-1)) a_neighbour a_walls a_placed a_starts a_goals a_rules a_open a_next a_earliest a_solo a_cost a_plan a_since a_done) → wX_fillRow_13 post J2 (nI t) (nI a) (nI b) f_never (nI C) (nI H) (nI rc) f_status f_bound f_leastTotal (n + 1) (nI k) a_neighbour a_walls a_placed a_starts a_goals a_rules a_open a_next a_earliest a_solo a_cost a_plan a_since a_done := by
    intro k a_cost hk hI n next
    refine br_f (nI_pos (by omega)) (rb_xJix ?_)
    refine rb_xState hw hC hH ht ha hb (by omega) hg ho hn (fun z c d h1 h2 => hI (t + 1) c d k (by omega) h1 h2 (by omega) (by omega)) (fun f' h1 h2 => hI t a b f' ht ha hb h2 (by omega)) (fun x hx => ⟨vp_in_nI (by omega) (by omega), ?_⟩)
    refine nm_r (e' := upd a_cost (((t * 15 + a) * 15 + b) * 4 + k) (nI x)) (by rw [nI_clamp (by omega)]) (nm_e (next _ ?_))
    intro t' a' b' f' h1 h2 h3 h4 h5
    refine rb_CT_upd (by omega) (by omega) (by omega) (by omega) (by omega) h4 ?_ hx
    by_cases e : t' = t ∧ a' = a ∧ b' = b ∧ f' = k
    · exact Or.inl e
    · exact Or.inr (hI t' a' b' f' h1 h2 h3 h4 (by omega))
  intro k
  induction k with
  | zero =>
    intro a_cost hk hI n hn
    cases n with
    | zero => omega
    | succ n => exact step 0 a_cost hk hI n (fun a_cost h => fin a_cost h n (by omega))
  | succ k ih =>
    intro a_cost hk hI n hn
    cases n with
    | zero => omega
    | succ n =>
      refine step (k + 1) a_cost hk hI n (fun a_cost h => ?_)
      rw [pk_m1]
      exact ih a_cost (by omega) h n (by omega)
theorem rb_xRow2 {post : SX → Prop} {t a : Nat} (hw : 1 ≤ w) (hC : C ≤ 15) (hH : H ≤ 12) (ht : t ≤ H) (ha : a < C)
    (hg : ∀ r, r < 2 → g r < C ∧ a_goals r = nI (g r))
    (ho : ∀ r t c, r < 2 → t ≤ H → c < C → rb_OT (rb_Op a_walls a_rules rc C) a_open r t c)
    (hn : ∀ r t c d, r < 2 → t < H → c < C → d < 5 → rb_NT (rb_mv a_walls a_rules rc w C) a_next r t c d)
    (hJ : ∀ a_cost, rb_CI (rb_mv a_walls a_rules rc w C) (rb_Op a_walls a_rules rc C) g H C a_cost t (a + 1) 0 4 → post (f_never, nI C, nI H, nI rc, f_status, f_bound, f_leastTotal, a_neighbour, a_walls, a_placed, a_starts, a_goals, a_rules, a_open, a_next, a_earliest, a_solo, a_cost, a_plan, a_since, a_done)) :
    ∀ n b a_cost, b ≤ C → C - b < n → rb_CI (rb_mv a_walls a_rules rc w C) (rb_Op a_walls a_rules rc C) g H C a_cost t a b 4 → wX_fillRow_2 post (nI t) (nI a) f_never (nI C) (nI H) (nI rc) f_status f_bound f_leastTotal n (nI b) a_neighbour a_walls a_placed a_starts a_goals a_rules a_open a_next a_earliest a_solo a_cost a_plan a_since a_done := by
  intro n
  induction n with
  | zero => intro i _ _ h; omega
  | succ n ih =>
    intro b a_cost hb hk hI
    refine pk_le C b (fun z => hJ a_cost fun t' a' b' f' h1 h2 h3 h4 h5 => hI t' a' b' f' h1 h2 h3 h4 (by omega)) (fun z => ⟨5, ?_⟩)
    exact rb_xRow13 hw hC hH ht ha z hg ho hn (fun a_cost hI => ih (b + 1) a_cost (by omega) (by omega) fun t' a' b' f' h1 h2 h3 h4 h5 => hI t' a' b' f' h1 h2 h3 h4 (by omega)) 3 a_cost (by omega) (fun t' a' b' f' h1 h2 h3 h4 h5 => hI t' a' b' f' h1 h2 h3 h4 (by omega)) 5 (by omega)
theorem rb_xRow {post : SX → Prop} {t a : Nat} (hw : 1 ≤ w) (hC : C ≤ 15) (hH : H ≤ 12) (ht : t ≤ H) (ha : a < C)
    (hg : ∀ r, r < 2 → g r < C ∧ a_goals r = nI (g r))
    (ho : ∀ r t c, r < 2 → t ≤ H → c < C → rb_OT (rb_Op a_walls a_rules rc C) a_open r t c)
    (hn : ∀ r t c d, r < 2 → t < H → c < C → d < 5 → rb_NT (rb_mv a_walls a_rules rc w C) a_next r t c d)
    (hI : rb_CI (rb_mv a_walls a_rules rc w C) (rb_Op a_walls a_rules rc C) g H C a_cost t a 0 4)
    (hJ : ∀ a_cost, rb_CI (rb_mv a_walls a_rules rc w C) (rb_Op a_walls a_rules rc C) g H C a_cost t (a + 1) 0 4 → post (f_never, nI C, nI H, nI rc, f_status, f_bound, f_leastTotal, a_neighbour, a_walls, a_placed, a_starts, a_goals, a_rules, a_open, a_next, a_earliest, a_solo, a_cost, a_plan, a_since, a_done)) : wpX_fillRow post (f_never, nI C, nI H, nI rc, f_status, f_bound, f_leastTotal, a_neighbour, a_walls, a_placed, a_starts, a_goals, a_rules, a_open, a_next, a_earliest, a_solo, a_cost, a_plan, a_since, a_done) (nI t) (nI a) :=
  ⟨C + 1, rb_xRow2 hw hC hH ht ha hg ho hn hJ (C + 1) 0 a_cost (Nat.zero_le _) (by omega) hI⟩
theorem rb_xCosts11 {post : SX → Prop} {J5 : Int32 → rb_S21} {t : Nat} (hw : 1 ≤ w) (hC : C ≤ 15) (hH : H ≤ 12) (ht : t ≤ H)
    (hg : ∀ r, r < 2 → g r < C ∧ a_goals r = nI (g r))
    (ho : ∀ r t c, r < 2 → t ≤ H → c < C → rb_OT (rb_Op a_walls a_rules rc C) a_open r t c)
    (hn : ∀ r t c d, r < 2 → t < H → c < C → d < 5 → rb_NT (rb_mv a_walls a_rules rc w C) a_next r t c d)
    (hJ : ∀ a_cost, rb_CI (rb_mv a_walls a_rules rc w C) (rb_Op a_walls a_rules rc C) g H C a_cost t C 0 4 → J5 (nI t + (-1)) f_never (nI C) (nI H) (nI rc) f_status f_bound f_leastTotal a_neighbour a_walls a_placed a_starts a_goals a_rules a_open a_next a_earliest a_solo a_cost a_plan a_since a_done) :
    ∀ n a a_cost, a ≤ C → C - a < n → rb_CI (rb_mv a_walls a_rules rc w C) (rb_Op a_walls a_rules rc C) g H C a_cost t a 0 4 → wX_fillCosts_11 post J5 (nI t) n (nI a) f_never (nI C) (nI H) (nI rc) f_status f_bound f_leastTotal a_neighbour a_walls a_placed a_starts a_goals a_rules a_open a_next a_earliest a_solo a_cost a_plan a_since a_done := by
  intro n
  induction n with
  | zero => intro i _ _ h; omega
  | succ n ih =>
    intro a a_cost ha hk hI
    refine pk_le C a (fun z => nm_e (hJ a_cost fun t' a' b' f' h1 h2 h3 h4 h5 => hI t' a' b' f' h1 h2 h3 h4 (by omega))) (fun z => ?_)
    exact rb_xRow hw hC hH ht z hg ho hn hI (fun a_cost hI => nm_r (nI_1 a) (ih (a + 1) a_cost (by omega) (by omega) hI))
theorem rb_xCosts5 {post : SX → Prop} (hw : 1 ≤ w) (hC : C ≤ 15) (hH : H ≤ 12)
    (hg : ∀ r, r < 2 → g r < C ∧ a_goals r = nI (g r))
    (ho : ∀ r t c, r < 2 → t ≤ H → c < C → rb_OT (rb_Op a_walls a_rules rc C) a_open r t c)
    (hn : ∀ r t c d, r < 2 → t < H → c < C → d < 5 → rb_NT (rb_mv a_walls a_rules rc w C) a_next r t c d)
    (hJ : ∀ a_cost, (∀ t a b f, t ≤ H → a < C → b < C → f < 4 → rb_CT (rb_mv a_walls a_rules rc w C) (rb_Op a_walls a_rules rc C) g H a_cost t a b f) → post (f_never, nI C, nI H, nI rc, f_status, f_bound, f_leastTotal, a_neighbour, a_walls, a_placed, a_starts, a_goals, a_rules, a_open, a_next, a_earliest, a_solo, a_cost, a_plan, a_since, a_done)) :
    ∀ t a_cost, t ≤ H → rb_CI (rb_mv a_walls a_rules rc w C) (rb_Op a_walls a_rules rc C) g H C a_cost t 0 0 4 → ∀ n, t + 1 < n → wX_fillCosts_5 post n (nI t) f_never (nI C) (nI H) (nI rc) f_status f_bound f_leastTotal a_neighbour a_walls a_placed a_starts a_goals a_rules a_open a_next a_earliest a_solo a_cost a_plan a_since a_done := by
  have fin : ∀ a_cost, (∀ t a b f, t ≤ H → a < C → b < C → f < 4 → rb_CT (rb_mv a_walls a_rules rc w C) (rb_Op a_walls a_rules rc C) g H a_cost t a b f) → ∀ n, 0 < n → wX_fillCosts_5 post n (nI 0 + (-1)) f_never (nI C) (nI H) (nI rc) f_status f_bound f_leastTotal a_neighbour a_walls a_placed a_starts a_goals a_rules a_open a_next a_earliest a_solo a_cost a_plan a_since a_done := by
    intro a_cost h n hn
    cases n with
    | zero => omega
    | succ n => exact br_t (by decide) (hJ a_cost h)
  intro t
  induction t with
  | zero =>
    intro a_cost ht hI n hk
    cases n with
    | zero => omega
    | succ n =>
      exact br_f (by decide) ⟨C + 1, rb_xCosts11 hw hC hH ht hg ho hn (fun a_cost hI => fin a_cost (fun t a b f h1 h2 h3 h4 => hI t a b f h1 h2 h3 h4 (by omega)) n (by omega)) (C + 1) 0 a_cost (Nat.zero_le _) (by omega) hI⟩
  | succ t ih =>
    intro a_cost ht hI n hk
    cases n with
    | zero => omega
    | succ n =>
      refine br_f (nI_pos (by omega)) ⟨C + 1, rb_xCosts11 hw hC hH ht hg ho hn (fun a_cost hI => ?_) (C + 1) 0 a_cost (Nat.zero_le _) (by omega) hI⟩
      rw [pk_m1]
      exact ih a_cost (by omega) (fun t' a' b' f' h1 h2 h3 h4 h5 => hI t' a' b' f' h1 h2 h3 h4 (by omega)) n (by omega)
theorem rb_xCosts {post : SX → Prop} (hw : 1 ≤ w) (hC : C ≤ 15) (hH : H ≤ 12)
    (hg : ∀ r, r < 2 → g r < C ∧ a_goals r = nI (g r))
    (ho : ∀ r t c, r < 2 → t ≤ H → c < C → rb_OT (rb_Op a_walls a_rules rc C) a_open r t c)
    (hn : ∀ r t c d, r < 2 → t < H → c < C → d < 5 → rb_NT (rb_mv a_walls a_rules rc w C) a_next r t c d)
    (hJ : ∀ a_cost, (∀ t a b f, t ≤ H → a < C → b < C → f < 4 → rb_CT (rb_mv a_walls a_rules rc w C) (rb_Op a_walls a_rules rc C) g H a_cost t a b f) → post (f_never, nI C, nI H, nI rc, f_status, f_bound, f_leastTotal, a_neighbour, a_walls, a_placed, a_starts, a_goals, a_rules, a_open, a_next, a_earliest, a_solo, a_cost, a_plan, a_since, a_done)) : wpX_fillCosts post (f_never, nI C, nI H, nI rc, f_status, f_bound, f_leastTotal, a_neighbour, a_walls, a_placed, a_starts, a_goals, a_rules, a_open, a_next, a_earliest, a_solo, a_cost, a_plan, a_since, a_done) :=
  ⟨H + 2, rb_xCosts5 hw hC hH hg ho hn hJ H a_cost (Nat.le_refl H) (fun t' a' b' f' h1 h2 h3 h4 h5 => by omega) (H + 2) (by omega)⟩
end
end
section
/-! the component: tracing the joint plan -/
section
variable {mv : Nat → Nat → Nat → Nat → Nat → Prop} {Op : Nat → Nat → Nat → Prop} {g : Nat → Nat} {H : Nat}
theorem rb_AC_iff {i m L : Nat} {pc pd pc' pd' : Nat → Nat} (hc : ∀ j, j ≤ i → pc' j = pc j) (hd : ∀ j, j ≤ i → pd' j = pd j) (h : rb_AC mv Op g H i pc' pd' m L) : rb_AC mv Op g H i pc pd m L := by
  obtain ⟨c, d, h1, h2⟩ := h
  rw [hc i (Nat.le_refl i), hd i (Nat.le_refl i)] at h1
  refine ⟨c, d, h1, rb_EX_iff (fun j hj => ?_) (fun j hj => ?_) h2⟩
  · by_cases z : j ≤ i
    · rw [rb_ext_le z, rb_ext_le z, hc j z]
    · have : j = i + 1 := by omega
      rw [this, rb_ext_s, rb_ext_s]
  · by_cases z : j ≤ i
    · rw [rb_ext_le z, rb_ext_le z, hd j z]
    · have : j = i + 1 := by omega
      rw [this, rb_ext_s, rb_ext_s]
theorem rb_PV_ext {t m c d : Nat} {pc pd cs : Nat → Nat} (M : rb_MV mv Op) (h : rb_PV mv Op t pc pd cs) (hm : m < 25) (hs : rb_s0 mv t (pc t) (pd t) m c d) : rb_PV mv Op (t + 1) (rb_ext pc t c) (rb_ext pd t d) (rb_up cs t m) := by
  refine ⟨fun j hj => ?_, fun j hj => ?_⟩
  · by_cases z : j ≤ t
    · rw [rb_ext_le z, rb_ext_le z]; exact h.1 j z
    · have : j = t + 1 := by omega
      rw [this, rb_ext_s, rb_ext_s]
      exact ⟨M.2.2.1 _ _ _ _ _ hs.1, M.2.2.1 _ _ _ _ _ hs.2.1, hs.2.2.1⟩
  · by_cases z : j = t
    · subst z
      rw [rb_ext_le (Nat.le_refl j), rb_ext_le (Nat.le_refl j), rb_ext_s, rb_ext_s, rb_up_s]
      exact ⟨hm, hs⟩
    · rw [rb_ext_le (show j ≤ t by omega), rb_ext_le (show j ≤ t by omega), rb_ext_le (show j + 1 ≤ t by omega), rb_ext_le (show j + 1 ≤ t by omega), rb_up_n z]
      exact h.2 j (by omega)
theorem rb_AC_ex {t L : Nat} {pc pd : Nat → Nat} (M : rb_MV mv Op) (ht : t < H) (h : rb_EX mv Op g H t pc pd L) : ∃ m, m < 25 ∧ rb_AC mv Op g H t pc pd m L := by
  obtain ⟨u0, u1, a1, a2, a3, a4, a5, J⟩ := h
  obtain ⟨_, _, _, _, _, m, n, c, d, b1, b2, b3, b4, b5, J'⟩ := (rb_JF_s M ht).mp J
  refine ⟨5 * m + n, by omega, c, d, ⟨?_, ?_, J'.2.2.1, b5⟩, u0, u1, a1, a2, a3, fun j hj hz => ?_, fun j hj hz => ?_, ?_⟩
  · rw [show (5 * m + n) / 5 = m by omega]; exact b3
  · rw [show (5 * m + n) % 5 = n by omega]; exact b4
  · by_cases z : j ≤ t
    · rw [rb_ext_le z]; exact a4 j z hz
    · have : j = t + 1 := by omega
      subst this
      rw [rb_ext_s]; exact J'.2.2.2.1 hz
  · by_cases z : j ≤ t
    · rw [rb_ext_le z]; exact a5 j z hz
    · have : j = t + 1 := by omega
      subst this
      rw [rb_ext_s]; exact J'.2.2.2.2.1 hz
  · rw [rb_ext_s, rb_ext_s]; exact J'
end
def rb_pd (t s0 s1 f : Nat) : Nat := (if f % 2 = 1 then s0 else t) + (if 2 ≤ f then s1 else t)
def rb_TX (t s0 s1 : Nat) (K : Nat → Nat) (x : Nat) : Prop := x = 1000 ∨ ∃ f, f < 4 ∧ x = rb_pd t s0 s1 f + K f
section
variable {f_never f_status f_bound f_leastTotal : Int32} {a_neighbour a_walls a_placed a_starts a_goals a_rules a_open a_next a_earliest a_solo a_cost a_plan a_since a_done : Nat → Int32} {w C H rc : Nat} {g : Nat → Nat}
theorem rb_xSince {post : Int32 → Prop} {r a c s t : Nat} (hC : C ≤ 15) (hr : r < 2) (ha : a < C) (hc : c < C) (hg : g r < C) (eg : a_goals r = nI (g r)) (es : a_since r = nI s)
    (hJ : ∀ x, (a = g r → c = g r → x = s) → (¬ (a = g r ∧ c = g r) → x = t) → post (nI x)) : wpX_sinceAfter post (f_never, nI C, nI H, nI rc, f_status, f_bound, f_leastTotal, a_neighbour, a_walls, a_placed, a_starts, a_goals, a_rules, a_open, a_next, a_earliest, a_solo, a_cost, a_plan, a_since, a_done) (nI r) (nI a) (nI c) (nI t) := by
  unfold wpX_sinceAfter
  refine ⟨vp_in_nI (by omega) (by omega), ?_⟩
  rw [nI_clamp (by omega), eg]
  refine pk_eq a (g r) (fun e => ⟨vp_in_nI (by omega) (by omega), pk_eq c (g r) (fun e2 => br_f (by decide) ⟨vp_in_nI (by omega) (by omega), ?_⟩) (fun e2 => br_t rfl (hJ t (fun _ k => absurd k e2) (fun _ => rfl)))⟩) (fun e => br_t rfl (hJ t (fun k _ => absurd k e) (fun _ => rfl)))
  rw [nI_clamp (by omega), es]
  exact hJ s (fun _ _ => rfl) (fun k => absurd ⟨e, e2⟩ k)
theorem rb_xTot8 {post : Int32 → Prop} {t a b s0 s1 : Nat} {K : Nat → Nat} (hC : C ≤ 15) (ht : t ≤ 12) (ha : a < C) (hb : b < C) (h0 : s0 ≤ t) (h1 : s1 ≤ t)
    (hK : ∀ f, f < 4 → a_cost (((t * 15 + a) * 15 + b) * 4 + f) = nI (K f) ∧ K f ≤ 1000)
    (hJ : ∀ x, x ≤ 1000 → (∀ f, f < 4 → x ≤ rb_pd t s0 s1 f + K f) → rb_TX t s0 s1 K x → post (nI x)) :
    ∀ n f x, f ≤ 4 → 4 - f < n → x ≤ 1000 → (∀ f', f' < f → x ≤ rb_pd t s0 s1 f' + K f') → rb_TX t s0 s1 K x → wX_totalFrom_8 post (nI t) (nI a) (nI b) (nI s0) (nI s1) f_never (nI C) (nI H) (nI rc) f_status f_bound f_leastTotal a_neighbour a_walls a_placed a_starts a_goals a_rules a_open a_next a_earliest a_solo a_cost a_plan a_since a_done n (nI x) (nI f) := by
  intro n
  induction n with
  | zero => intro i _ _ h; omega
  | succ n ih =>
    intro f x hf hn hx hL hT
    refine pk_le 4 f (fun z => hJ x hx (fun f' h => hL f' (by omega)) hT) (fun z => ?_)
    have k := hK f z
    have go : ∀ P0 P1, P0 ≤ 12 → P1 ≤ 12 → P0 + P1 = rb_pd t s0 s1 f → wX_totalFrom_42 post (wX_totalFrom_8 post (nI t) (nI a) (nI b) (nI s0) (nI s1) f_never (nI C) (nI H) (nI rc) f_status f_bound f_leastTotal a_neighbour a_walls a_placed a_starts a_goals a_rules a_open a_next a_earliest a_solo a_cost a_plan a_since a_done n) (nI t) (nI a) (nI b) (nI s0) (nI s1) (nI x) (nI f) (nI P0) (nI P1) f_never (nI C) (nI H) (nI rc) f_status f_bound f_leastTotal a_neighbour a_walls a_placed a_starts a_goals a_rules a_open a_next a_earliest a_solo a_cost a_plan a_since a_done := by
      intro P0 P1 q0 q1 e
      unfold wX_totalFrom_42
      refine rb_xJix ⟨vp_in_nI (by omega) (by omega), ?_⟩
      rw [nI_clamp (by omega), k.1, nI_add P0 P1, nI_add (P0 + P1) (K f), e]
      refine nm_e (rb_xSmaller (by omega) (by omega) fun m m1 m2 m3 => nm_r (nI_1 f) (ih (f + 1) m (by omega) (by omega) (by omega) (fun f' hf' => ?_) ?_))
      · by_cases e2 : f' = f
        · rw [e2]; exact m2
        · have := hL f' (by omega); omega
      · rcases m3 with m3 | m3
        · rw [m3]; exact hT
        · exact Or.inr ⟨f, z, m3⟩
    unfold rb_pd at go
    refine rb_and1 z (fun z1 => rb_and2 z (fun z2 => go t t (by omega) (by omega) (by rw [if_neg z1, if_neg z2])) (fun z2 => go t s1 (by omega) (by omega) (by rw [if_neg z1, if_pos z2]))) (fun z1 => rb_and2 z (fun z2 => go s0 t (by omega) (by omega) (by rw [if_pos z1, if_neg z2])) (fun z2 => go s0 s1 (by omega) (by omega) (by rw [if_pos z1, if_pos z2])))
/-- the total that is still to be had from an extended beginning -/
theorem rb_xTot {post : Int32 → Prop} {t s0 s1 : Nat} {pc pd : Nat → Nat} (hC : C ≤ 15) (hH : H ≤ 12) (ht : t ≤ H) (ha : pc t < C) (hb : pd t < C) (i0 : rb_SI g 0 t pc s0) (i1 : rb_SI g 1 t pd s1)
    (hct : ∀ f, f < 4 → rb_CT (rb_mv a_walls a_rules rc w C) (rb_Op a_walls a_rules rc C) g H a_cost t (pc t) (pd t) f)
    (hJ : ∀ x, x ≤ 1000 → (∀ y, y < 1000 → (x ≤ y ↔ rb_EX (rb_mv a_walls a_rules rc w C) (rb_Op a_walls a_rules rc C) g H t pc pd y)) → post (nI x)) : wpX_totalFrom post (f_never, nI C, nI H, nI rc, f_status, f_bound, f_leastTotal, a_neighbour, a_walls, a_placed, a_starts, a_goals, a_rules, a_open, a_next, a_earliest, a_solo, a_cost, a_plan, a_since, a_done) (nI t) (nI (pc t)) (nI (pd t)) (nI s0) (nI s1) := by
  have hK : ∃ K : Nat → Nat, ∀ f, f < 4 → a_cost (((t * 15 + pc t) * 15 + pd t) * 4 + f) = nI (K f) ∧ rb_IsK (rb_mv a_walls a_rules rc w C) (rb_Op a_walls a_rules rc C) g H t (pc t) (pd t) (f % 2 = 1) (2 ≤ f) (K f) := by
    refine ⟨fun f => (a_cost (((t * 15 + pc t) * 15 + pd t) * 4 + f)).toNatClampNeg, fun f hf => ?_⟩
    obtain ⟨x, e1, e2⟩ := hct f hf
    have hx : x ≤ 1000 := by rcases e2.1 with k | k <;> omega
    have e3 : (a_cost (((t * 15 + pc t) * 15 + pd t) * 4 + f)).toNatClampNeg = x := by rw [e1, nI_clamp (by omega)]
    show a_cost (((t * 15 + pc t) * 15 + pd t) * 4 + f) = nI (a_cost (((t * 15 + pc t) * 15 + pd t) * 4 + f)).toNatClampNeg ∧ rb_IsK _ _ g H t (pc t) (pd t) _ _ (a_cost (((t * 15 + pc t) * 15 + pd t) * 4 + f)).toNatClampNeg
    rw [e3]
    exact ⟨e1, e2⟩
  obtain ⟨K, hK⟩ := hK
  refine ⟨5, rb_xTot8 (K := K) hC (by omega) ha hb i0.1 i1.1 (fun f hf => ⟨(hK f hf).1, ?_⟩) (fun x hx hL hT => hJ x hx ?_) 5 0 1000 (by omega) (by omega) (by omega) (fun f' h => absurd h (Nat.not_lt_zero f')) (Or.inl rfl)⟩
  · rcases (hK f hf).2.1 with k | k <;> omega
  · exact rb_TF (paid := rb_pd t s0 s1) (K := K) (by omega) ht i0 i1 (fun f hf => (hK f hf).2) rfl rfl rfl rfl hL hT
theorem rb_xTry {post : Int32 → SX → Prop} {t m s0 s1 L : Nat} {pc pd cs : Nat → Nat} (hw : 1 ≤ w) (hC : C ≤ 15) (hH : H ≤ 12) (ht : t < H) (hm : m < 25) (hL : L ≤ 24) (hpc : ∀ j, j ≤ t → pc j < C) (hpd : ∀ j, j ≤ t → pd j < C)
    (hg : ∀ r, r < 2 → g r < C ∧ a_goals r = nI (g r))
    (hn : ∀ r t c d, r < 2 → t < H → c < C → d < 5 → rb_NT (rb_mv a_walls a_rules rc w C) a_next r t c d)
    (hct : ∀ t a b f, t ≤ H → a < C → b < C → f < 4 → rb_CT (rb_mv a_walls a_rules rc w C) (rb_Op a_walls a_rules rc C) g H a_cost t a b f)
    (hmin : ∀ y, y < L → ¬ rb_KS (rb_mv a_walls a_rules rc w C) (rb_Op a_walls a_rules rc C) g H 0 (pc 0) (pd 0) False False y)
    (hPV : rb_PV (rb_mv a_walls a_rules rc w C) (rb_Op a_walls a_rules rc C) t pc pd cs) (i0 : rb_SI g 0 t pc s0) (i1 : rb_SI g 1 t pd s1) (es0 : a_since 0 = nI s0) (es1 : a_since 1 = nI s1) (ec : a_plan t = nI (pc t)) (ed : a_plan (13 + t) = nI (pd t))
    (hN : ¬ rb_AC (rb_mv a_walls a_rules rc w C) (rb_Op a_walls a_rules rc C) g H t pc pd m L → post 0 (f_never, nI C, nI H, nI rc, f_status, f_bound, nI L, a_neighbour, a_walls, a_placed, a_starts, a_goals, a_rules, a_open, a_next, a_earliest, a_solo, a_cost, a_plan, a_since, a_done))
    (hY : ∀ c d q0 q1, c < C → d < C → rb_s0 (rb_mv a_walls a_rules rc w C) t (pc t) (pd t) m c d → rb_EX (rb_mv a_walls a_rules rc w C) (rb_Op a_walls a_rules rc C) g H (t + 1) (rb_ext pc t c) (rb_ext pd t d) L →
      rb_SI g 0 (t + 1) (rb_ext pc t c) q0 → rb_SI g 1 (t + 1) (rb_ext pd t d) q1 → post 1 (f_never, nI C, nI H, nI rc, f_status, f_bound, nI L, a_neighbour, a_walls, a_placed, a_starts, a_goals, a_rules, a_open, a_next, a_earliest, a_solo, a_cost, upd (upd a_plan (t + 1) (nI c)) (14 + t) (nI d), upd (upd a_since 0 (nI q0)) 1 (nI q1), a_done)) :
    wpX_tryStep post (f_never, nI C, nI H, nI rc, f_status, f_bound, nI L, a_neighbour, a_walls, a_placed, a_starts, a_goals, a_rules, a_open, a_next, a_earliest, a_solo, a_cost, a_plan, a_since, a_done) (nI t) (nI m) := by
  have M := rb_isMV (walls := a_walls) (rules := a_rules) (rc := rc) (w := w) (C := C) hw
  have e13 : (13 : Int32) + nI t = nI (13 + t) := nI_add 13 t
  have e14 : (14 : Int32) + nI t = nI (14 + t) := nI_add 14 t
  have hct0 := hpc t (Nat.le_refl t)
  have hdt0 := hpd t (Nat.le_refl t)
  have ediv : nI m / 5 = nI (m / 5) := pk_div (d := 5) (by omega) (by omega) (by omega)
  have erem : nI m - nI m / 5 * 5 = nI (m % 5) := pk_rem (d := 5) (by omega) (by omega) (by omega)
  show vp_in (nI t) 26 ∧ _
  rw [erem, ediv, nI_clamp (show t < 2 ^ 31 by omega), ec, e13, nI_clamp (show 13 + t < 2 ^ 31 by omega), ed]
  refine ⟨vp_in_nI (by omega) (by omega), nm_e ⟨vp_in_nI (by omega) (by omega), nm_e (rb_xSpot (r := 0) ⟨by decide, ?_⟩)⟩⟩
  rw [rb_m5]
  refine ⟨vp_in_nI (by omega) (by omega), ?_⟩
  rw [nI_clamp (by omega)]
  have second : ∀ x5, ((∃ c, rb_mv a_walls a_rules rc w C 0 t (pc t) (m / 5) c ∧ x5 = nI c) ∨ ((∀ c, ¬ rb_mv a_walls a_rules rc w C 0 t (pc t) (m / 5) c) ∧ x5 = -1)) → ∀ x6, ((∃ d, rb_mv a_walls a_rules rc w C 1 t (pd t) (m % 5) d ∧ x6 = nI d) ∨ ((∀ d, ¬ rb_mv a_walls a_rules rc w C 1 t (pd t) (m % 5) d) ∧ x6 = -1)) →
      ((x5 < 0 → post 0 (f_never, nI C, nI H, nI rc, f_status, f_bound, nI L, a_neighbour, a_walls, a_placed, a_starts, a_goals, a_rules, a_open, a_next, a_earliest, a_solo, a_cost, a_plan, a_since, a_done)) ∧ (¬ x5 < 0 → ((x6 < 0 → post 0 (f_never, nI C, nI H, nI rc, f_status, f_bound, nI L, a_neighbour, a_walls, a_placed, a_starts, a_goals, a_rules, a_open, a_next, a_earliest, a_solo, a_cost, a_plan, a_since, a_done)) ∧ (¬ x6 < 0 → ((x5 = x6 → post 0 (f_never, nI C, nI H, nI rc, f_status, f_bound, nI L, a_neighbour, a_walls, a_placed, a_starts, a_goals, a_rules, a_open, a_next, a_earliest, a_solo, a_cost, a_plan, a_since, a_done)) ∧ (¬ x5 = x6 → ((x5 = nI (pd t) → ((x6 = nI (pc t) → post 0 (f_never, nI C, nI H, nI rc, f_status, f_bound, nI L, a_neighbour, a_walls, a_placed, a_starts, a_goals, a_rules, a_open, a_next, a_earliest, a_solo, a_cost, a_plan, a_since, a_done)) ∧ (¬ x6 = nI (pc t) → wX_tryStep_91 post (nI t) (nI (pc t)) (nI (pd t)) x5 x6 f_never (nI C) (nI H) (nI rc) f_status f_bound (nI L) a_neighbour a_walls a_placed a_starts a_goals a_rules a_open a_next a_earliest a_solo a_cost a_plan a_since a_done))) ∧ (¬ x5 = nI (pd t) → wX_tryStep_91 post (nI t) (nI (pc t)) (nI (pd t)) x5 x6 f_never (nI C) (nI H) (nI rc) f_status f_bound (nI L) a_neighbour a_walls a_placed a_starts a_goals a_rules a_open a_next a_earliest a_solo a_cost a_plan a_since a_done)))))))) := by
    intro x5 h5 x6 h6
    rcases h5 with ⟨c, m5, rfl⟩ | ⟨m5, rfl⟩
    · have hc := m5.2.2.1
      refine br_f (nI_pos (by omega)) ?_
      rcases h6 with ⟨d, m6, rfl⟩ | ⟨m6, rfl⟩
      · have hd := m6.2.2.1
        have only : ∀ c' d', rb_s0 (rb_mv a_walls a_rules rc w C) t (pc t) (pd t) m c' d' → c' = c ∧ d' = d := fun c' d' k => ⟨M.1 _ _ _ _ _ _ k.1 m5, M.1 _ _ _ _ _ _ k.2.1 m6⟩
        have go : c ≠ d → ¬ (c = pd t ∧ d = pc t) → wX_tryStep_91 post (nI t) (nI (pc t)) (nI (pd t)) (nI c) (nI d) f_never (nI C) (nI H) (nI rc) f_status f_bound (nI L) a_neighbour a_walls a_placed a_starts a_goals a_rules a_open a_next a_earliest a_solo a_cost a_plan a_since a_done := by
          intro hcd hsw
          have hs : rb_s0 (rb_mv a_walls a_rules rc w C) t (pc t) (pd t) m c d := ⟨m5, m6, hcd, hsw⟩
          have g0 := hg 0 (by omega)
          have g1 := hg 1 (by omega)
          have p0 : rb_ext pc t c t = pc t := rb_ext_le (Nat.le_refl t)
          have p1 : rb_ext pd t d t = pd t := rb_ext_le (Nat.le_refl t)
          have q0 : rb_ext pc t c (t + 1) = c := rb_ext_s
          have q1 : rb_ext pd t d (t + 1) = d := rb_ext_s
          unfold wX_tryStep_91
          rw [nI_1, e14]
          refine rb_xSince (r := 0) (g := g) hC (by omega) hct0 hc g0.1 g0.2 es0 (fun y0 k1 k2 => rb_xSince (r := 1) (g := g) hC (by omega) hdt0 hd g1.1 g1.2 es1 (fun y1 k3 k4 => ?_))
          have j0 : rb_SI g 0 (t + 1) (rb_ext pc t c) y0 := by
            refine rb_SI_s (s := s0) ?_ (fun z1 z2 => k1 (p0 ▸ z1) (q0 ▸ z2)) (fun z => k2 fun z2 => z ⟨p0.trans z2.1, q0.trans z2.2⟩)
            refine ⟨i0.1, fun z => ⟨fun j z1 z2 => ?_, ?_⟩⟩
            · rw [rb_ext_le z2]; exact (i0.2 (p0 ▸ z)).1 j z1 z2
            · rcases (i0.2 (p0 ▸ z)).2 with k | k
              · exact Or.inl k
              · exact Or.inr (by rw [rb_ext_le (by have := i0.1; omega)]; exact k)
          have j1 : rb_SI g 1 (t + 1) (rb_ext pd t d) y1 := by
            refine rb_SI_s (s := s1) ?_ (fun z1 z2 => k3 (p1 ▸ z1) (q1 ▸ z2)) (fun z => k4 fun z2 => z ⟨p1.trans z2.1, q1.trans z2.2⟩)
            refine ⟨i1.1, fun z => ⟨fun j z1 z2 => ?_, ?_⟩⟩
            · rw [rb_ext_le z2]; exact (i1.2 (p1 ▸ z)).1 j z1 z2
            · rcases (i1.2 (p1 ▸ z)).2 with k | k
              · exact Or.inl k
              · exact Or.inr (by rw [rb_ext_le (by have := i1.1; omega)]; exact k)
          have T := rb_xTot (post := fun r_103 => (((r_103 = nI L → (vp_in (nI (t + 1)) 26 ∧ ∀ a_plan_127 : Nat → Int32, a_plan_127 = upd a_plan (nI (t + 1)).toNatClampNeg (nI c) → (vp_in (nI (14 + t)) 26 ∧ ∀ a_plan_129 : Nat → Int32, a_plan_129 = upd a_plan_127 (nI (14 + t)).toNatClampNeg (nI d) → (∀ a_since_131 : Nat → Int32, a_since_131 = upd a_since 0 (nI y0) → (∀ a_since_133 : Nat → Int32, a_since_133 = upd a_since_131 1 (nI y1) → (post 1 (f_never, nI C, nI H, nI rc, f_status, f_bound, nI L, a_neighbour, a_walls, a_placed, a_starts, a_goals, a_rules, a_open, a_next, a_earliest, a_solo, a_cost, a_plan_129, a_since_133, a_done))))))) ∧ (¬ r_103 = nI L → (post 0 (f_never, nI C, nI H, nI rc, f_status, f_bound, nI L, a_neighbour, a_walls, a_placed, a_starts, a_goals, a_rules, a_open, a_next, a_earliest, a_solo, a_cost, a_plan, a_since, a_done))))))
            (pc := rb_ext pc t c) (pd := rb_ext pd t d) (t := t + 1) (s0 := y0) (s1 := y1) (a_walls := a_walls) (a_rules := a_rules) (a_cost := a_cost) (f_never := f_never) (f_status := f_status) (f_bound := f_bound) (f_leastTotal := nI L) (a_neighbour := a_neighbour) (a_placed := a_placed) (a_starts := a_starts) (a_goals := a_goals) (a_open := a_open) (a_next := a_next) (a_earliest := a_earliest) (a_solo := a_solo) (a_plan := a_plan) (a_since := a_since) (a_done := a_done)
            (w := w) (rc := rc) (g := g) hC hH (by omega) (by rw [q0]; exact hc) (by rw [q1]; exact hd) j0 j1 (fun f hf => hct (t + 1) _ _ f (by omega) (by rw [q0]; exact hc) (by rw [q1]; exact hd) hf) (fun x hx hiff => ?_)
          · rw [q0, q1] at T
            exact T
          · refine pk_eq x L (fun e => ⟨vp_in_nI (by omega) (by omega), nm_r (e' := upd a_plan (t + 1) (nI c)) (by rw [nI_clamp (by omega)]) ⟨vp_in_nI (by omega) (by omega), nm_r (e' := upd (upd a_plan (t + 1) (nI c)) (14 + t) (nI d)) (by rw [nI_clamp (by omega)]) (nm_e (nm_e ?_))⟩⟩) (fun e => ?_)
            · exact hY c d y0 y1 hc hd hs ((hiff L (by omega)).mp (by omega)) j0 j1
            · refine hN fun ⟨c', d', k5, k6⟩ => ?_
              have k7 := only c' d' k5
              rw [k7.1, k7.2] at k6
              have k8 := (hiff L (by omega)).mpr k6
              have k9 := (hiff x (by omega)).mp (Nat.le_refl x)
              have k10 := rb_EX_0 M (t + 1) (by omega) (rb_PV_ext M hPV hm hs) k9
              rw [rb_ext_le (Nat.zero_le t), rb_ext_le (Nat.zero_le t)] at k10
              exact hmin x (by omega) k10
        refine br_f (nI_pos (by omega)) (pk_eq c d (fun e => hN fun ⟨c', d', k, _⟩ => ?_) (fun e => pk_eq c (pd t) (fun e2 => pk_eq d (pc t) (fun e3 => hN fun ⟨c', d', k, _⟩ => ?_) (fun e3 => go e fun z => e3 z.2)) (fun e2 => go e fun z => e2 z.1)))
        · have := only c' d' k
          exact k.2.2.1 (by omega)
        · have := only c' d' k
          exact k.2.2.2 ⟨by omega, by omega⟩
      · exact br_t rb_neg1 (hN fun ⟨c', d', k, _⟩ => m6 _ k.2.1)
    · exact br_t rb_neg1 (hN fun ⟨c', d', k, _⟩ => m5 _ k.1)
  have n0 := hn 0 t (pc t) (m / 5) (by omega) ht hct0 (by omega)
  have n1 := hn 1 t (pd t) (m % 5) (by omega) ht hdt0 (by omega)
  refine nm_e (rb_xSpot (r := 1) ⟨by decide, ?_⟩)
  rw [rb_m5]
  refine ⟨vp_in_nI (by omega) (by omega), ?_⟩
  rw [nI_clamp (by omega)]
  refine nm_e (second _ ?_ _ ?_)
  · exact n0
  · exact n1
end
end
section
/-! the component: keeping the plan, beginning a search -/
/-- the traced beginning up to tick t -/
def rb_KP (mv : Nat → Nat → Nat → Nat → Nat → Prop) (Op : Nat → Nat → Nat → Prop) (g : Nat → Nat) (H C s0 s1 L t : Nat) (pc pd cs : Nat → Nat) (a_plan : Nat → Int32) : Prop :=
  pc 0 = s0 ∧ pd 0 = s1 ∧ rb_PV mv Op t pc pd cs ∧ rb_EX mv Op g H t pc pd L ∧ (∀ i, i < t → ∀ m, m < cs i → ¬ rb_AC mv Op g H i pc pd m L) ∧
  (∀ j, j ≤ t → a_plan j = nI (pc j) ∧ a_plan (13 + j) = nI (pd j) ∧ pc j < C ∧ pd j < C)
section
variable {f_never f_status f_bound f_leastTotal : Int32} {a_neighbour a_walls a_placed a_starts a_goals a_rules a_open a_next a_earliest a_solo a_cost a_plan a_since a_done : Nat → Int32} {w C H rc : Nat} {g : Nat → Nat}
theorem rb_xKeep56 {post : SX → Prop} {J44 : Int32 → rb_S21} {t s0 s1 σ0 σ1 L : Nat} {pc pd cs : Nat → Nat} (hw : 1 ≤ w) (hC : C ≤ 15) (hH : H ≤ 12) (ht : t < H) (hL : L ≤ 24)
    (hg : ∀ r, r < 2 → g r < C ∧ a_goals r = nI (g r))
    (hn : ∀ r t c d, r < 2 → t < H → c < C → d < 5 → rb_NT (rb_mv a_walls a_rules rc w C) a_next r t c d)
    (hct : ∀ t a b f, t ≤ H → a < C → b < C → f < 4 → rb_CT (rb_mv a_walls a_rules rc w C) (rb_Op a_walls a_rules rc C) g H a_cost t a b f)
    (hmin : ∀ y, y < L → ¬ rb_KS (rb_mv a_walls a_rules rc w C) (rb_Op a_walls a_rules rc C) g H 0 s0 s1 False False y)
    (hKP : rb_KP (rb_mv a_walls a_rules rc w C) (rb_Op a_walls a_rules rc C) g H C s0 s1 L t pc pd cs a_plan) (i0 : rb_SI g 0 t pc σ0) (i1 : rb_SI g 1 t pd σ1) (es0 : a_since 0 = nI σ0) (es1 : a_since 1 = nI σ1)
    (hJ : ∀ pc pd cs σ0 σ1 a_plan a_since, rb_KP (rb_mv a_walls a_rules rc w C) (rb_Op a_walls a_rules rc C) g H C s0 s1 L (t + 1) pc pd cs a_plan → rb_SI g 0 (t + 1) pc σ0 → rb_SI g 1 (t + 1) pd σ1 → a_since 0 = nI σ0 → a_since 1 = nI σ1 → J44 (nI (t + 1)) f_never (nI C) (nI H) (nI rc) f_status f_bound (nI L) a_neighbour a_walls a_placed a_starts a_goals a_rules a_open a_next a_earliest a_solo a_cost a_plan a_since a_done) :
    ∀ n m, m ≤ 25 → 26 - m < n → (∀ m', m' < m → ¬ rb_AC (rb_mv a_walls a_rules rc w C) (rb_Op a_walls a_rules rc C) g H t pc pd m' L) → wX_keepPlan_56 post J44 (nI t) n 0 (nI m) f_never (nI C) (nI H) (nI rc) f_status f_bound (nI L) a_neighbour a_walls a_placed a_starts a_goals a_rules a_open a_next a_earliest a_solo a_cost a_plan a_since a_done := by
  have M := rb_isMV (walls := a_walls) (rules := a_rules) (rc := rc) (w := w) (C := C) hw
  obtain ⟨k1, k2, k3, k4, k5, k6⟩ := hKP
  intro n
  induction n with
  | zero => intro i _ h; omega
  | succ n ih =>
    intro m hm hn2 hno
    refine pk_le 25 m (fun z => ?_) (fun z => br_t rfl ?_)
    · obtain ⟨m', q1, q2⟩ := rb_AC_ex M ht k4
      exact absurd q2 (hno m' (by omega))
    have kt := k6 t (Nat.le_refl t)
    refine rb_xTry (pc := pc) (pd := pd) (cs := cs) (s0 := σ0) (s1 := σ1) hw hC hH ht z hL (fun j hj => (k6 j hj).2.2.1) (fun j hj => (k6 j hj).2.2.2) hg hn hct (by rw [k1, k2]; exact hmin) k3 i0 i1 es0 es1 kt.1 kt.2.1 (fun hna => ?_) (fun c d q0 q1 hc hd hs hE j0 j1 => ?_)
    · refine nm_r (nI_1 m) (ih (m + 1) (by omega) (by omega) (fun m' hm' => ?_))
      by_cases e : m' = m
      · rw [e]; exact hna
      · exact hno m' (by omega)
    · have J := hJ (rb_ext pc t c) (rb_ext pd t d) (rb_up cs t m) q0 q1 (upd (upd a_plan (t + 1) (nI c)) (14 + t) (nI d)) (upd (upd a_since 0 (nI q0)) 1 (nI q1)) ?_ j0 j1 (by rw [pk_un (by decide), pk_us]) pk_us
      · refine nm_e ?_
        cases n with
        | zero => omega
        | succ n => exact pk_le 25 (m + 1) (fun _ => nm_r (nI_1 t) J) (fun _ => br_f (by decide) (nm_r (nI_1 t) J)) rfl (nI_1 m)
      · refine ⟨by rw [rb_ext_le (Nat.zero_le t)]; exact k1, by rw [rb_ext_le (Nat.zero_le t)]; exact k2, rb_PV_ext M k3 z hs, hE, fun i hi m' hm' => ?_, fun j hj => ?_⟩
        · by_cases e : i = t
          · subst e
            rw [rb_up_s] at hm'
            exact fun ha => hno m' hm' (rb_AC_iff (fun j hj => (rb_ext_le hj).symm.symm) (fun j hj => rb_ext_le hj) ha)
          · rw [rb_up_n e] at hm'
            exact fun ha => k5 i (by omega) m' hm' (rb_AC_iff (fun j hj => rb_ext_le (by omega)) (fun j hj => rb_ext_le (by omega)) ha)
        · by_cases e : j = t + 1
          · rw [e, rb_ext_s, rb_ext_s]
            exact ⟨by rw [pk_un (by omega), pk_us], by rw [show 13 + (t + 1) = 14 + t by omega, pk_us], hc, hd⟩
          · have kj := k6 j (by omega)
            rw [rb_ext_le (by omega), rb_ext_le (by omega)]
            exact ⟨by rw [pk_un (by omega), pk_un (by omega)]; exact kj.1, by rw [pk_un (by omega), pk_un (by omega)]; exact kj.2.1, kj.2.2⟩
theorem rb_xKeep44 {post : SX → Prop} {s0 s1 L : Nat} (hw : 1 ≤ w) (hC : C ≤ 15) (hH : H ≤ 12) (hL : L ≤ 24)
    (hg : ∀ r, r < 2 → g r < C ∧ a_goals r = nI (g r))
    (hn : ∀ r t c d, r < 2 → t < H → c < C → d < 5 → rb_NT (rb_mv a_walls a_rules rc w C) a_next r t c d)
    (hct : ∀ t a b f, t ≤ H → a < C → b < C → f < 4 → rb_CT (rb_mv a_walls a_rules rc w C) (rb_Op a_walls a_rules rc C) g H a_cost t a b f)
    (hmin : ∀ y, y < L → ¬ rb_KS (rb_mv a_walls a_rules rc w C) (rb_Op a_walls a_rules rc C) g H 0 s0 s1 False False y)
    (hJ : ∀ pc pd cs a_plan a_since, rb_KP (rb_mv a_walls a_rules rc w C) (rb_Op a_walls a_rules rc C) g H C s0 s1 L H pc pd cs a_plan → post (f_never, nI C, nI H, nI rc, f_status, f_bound, nI L, a_neighbour, a_walls, a_placed, a_starts, a_goals, a_rules, a_open, a_next, a_earliest, a_solo, a_cost, a_plan, a_since, a_done)) :
    ∀ n t pc pd cs σ0 σ1 a_plan a_since, t ≤ H → H - t < n → rb_KP (rb_mv a_walls a_rules rc w C) (rb_Op a_walls a_rules rc C) g H C s0 s1 L t pc pd cs a_plan → rb_SI g 0 t pc σ0 → rb_SI g 1 t pd σ1 → a_since 0 = nI σ0 → a_since 1 = nI σ1 →
      wX_keepPlan_44 post n (nI t) f_never (nI C) (nI H) (nI rc) f_status f_bound (nI L) a_neighbour a_walls a_placed a_starts a_goals a_rules a_open a_next a_earliest a_solo a_cost a_plan a_since a_done := by
  intro n
  induction n with
  | zero => intro t pc pd cs σ0 σ1 _ _ _ h; omega
  | succ n ih =>
    intro t pc pd cs σ0 σ1 a_plan a_since ht hn2 hKP i0 i1 es0 es1
    refine pk_le H t (fun z => ?_) (fun z => ⟨27, ?_⟩)
    · have e : t = H := by omega
      subst e
      exact hJ pc pd cs a_plan a_since hKP
    · exact rb_xKeep56 hw hC hH z hL hg hn hct hmin hKP i0 i1 es0 es1 (fun pc pd cs σ0 σ1 a_plan a_since k1 k2 k3 k4 k5 => ih (t + 1) pc pd cs σ0 σ1 a_plan a_since (by omega) (by omega) k1 k2 k3 k4 k5) 27 0 (by omega) (by omega) (fun m' h => absurd h (Nat.not_lt_zero m'))
theorem rb_xKeep2 {post : SX → Prop} 
    (hJ : ∀ a_plan a_since a_done, (∀ q, q < 2 → a_plan (q * 13) = a_starts q ∧ a_since q = 0 ∧ a_done q = 0) → ∃ n44 : Nat, wX_keepPlan_44 post n44 0 f_never (nI C) (nI H) (nI rc) f_status f_bound f_leastTotal a_neighbour a_walls a_placed a_starts a_goals a_rules a_open a_next a_earliest a_solo a_cost a_plan a_since a_done) :
    ∀ n r a_plan a_since a_done, r ≤ 2 → 2 - r < n → (∀ q, q < r → a_plan (q * 13) = a_starts q ∧ a_since q = 0 ∧ a_done q = 0) → wX_keepPlan_2 post f_never (nI C) (nI H) (nI rc) f_status f_bound f_leastTotal n (nI r) a_neighbour a_walls a_placed a_starts a_goals a_rules a_open a_next a_earliest a_solo a_cost a_plan a_since a_done := by
  intro n
  induction n with
  | zero => intro r _ _ _ _ h; omega
  | succ n ih =>
    intro r a_plan a_since a_done hr hn hp
    refine pk_le 2 r (fun z => hJ a_plan a_since a_done fun q hq => hp q (by omega)) (fun z => ?_)
    rw [rb_x13, nI_clamp (show r < 2 ^ 31 by omega), nI_clamp (show r * 13 < 2 ^ 31 by omega)]
    refine ⟨vp_in_nI (by omega) (by omega), vp_in_nI (by omega) (by omega), nm_e ⟨vp_in_nI (by omega) (by omega), nm_e ⟨vp_in_nI (by omega) (by omega), nm_e (nm_r (nI_1 r) (ih (r + 1) _ _ _ (by omega) (by omega) (fun q hq => ?_)))⟩⟩⟩
    by_cases e : q = r
    · subst e; exact ⟨pk_us, pk_us, pk_us⟩
    · have := hp q (by omega)
      rw [pk_un (by omega), pk_un e, pk_un e]
      exact this
theorem rb_xKeep {post : SX → Prop} {s0 s1 L : Nat} (hw : 1 ≤ w) (hC : C ≤ 15) (hH : H ≤ 12) (hL : L ≤ 24)
    (hg : ∀ r, r < 2 → g r < C ∧ a_goals r = nI (g r)) (hs0 : s0 < C) (es0 : a_starts 0 = nI s0) (hs1 : s1 < C) (es1 : a_starts 1 = nI s1)
    (hn : ∀ r t c d, r < 2 → t < H → c < C → d < 5 → rb_NT (rb_mv a_walls a_rules rc w C) a_next r t c d)
    (hct : ∀ t a b f, t ≤ H → a < C → b < C → f < 4 → rb_CT (rb_mv a_walls a_rules rc w C) (rb_Op a_walls a_rules rc C) g H a_cost t a b f)
    (hmin : ∀ y, y < L → ¬ rb_KS (rb_mv a_walls a_rules rc w C) (rb_Op a_walls a_rules rc C) g H 0 s0 s1 False False y)
    (hex : rb_KS (rb_mv a_walls a_rules rc w C) (rb_Op a_walls a_rules rc C) g H 0 s0 s1 False False L)
    (hJ : ∀ pc pd cs a_plan a_since a_done, rb_KP (rb_mv a_walls a_rules rc w C) (rb_Op a_walls a_rules rc C) g H C s0 s1 L H pc pd cs a_plan → a_done 0 = 0 → a_done 1 = 0 → post (f_never, nI C, nI H, nI rc, f_status, f_bound, nI L, a_neighbour, a_walls, a_placed, a_starts, a_goals, a_rules, a_open, a_next, a_earliest, a_solo, a_cost, a_plan, a_since, a_done)) :
    wpX_keepPlan post (f_never, nI C, nI H, nI rc, f_status, f_bound, nI L, a_neighbour, a_walls, a_placed, a_starts, a_goals, a_rules, a_open, a_next, a_earliest, a_solo, a_cost, a_plan, a_since, a_done) := by
  refine ⟨3, rb_xKeep2 (fun a_plan a_since a_done hq => ⟨H + 1, ?_⟩) 3 0 a_plan a_since a_done (by omega) (by omega) (fun q h => absurd h (Nat.not_lt_zero q))⟩
  have q0 := hq 0 (by omega)
  have q1 := hq 1 (by omega)
  have p0 : a_plan 0 = nI s0 := q0.1.trans es0
  have p1 : a_plan 13 = nI s1 := q1.1.trans es1
  obtain ⟨u0, u1, _, b1, _, b2, _, _, b3, J⟩ := hex
  refine rb_xKeep44 (s0 := s0) (s1 := s1) hw hC hH hL hg hn hct hmin (fun pc pd cs a_plan a_since k => hJ pc pd cs a_plan a_since a_done k q0.2.2 q1.2.2) (H + 1) 0 (fun _ => s0) (fun _ => s1) (fun _ => 0) 0 0 a_plan a_since (Nat.zero_le _) (by omega)
    ⟨rfl, rfl, ⟨fun j hj => ?_, fun j hj => absurd hj (Nat.not_lt_zero j)⟩, ⟨u0, u1, b1, b2, by omega, fun j hj hz => J.2.2.2.1 (by omega), fun j hj hz => J.2.2.2.2.1 (by omega), J⟩, fun i hi => absurd hi (Nat.not_lt_zero i), fun j hj => ?_⟩
    ⟨Nat.le_refl 0, fun z => ⟨fun j _ _ => z, Or.inl rfl⟩⟩ ⟨Nat.le_refl 0, fun z => ⟨fun j _ _ => z, Or.inl rfl⟩⟩ q0.2.1 q1.2.1
  · have e : j = 0 := by omega
    subst e
    exact ⟨J.1, J.2.1, J.2.2.1⟩
  · have e : j = 0 := by omega
    subst e
    exact ⟨p0, p1, hs0, hs1⟩
end
end
section
/-! the reference: rounds -/
theorem rb_ok_ex {α : Type} {St : Nat → α → Nat → α → Prop} {N : Nat} : ∀ k t s, rb_ok St N k t s → ∃ (cs : Nat → Nat) (ps : Nat → α), ps t = s ∧ ∀ i, t ≤ i → i < t + k → cs i < N ∧ St i (ps i) (cs i) (ps (i + 1)) := by
  intro k
  induction k with
  | zero => intro t s _; exact ⟨fun _ => 0, fun _ => s, rfl, fun i h1 h2 => by omega⟩
  | succ k ih =>
    intro t s ⟨m, hm, s', hs, ho⟩
    obtain ⟨cs, ps, h1, h2⟩ := ih (t + 1) s' ho
    refine ⟨rb_up cs t m, rb_up ps t s, rb_up_s, fun i h3 h4 => ?_⟩
    by_cases e : i = t
    · subst e
      rw [rb_up_s, rb_up_s, rb_up_n (by omega), h1]
      exact ⟨hm, hs⟩
    · rw [rb_up_n e, rb_up_n e, rb_up_n (by omega)]
      exact h2 i (by omega) (by omega)
section
variable {mv : Nat → Nat → Nat → Nat → Nat → Prop} {Op : Nat → Nat → Nat → Prop} {g : Nat → Nat} {H : Nat}
theorem rb_UB_KS {s0 s1 B : Nat} {z : Nat → Nat} (o0 : Op 0 0 s0) (o1 : Op 1 0 s1) (hs : s0 ≠ s1) (h : rb_UB mv g H s0 s1 B z) : rb_KS mv Op g H 0 s0 s1 False False B := by
  obtain ⟨u0, u1, a1, a2, a3, b1, b2, qs, b3, b4⟩ := h
  refine ⟨u0, u1, Nat.zero_le _, a1, Nat.zero_le _, a2, fun k => k.elim, fun k => k.elim, by omega, o0, o1, hs, fun k => b1 (by omega), fun k => b2 (by omega), ?_⟩
  have := rb_ok_plan (St := rb_s3 mv g u0 u1) (N := 25) z qs (H - 0) 0 (fun i _ hi => b4 i (by omega))
  rw [b3] at this
  exact this
theorem rb_KS_UB {s0 s1 B : Nat} (h : rb_KS mv Op g H 0 s0 s1 False False B) : ∃ z, rb_UB mv g H s0 s1 B z := by
  obtain ⟨u0, u1, _, a1, _, a2, _, _, a3, J⟩ := h
  obtain ⟨cs, ps, b1, b2⟩ := rb_ok_ex _ _ _ J.2.2.2.2.2
  exact ⟨cs, u0, u1, a1, a2, by omega, fun k => J.2.2.2.1 (by omega), fun k => J.2.2.2.2.1 (by omega), ps, b1, fun i hi => b2 i (Nat.zero_le _) (by omega)⟩
end
section
variable {f_status f_bound : Int32} {a_walls a_placed a_dead a_start a_goal a_done a_rules a_path a_codes a_kept a_lone : Nat → Int32} {w h C H rc : Nat} {g s : Nat → Nat}
theorem rb_yKeep59 {post : SY → Prop} {cs : Nat → Nat} (hH : H ≤ 12) (hcs : ∀ i, i < H → a_codes i = nI (cs i))
    (hJ : ∀ a_kept a_done, (∀ i, i < H → a_kept i = nI (cs i)) → a_done 0 = 0 → a_done 1 = 0 → post (nI w, nI h, nI H, nI rc, 2, f_bound, a_walls, a_placed, a_dead, a_start, a_goal, a_done, a_rules, a_path, a_codes, a_kept, a_lone)) :
    ∀ n t a_kept, t ≤ H → H - t < n → (∀ i, i < t → a_kept i = nI (cs i)) → wY_keepIfLeast_59 post (nI w) (nI h) (nI H) (nI rc) f_status f_bound n (nI t) a_walls a_placed a_dead a_start a_goal a_done a_rules a_path a_codes a_kept a_lone := by
  intro n
  induction n with
  | zero => intro r _ _ h; omega
  | succ n ih =>
    intro t a_kept ht hn hp
    refine pk_le H t (fun z => nm_e (nm_e (hJ _ _ (fun i hi => hp i (by omega)) ?_ pk_us))) (fun z => ⟨vp_in_nI (by omega) (by omega), vp_in_nI (by omega) (by omega), nm_r (e' := upd a_kept t (nI (cs t))) ?_ (nm_r (nI_1 t) (ih (t + 1) _ (by omega) (by omega) (fun i hi => ?_)))⟩)
    · rw [pk_un (by decide), pk_us]
    · rw [nI_clamp (by omega), hcs t z]
    · by_cases e : i = t
      · rw [e, pk_us]
      · rw [pk_un e]; exact hp i (by omega)
theorem rb_yKeep2 {post : SY → Prop} (hH : H ≤ 12) (hH1 : 1 ≤ H)
    (hJ : ∀ q, q < H → (∀ i, i < q → a_codes i = a_kept i) → (a_codes q = a_kept q → q + 1 = H) → wY_keepIfLeast_33 post (nI q) (nI w) (nI h) (nI H) (nI rc) f_status f_bound a_walls a_placed a_dead a_start a_goal a_done a_rules a_path a_codes a_kept a_lone) :
    ∀ n t, t < H → H - t < n → (∀ i, i < t → a_codes i = a_kept i) → wY_keepIfLeast_2 post (nI w) (nI h) (nI H) (nI rc) f_status f_bound a_walls a_placed a_dead a_start a_goal a_done a_rules a_path a_codes a_kept a_lone n (nI t) := by
  have e1 : nI H - 1 = nI (H - 1) := pk_sub (b := 1) hH1
  intro n
  induction n with
  | zero => intro r _ h; omega
  | succ n ih =>
    intro t ht hn hp
    refine pk_le (H - 1) t (fun z => hJ t ht hp fun _ => by omega) (fun z => ⟨vp_in_nI (by omega) (by omega), vp_in_nI (by omega) (by omega), br_c (fun e => ?_) (fun e => ?_)⟩) e1
    · rw [nI_clamp (by omega)] at e
      refine nm_r (nI_1 t) (ih (t + 1) (by omega) (by omega) fun i hi => ?_)
      by_cases e2 : i = t
      · rw [e2]; exact e
      · exact hp i (by omega)
    · rw [nI_clamp (by omega)] at e
      exact hJ t ht hp fun k => absurd k e
/-- the first plan of a round is kept -/
theorem rb_yKeepA {post : SY → Prop} {cs : Nat → Nat} (hH : H ≤ 12) (hH1 : 1 ≤ H) (hcs : ∀ i, i < H → a_codes i = nI (cs i))
    (hJ : ∀ a_kept a_done, (∀ i, i < H → a_kept i = nI (cs i)) → a_done 0 = 0 → a_done 1 = 0 → post (nI w, nI h, nI H, nI rc, 2, f_bound, a_walls, a_placed, a_dead, a_start, a_goal, a_done, a_rules, a_path, a_codes, a_kept, a_lone)) : wpY_keepIfLeast post (nI w, nI h, nI H, nI rc, 1, f_bound, a_walls, a_placed, a_dead, a_start, a_goal, a_done, a_rules, a_path, a_codes, a_kept, a_lone) := by
  refine ⟨H + 1, rb_yKeep2 hH hH1 (fun q hq _ _ => br_f (by decide) ⟨H + 1, ?_⟩) (H + 1) 0 (by omega) (by omega) (fun i hi => absurd hi (Nat.not_lt_zero i))⟩
  exact rb_yKeep59 hH hcs hJ (H + 1) 0 a_kept (Nat.zero_le _) (by omega) (fun i hi => absurd hi (Nat.not_lt_zero i))
theorem rb_yKeepB {post : SY → Prop} {cs kt : Nat → Nat} {S T : (Nat → Nat) → Prop} (hH : H ≤ 12) (hH1 : 1 ≤ H) (hcs : ∀ i, i < H → a_codes i = nI (cs i)) (hc25 : ∀ i, i < H → cs i < 25) (hkt : ∀ i, i < H → a_kept i = nI (kt i)) (hk25 : ∀ i, i < H → kt i < 25) (hd0 : a_done 0 = 0) (hd1 : a_done 1 = 0)
    (hS : rb_lm H S kt) (hT : rb_lm H T cs)
    (hJ : ∀ kt a_kept a_done, (∀ i, i < H → a_kept i = nI (kt i)) → rb_lm H (fun z => S z ∨ T z) kt → a_done 0 = 0 → a_done 1 = 0 → post (nI w, nI h, nI H, nI rc, 2, f_bound, a_walls, a_placed, a_dead, a_start, a_goal, a_done, a_rules, a_path, a_codes, a_kept, a_lone)) : wpY_keepIfLeast post (nI w, nI h, nI H, nI rc, 2, f_bound, a_walls, a_placed, a_dead, a_start, a_goal, a_done, a_rules, a_path, a_codes, a_kept, a_lone) := by
  refine ⟨H + 1, rb_yKeep2 hH hH1 (fun q hq heq hend => br_t rfl ⟨vp_in_nI (by omega) (by omega), vp_in_nI (by omega) (by omega), ?_⟩) (H + 1) 0 (by omega) (by omega) (fun i hi => absurd hi (Nat.not_lt_zero i))⟩
  have c1 := hc25 q hq
  have c2 := hk25 q hq
  have heq' : ∀ i, i < q → cs i = kt i := by
    intro i hi
    have e := heq i hi
    have c3 := hc25 i (by omega)
    have c4 := hk25 i (by omega)
    rw [hcs i (by omega), hkt i (by omega), nI_eq (by omega) (by omega)] at e
    exact e
  have hend' : cs q = kt q → q + 1 = H := fun e => hend (by rw [hcs q hq, hkt q hq, e])
  rw [nI_clamp (by omega), hcs q hq, hkt q hq]
  refine pk_lt (cs q) (kt q) (fun z => ⟨H + 1, ?_⟩) (fun z => ?_)
  · exact rb_yKeep59 hH hcs (fun a_kept a_done k1 k2 k3 => hJ cs a_kept a_done k1 (rb_lm_new hS hT q heq' z hq) k2 k3) (H + 1) 0 a_kept (Nat.zero_le _) (by omega) (fun i hi => absurd hi (Nat.not_lt_zero i))
  · exact hJ kt a_kept a_done hkt (rb_lm_keep hS hT q heq' z (fun e => hend' e.symm) hq) hd0 hd1
/-- what a round has kept so far -/
def rb_RS (mv : Nat → Nat → Nat → Nat → Nat → Prop) (g : Nat → Nat) (H s0 s1 B due : Nat) (st : Int32) (kept done : Nat → Int32) : Prop :=
  (st = 1 ∧ ∀ z, ¬ rb_UD mv g H s0 s1 B due z) ∨ (st = 2 ∧ ∃ kt : Nat → Nat, (∀ i, i < H → kept i = nI (kt i)) ∧ rb_lm H (rb_UD mv g H s0 s1 B due) kt ∧ done 0 = 0 ∧ done 1 = 0)
theorem rb_yRound2 {post : SY → Prop} {B : Nat} (eC : w * h = C) (hC : C ≤ 15) (hH : H ≤ 12) (hH1 : 1 ≤ H) (hw : 1 ≤ w) (hw5 : w ≤ 5) (hrc : rc ≤ 8) (hB : B ≤ 2 * H)
    (hg : ∀ r, r < 2 → g r < C ∧ a_goal r = nI (g r)) (hs : ∀ r, r < 2 → s r < C ∧ a_start r = nI (s r)) (o0 : rb_Op a_walls a_rules rc C 0 0 (s 0)) (o1 : rb_Op a_walls a_rules rc C 1 0 (s 1))
    (h2 : ∀ kt a_dead a_path a_codes a_kept a_done, (∀ i, i < H → a_kept i = nI (kt i)) → rb_lm H (rb_UB (rb_mv a_walls a_rules rc w C) g H (s 0) (s 1) B) kt → a_done 0 = 0 → a_done 1 = 0 → post (nI w, nI h, nI H, nI rc, 2, nI B, a_walls, a_placed, a_dead, a_start, a_goal, a_done, a_rules, a_path, a_codes, a_kept, a_lone))
    (h1 : ∀ a_dead a_path a_codes a_kept a_done, (∀ z, ¬ rb_UB (rb_mv a_walls a_rules rc w C) g H (s 0) (s 1) B z) → B < 2 * H → post (nI w, nI h, nI H, nI rc, 1, nI (B + 1), a_walls, a_placed, a_dead, a_start, a_goal, a_done, a_rules, a_path, a_codes, a_kept, a_lone))
    (h3 : ∀ a_dead a_path a_codes a_kept a_done, (∀ z, ¬ rb_UB (rb_mv a_walls a_rules rc w C) g H (s 0) (s 1) B z) → 2 * H ≤ B → post (nI w, nI h, nI H, nI rc, 3, (-1), a_walls, a_placed, a_dead, a_start, a_goal, a_done, a_rules, a_path, a_codes, a_kept, a_lone)) :
    ∀ n due f_status a_dead a_path a_codes a_kept a_done, due ≤ H + 1 → H + 1 - due < n → rb_RS (rb_mv a_walls a_rules rc w C) g H (s 0) (s 1) B due f_status a_kept a_done → wY_oneRound_2 post n (nI due) (nI w) (nI h) (nI H) (nI rc) f_status (nI B) a_walls a_placed a_dead a_start a_goal a_done a_rules a_path a_codes a_kept a_lone := by
  have M := rb_isMV (walls := a_walls) (rules := a_rules) (rc := rc) (w := w) (C := C) hw
  have e2H : (2 : Int32) * nI H = nI (2 * H) := pk_mul 2 H
  intro n
  induction n with
  | zero => intro due f_status _ _ _ _ _ _ h; omega
  | succ n ih =>
    intro due f_status a_dead a_path a_codes a_kept a_done hd hn hR
    refine pk_lt H due (fun z => ?_) (fun z => ?_)
    · have e : due = H + 1 := by omega
      subst e
      rw [e2H, nI_1 B]
      rcases hR with ⟨rfl, k1⟩ | ⟨rfl, kt, k1, k2, k3, k4⟩
      · have k2 : ∀ z, ¬ rb_UB (rb_mv a_walls a_rules rc w C) g H (s 0) (s 1) B z := fun z hz => k1 z ((rb_UD_all hB z).mpr hz)
        refine br_f (by decide) (pk_lt B (2 * H) (fun z2 => ?_) (fun z2 => ?_))
        · exact br_t (nI_pos' (by omega)) (h1 _ _ _ _ _ k2 z2)
        · exact br_f (by decide) (h3 _ _ _ _ _ k2 z2)
      · exact br_t rfl (h2 kt _ _ _ _ _ k1 (rb_lm_iff k2 (rb_UD_all hB)) k3 k4)
    have skip : (∀ z, ¬ (due ≤ H ∧ due ≤ B ∧ B - due ≤ H ∧ rb_PL (rb_mv a_walls a_rules rc w C) g H (s 0) (s 1) due (B - due) z)) → rb_RS (rb_mv a_walls a_rules rc w C) g H (s 0) (s 1) B (due + 1) f_status a_kept a_done := by
      intro hno
      have e : ∀ z, rb_UD (rb_mv a_walls a_rules rc w C) g H (s 0) (s 1) B due z ↔ rb_UD (rb_mv a_walls a_rules rc w C) g H (s 0) (s 1) B (due + 1) z := fun z =>
        ⟨fun k => (rb_UD_s z).mpr (Or.inl k), fun k => ((rb_UD_s z).mp k).resolve_right (hno z)⟩
      rcases hR with ⟨k0, k1⟩ | ⟨k0, kt, k1, k2, k3⟩
      · exact Or.inl ⟨k0, fun z k => k1 z ((e z).mpr k)⟩
      · exact Or.inr ⟨k0, kt, k1, rb_lm_iff k2 e, k3⟩
    refine pk_lt B due (fun z2 => nm_r (nI_1 due) (ih (due + 1) f_status a_dead a_path a_codes a_kept a_done (by omega) (by omega) (skip fun z k => by have := k.2.1; omega))) (fun z2 => ?_)
    rw [pk_sub z2]
    refine pk_lt H (B - due) (fun z3 => nm_r (nI_1 due) (ih (due + 1) f_status a_dead a_path a_codes a_kept a_done (by omega) (by omega) (skip fun z k => by have := k.2.2.1; omega))) (fun z3 => ?_)
    have g0 := hg 0 (by omega)
    have g1 := hg 1 (by omega)
    have s0 := hs 0 (by omega)
    have s1 := hs 1 (by omega)
    refine rb_yFind (who := 3) (g := g) (s0 := s 0) (s1 := s 1) eC hC hH hw hw5 hrc (by omega) (by omega) (by omega) g0.1 g0.2 g1.1 g1.2 s0.1 s0.2 s1.1 s1.2 (fun cs ps a_dead a_path a_codes hi hrn => br_f (by decide) ?_) (fun a_dead a_path a_codes hno => br_t rfl (nm_r (nI_1 due) (ih (due + 1) f_status a_dead a_path a_codes a_kept a_done (by omega) (by omega) (skip fun z k => rb_Y3_no o0 o1 hno z k.2.2.2))))
    have lm := rb_Y3_lm M hi cs ps hrn.1 (fun i hi => ⟨(hrn.2.1 i hi).1, (hrn.2.1 i hi).2.1⟩) (fun i hi m hm => (hrn.2.1 i hi).2.2 m hm)
    have hcs := hrn.2.2.2
    rcases hR with ⟨rfl, k1⟩ | ⟨rfl, kt, k1, k2, k3, k4⟩
    · refine rb_yKeepA hH hH1 hcs (fun a_kept a_done q1 q2 q3 => nm_r (nI_1 due) (ih (due + 1) 2 a_dead a_path a_codes a_kept a_done (by omega) (by omega) (Or.inr ⟨rfl, cs, q1, rb_lm_iff lm fun z => ?_, q2, q3⟩)))
      exact ⟨fun k => (rb_UD_s z).mpr (Or.inr ⟨by omega, z2, z3, k⟩), fun k => ((rb_UD_s z).mp k).elim (fun k => absurd k (k1 z)) (fun k => k.2.2.2)⟩
    · have kt25 : ∀ i, i < H → kt i < 25 := by
        intro i hi
        obtain ⟨u, _, _, _, _, _, _, qs, _, q⟩ := k2.1
        exact (q i hi).1
      refine rb_yKeepB (S := rb_UD (rb_mv a_walls a_rules rc w C) g H (s 0) (s 1) B due) (T := rb_PL (rb_mv a_walls a_rules rc w C) g H (s 0) (s 1) due (B - due)) hH hH1 hcs (fun i hi => (hrn.2.1 i hi).1) k1 kt25 k3 k4 k2 lm (fun kt a_kept a_done q1 q2 q3 q4 => nm_r (nI_1 due) (ih (due + 1) 2 a_dead a_path a_codes a_kept a_done (by omega) (by omega) (Or.inr ⟨rfl, kt, q1, rb_lm_iff q2 fun z => ?_, q3, q4⟩)))
      exact ⟨fun k => (rb_UD_s z).mpr (k.elim Or.inl fun k => Or.inr ⟨by omega, z2, z3, k⟩), fun k => ((rb_UD_s z).mp k).elim Or.inl (fun k => Or.inr k.2.2.2)⟩
theorem rb_yRound {post : SY → Prop} {B : Nat} (eC : w * h = C) (hC : C ≤ 15) (hH : H ≤ 12) (hH1 : 1 ≤ H) (hw : 1 ≤ w) (hw5 : w ≤ 5) (hrc : rc ≤ 8) (hB : B ≤ 2 * H)
    (hg : ∀ r, r < 2 → g r < C ∧ a_goal r = nI (g r)) (hs : ∀ r, r < 2 → s r < C ∧ a_start r = nI (s r)) (o0 : rb_Op a_walls a_rules rc C 0 0 (s 0)) (o1 : rb_Op a_walls a_rules rc C 1 0 (s 1))
    (h2 : ∀ kt a_dead a_path a_codes a_kept a_done, (∀ i, i < H → a_kept i = nI (kt i)) → rb_lm H (rb_UB (rb_mv a_walls a_rules rc w C) g H (s 0) (s 1) B) kt → a_done 0 = 0 → a_done 1 = 0 → post (nI w, nI h, nI H, nI rc, 2, nI B, a_walls, a_placed, a_dead, a_start, a_goal, a_done, a_rules, a_path, a_codes, a_kept, a_lone))
    (h1 : ∀ a_dead a_path a_codes a_kept a_done, (∀ z, ¬ rb_UB (rb_mv a_walls a_rules rc w C) g H (s 0) (s 1) B z) → B < 2 * H → post (nI w, nI h, nI H, nI rc, 1, nI (B + 1), a_walls, a_placed, a_dead, a_start, a_goal, a_done, a_rules, a_path, a_codes, a_kept, a_lone))
    (h3 : ∀ a_dead a_path a_codes a_kept a_done, (∀ z, ¬ rb_UB (rb_mv a_walls a_rules rc w C) g H (s 0) (s 1) B z) → 2 * H ≤ B → post (nI w, nI h, nI H, nI rc, 3, (-1), a_walls, a_placed, a_dead, a_start, a_goal, a_done, a_rules, a_path, a_codes, a_kept, a_lone)) :
    wpY_oneRound post (nI w, nI h, nI H, nI rc, 1, nI B, a_walls, a_placed, a_dead, a_start, a_goal, a_done, a_rules, a_path, a_codes, a_kept, a_lone) :=
  ⟨H + 2, rb_yRound2 eC hC hH hH1 hw hw5 hrc hB hg hs o0 o1 h2 h1 h3 (H + 2) 0 1 a_dead a_path a_codes a_kept a_done (Nat.zero_le _) (by omega) (Or.inl ⟨rfl, fun z ⟨u, hu, _⟩ => absurd hu (Nat.not_lt_zero u)⟩)⟩
/-- up to lim rounds of the reference, the least total being L -/
theorem rb_ySearch86 {post : Int32 → SY → Prop} {p L : Nat} (eC : w * h = C) (hC : C ≤ 15) (hH : H ≤ 12) (hH1 : 1 ≤ H) (hw : 1 ≤ w) (hw5 : w ≤ 5) (hrc : rc ≤ 8) (hp : p < 2 ^ 31)
    (hg : ∀ r, r < 2 → g r < C ∧ a_goal r = nI (g r)) (hs : ∀ r, r < 2 → s r < C ∧ a_start r = nI (s r)) (o0 : rb_Op a_walls a_rules rc C 0 0 (s 0)) (o1 : rb_Op a_walls a_rules rc C 1 0 (s 1)) (hne : s 0 ≠ s 1)
    (hL : ∀ y, y < 1000 → (L ≤ y ↔ rb_KS (rb_mv a_walls a_rules rc w C) (rb_Op a_walls a_rules rc C) g H 0 (s 0) (s 1) False False y)) :
    ∀ n i K B a_dead a_path a_codes a_kept a_done, (i + K = p ∧ p ≤ 32 ∨ i + K = 32 ∧ 32 ≤ p) → K < n → B ≤ L → B ≤ 2 * H →
      (L ≤ 2 * H → L < B + K → ∀ kt a_dead a_path a_codes a_kept a_done, (∀ i, i < H → a_kept i = nI (kt i)) → rb_lm H (rb_UB (rb_mv a_walls a_rules rc w C) g H (s 0) (s 1) L) kt → a_done 0 = 0 → a_done 1 = 0 → post 2 (nI w, nI h, nI H, nI rc, 2, nI L, a_walls, a_placed, a_dead, a_start, a_goal, a_done, a_rules, a_path, a_codes, a_kept, a_lone)) →
      (2 * H < L → 2 * H < B + K → ∀ a_dead a_path a_codes a_kept a_done, post 3 (nI w, nI h, nI H, nI rc, 3, (-1), a_walls, a_placed, a_dead, a_start, a_goal, a_done, a_rules, a_path, a_codes, a_kept, a_lone)) →
      (B + K ≤ L → B + K ≤ 2 * H → ∀ a_dead a_path a_codes a_kept a_done, post 1 (nI w, nI h, nI H, nI rc, 1, nI (B + K), a_walls, a_placed, a_dead, a_start, a_goal, a_done, a_rules, a_path, a_codes, a_kept, a_lone)) →
      wY_search_86 post (nI p) n (nI i) (nI w) (nI h) (nI H) (nI rc) 1 (nI B) a_walls a_placed a_dead a_start a_goal a_done a_rules a_path a_codes a_kept a_lone := by
  intro n
  induction n with
  | zero => intro i K B _ _ _ _ _ _ h; omega
  | succ n ih =>
    intro i K B a_dead a_path a_codes a_kept a_done hik hn hBL hB2 hF hI hS
    have stop : K = 0 → post 1 (nI w, nI h, nI H, nI rc, 1, nI B, a_walls, a_placed, a_dead, a_start, a_goal, a_done, a_rules, a_path, a_codes, a_kept, a_lone) := by
      intro e
      subst e
      exact hS hBL hB2 a_dead a_path a_codes a_kept a_done
    refine pk_le p i (fun z => stop (by omega)) (fun z => pk_le 32 i (fun z2 => stop (by omega)) (fun z2 => br_t rfl ?_))
    obtain ⟨K, rfl⟩ : ∃ K', K = K' + 1 := ⟨K - 1, by omega⟩
    refine rb_yRound eC hC hH hH1 hw hw5 hrc hB2 hg hs o0 o1 (fun kt a_dead a_path a_codes a_kept a_done k1 k2 k3 k4 => ?_) (fun a_dead a_path a_codes a_kept a_done k1 k2 => ?_) (fun a_dead a_path a_codes a_kept a_done k1 k2 => ?_)
    · have hKS := (hL B (by omega)).mpr (rb_UB_KS o0 o1 hne k2.1)
      have e : L = B := by omega
      subst e
      refine nm_r (nI_1 i) ?_
      cases n with
      | zero => omega
      | succ n =>
        have fin := hF hB2 (by omega) kt a_dead a_path a_codes a_kept a_done k1 k2 k3 k4
        exact pk_le p (i + 1) (fun _ => fin) (fun _ => pk_le 32 (i + 1) (fun _ => fin) (fun _ => br_f (by decide) fin))
    · have hno : ¬ L ≤ B := fun k => by
        obtain ⟨z, hz⟩ := rb_KS_UB ((hL B (by omega)).mp k)
        exact k1 z hz
      refine nm_r (nI_1 i) (ih (i + 1) K (B + 1) a_dead a_path a_codes a_kept a_done (by omega) (by omega) (by omega) (by omega) (fun q1 q2 => hF q1 (by omega)) (fun q1 q2 => hI q1 (by omega)) (fun q1 q2 => ?_))
      have := hS (by omega) (by omega)
      rw [show B + (K + 1) = B + 1 + K by omega] at this
      exact this
    · have hno : ¬ L ≤ B := fun k => by
        obtain ⟨z, hz⟩ := rb_KS_UB ((hL B (by omega)).mp k)
        exact k1 z hz
      refine nm_r (nI_1 i) ?_
      cases n with
      | zero => omega
      | succ n =>
        have fin := hI (by omega) (by omega) a_dead a_path a_codes a_kept a_done
        exact pk_le p (i + 1) (fun _ => fin) (fun _ => pk_le 32 (i + 1) (fun _ => fin) (fun _ => br_f (by decide) fin))
end
end
section
/-! the component: beginning a search, rounds -/
section
variable {f_never f_status f_bound f_leastTotal : Int32} {a_neighbour a_walls a_placed a_starts a_goals a_rules a_open a_next a_earliest a_solo a_cost a_plan a_since a_done : Nat → Int32} {w C H rc : Nat} {g s : Nat → Nat}
theorem rb_xBegin {post : SX → Prop} (hw : 1 ≤ w) (hC : C ≤ 15) (hH : H ≤ 12) (hrc : rc ≤ 8)
    (hg : ∀ r, r < 2 → g r < C ∧ a_goals r = nI (g r)) (hs : ∀ r, r < 2 → s r < C ∧ a_starts r = nI (s r)) (hpl : ∀ r, r < 2 → a_placed r ≠ 0)
    (hnb : ∀ c d, c < C → d < 5 → rb_NB w C a_neighbour c d)
    (hI : ∀ a_open a_next a_earliest r, r < 2 → rb_IsE (rb_mv a_walls a_rules rc w C) (rb_Op a_walls a_rules rc C) g H r 0 (s r) 1000 → post (f_never, nI C, nI H, nI rc, 3, f_bound, f_leastTotal, a_neighbour, a_walls, a_placed, a_starts, a_goals, a_rules, a_open, a_next, a_earliest, a_solo, a_cost, a_plan, a_since, a_done))
    (hS : ∀ a_open a_next a_earliest a_cost x0 x1 L, x0 ≤ H → x1 ≤ H → rb_IsE (rb_mv a_walls a_rules rc w C) (rb_Op a_walls a_rules rc C) g H 0 0 (s 0) x0 → rb_IsE (rb_mv a_walls a_rules rc w C) (rb_Op a_walls a_rules rc C) g H 1 0 (s 1) x1 →
      (∀ r t c d, r < 2 → t < H → c < C → d < 5 → rb_NT (rb_mv a_walls a_rules rc w C) a_next r t c d) → (∀ t a b f, t ≤ H → a < C → b < C → f < 4 → rb_CT (rb_mv a_walls a_rules rc w C) (rb_Op a_walls a_rules rc C) g H a_cost t a b f) →
      rb_IsK (rb_mv a_walls a_rules rc w C) (rb_Op a_walls a_rules rc C) g H 0 (s 0) (s 1) False False L → post (f_never, nI C, nI H, nI rc, 1, nI (x0 + x1), nI L, a_neighbour, a_walls, a_placed, a_starts, a_goals, a_rules, a_open, a_next, a_earliest, a_solo, a_cost, a_plan, a_since, a_done)) :
    wpX_begin post (f_never, nI C, nI H, nI rc, f_status, f_bound, f_leastTotal, a_neighbour, a_walls, a_placed, a_starts, a_goals, a_rules, a_open, a_next, a_earliest, a_solo, a_cost, a_plan, a_since, a_done) := by
  have g0 := hg 0 (by omega)
  have g1 := hg 1 (by omega)
  have s0 := hs 0 (by omega)
  have s1 := hs 1 (by omega)
  unfold wpX_begin
  refine rb_xSoloCost (r := 0) (s := s 0) (g := g) (by omega) hH hw hC hrc g0.1 g0.2 s0.1 s0.2 (hpl 0 (by omega)) hnb (fun o0 n0 e0 f1 f2 f3 T0 => ⟨fun x0 hx0 E0 => ?_, fun E0 => ?_⟩)
  · refine rb_xSoloCost (r := 1) (s := s 1) (g := g) (by omega) hH hw hC hrc g1.1 g1.2 s1.1 s1.2 (hpl 1 (by omega)) hnb (fun o1 n1 e1 q1 q2 q3 T1 => ⟨fun x1 hx1 E1 => ?_, fun E1 => ?_⟩)
    · have T0' := rb_TB_fr (q := 0) (r := 1) (by omega) (by omega) (by omega) hH hC q1 q2 q3 T0
      have hop : ∀ r t c, r < 2 → t ≤ H → c < C → rb_OT (rb_Op a_walls a_rules rc C) o1 r t c := by
        intro r t c hr h1 h2
        have h : r = 0 ∨ r = 1 := by omega
        rcases h with rfl | rfl
        · exact T0'.1 t c h1 h2
        · exact T1.1 t c h1 h2
      have hnt : ∀ r t c d, r < 2 → t < H → c < C → d < 5 → rb_NT (rb_mv a_walls a_rules rc w C) n1 r t c d := by
        intro r t c d hr h1 h2 h3
        have h : r = 0 ∨ r = 1 := by omega
        rcases h with rfl | rfl
        · exact T0'.2.1 t c d h1 h2 h3
        · exact T1.2.1 t c d h1 h2 h3
      refine br_f (nI_pos (by omega)) (br_t (nI_pos' (by omega)) (nm_r (nI_add x0 x1) ?_))
      refine rb_xCosts (g := g) hw hC hH hg hop hnt (fun a_cost hct => ?_)
      have e0 : a_starts 0 = nI (s 0) := s0.2
      have e1' : a_starts 1 = nI (s 1) := s1.2
      dsimp only
      rw [e0, e1']
      refine rb_xJix (t := 0) (f := 0) ⟨vp_in_nI (by omega) (by omega), ?_⟩
      rw [nI_clamp (by omega)]
      obtain ⟨L, k1, k2⟩ := hct 0 (s 0) (s 1) 0 (Nat.zero_le _) s0.1 s1.1 (by omega)
      exact nm_r k1 (hS o1 n1 e1 a_cost x0 x1 L hx0 hx1 E0 E1 hnt hct (rb_IsK_iff (by simp) (by simp) k2))
    · exact br_f (nI_pos (by omega)) (br_f (by decide) (hI o1 n1 e1 1 (by omega) E1))
  · refine rb_xSoloCost (r := 1) (s := s 1) (g := g) (by omega) hH hw hC hrc g1.1 g1.2 s1.1 s1.2 (hpl 1 (by omega)) hnb (fun o1 n1 e1 q1 q2 q3 T1 => ⟨fun x1 hx1 E1 => ?_, fun E1 => ?_⟩)
    · exact br_t rb_neg1 (hI o1 n1 e1 0 (by omega) E0)
    · exact br_t rb_neg1 (hI o1 n1 e1 0 (by omega) E0)
theorem rb_xSearch51 {post : Int32 → SX → Prop} {lim L : Nat} (hw : 1 ≤ w) (hC : C ≤ 15) (hH : H ≤ 12) (hlim : lim ≤ 32)
    (hg : ∀ r, r < 2 → g r < C ∧ a_goals r = nI (g r)) (hs : ∀ r, r < 2 → s r < C ∧ a_starts r = nI (s r))
    (hn : ∀ r t c d, r < 2 → t < H → c < C → d < 5 → rb_NT (rb_mv a_walls a_rules rc w C) a_next r t c d)
    (hct : ∀ t a b f, t ≤ H → a < C → b < C → f < 4 → rb_CT (rb_mv a_walls a_rules rc w C) (rb_Op a_walls a_rules rc C) g H a_cost t a b f)
    (hL1 : L ≤ 1000) (hL : ∀ y, y < 1000 → (L ≤ y ↔ rb_KS (rb_mv a_walls a_rules rc w C) (rb_Op a_walls a_rules rc C) g H 0 (s 0) (s 1) False False y)) :
    ∀ n i K B, i + K = lim → K < n → B ≤ L → B ≤ 2 * H →
      (L ≤ 2 * H → L < B + K → ∀ pc pd cs a_plan a_since a_done, rb_KP (rb_mv a_walls a_rules rc w C) (rb_Op a_walls a_rules rc C) g H C (s 0) (s 1) L H pc pd cs a_plan → a_done 0 = 0 → a_done 1 = 0 → post 2 (f_never, nI C, nI H, nI rc, 2, nI L, nI L, a_neighbour, a_walls, a_placed, a_starts, a_goals, a_rules, a_open, a_next, a_earliest, a_solo, a_cost, a_plan, a_since, a_done)) →
      (2 * H < L → 2 * H < B + K → post 3 (f_never, nI C, nI H, nI rc, 3, (-1), nI L, a_neighbour, a_walls, a_placed, a_starts, a_goals, a_rules, a_open, a_next, a_earliest, a_solo, a_cost, a_plan, a_since, a_done)) →
      (B + K ≤ L → B + K ≤ 2 * H → post 1 (f_never, nI C, nI H, nI rc, 1, nI (B + K), nI L, a_neighbour, a_walls, a_placed, a_starts, a_goals, a_rules, a_open, a_next, a_earliest, a_solo, a_cost, a_plan, a_since, a_done)) →
      wX_search_51 post (nI lim) n (nI i) f_never (nI C) (nI H) (nI rc) 1 (nI B) (nI L) a_neighbour a_walls a_placed a_starts a_goals a_rules a_open a_next a_earliest a_solo a_cost a_plan a_since a_done := by
  have e2H : (2 : Int32) * nI H = nI (2 * H) := pk_mul 2 H
  intro n
  induction n with
  | zero => intro i K B _ h; omega
  | succ n ih =>
    intro i K B hik hn2 hBL hB2 hF hI hS
    refine pk_le lim i (fun z => ?_) (fun z => br_t rfl ?_)
    · have e : K = 0 := by omega
      subst e
      exact hS hBL hB2
    obtain ⟨K, rfl⟩ : ∃ K', K = K' + 1 := ⟨K - 1, by omega⟩
    unfold wpX_playRound
    refine pk_eq L B (fun e => ?_) (fun e => pk_lt B (2 * H) (fun z2 => ?_) (fun z2 => ?_) rfl e2H)
    · subst e
      have s0 := hs 0 (by omega)
      have s1 := hs 1 (by omega)
      refine rb_xKeep (g := g) (s0 := s 0) (s1 := s 1) hw hC hH (by omega) hg s0.1 s0.2 s1.1 s1.2 hn hct (fun y hy k => ?_) ((hL L (by omega)).mp (Nat.le_refl L)) (fun pc pd cs a_plan a_since a_done k1 k2 k3 => ?_)
      · have := (hL y (by omega)).mpr k
        omega
      · refine nm_r (nI_1 i) ?_
        cases n with
        | zero => omega
        | succ n =>
          have fin := hF hB2 (by omega) pc pd cs a_plan a_since a_done k1 k2 k3
          exact pk_le lim (i + 1) (fun _ => fin) (fun _ => br_f (by decide) fin)
    · refine nm_r (nI_1 B) (nm_r (nI_1 i) (ih (i + 1) K (B + 1) (by omega) (by omega) (by omega) (by omega) (fun q1 q2 => hF q1 (by omega)) (fun q1 q2 => hI q1 (by omega)) (fun q1 q2 => ?_)))
      have := hS (by omega) (by omega)
      rw [show B + (K + 1) = B + 1 + K by omega] at this
      exact this
    · refine nm_r (nI_1 i) ?_
      cases n with
      | zero => omega
      | succ n =>
        have fin := hI (by omega) (by omega)
        exact pk_le lim (i + 1) (fun _ => fin) (fun _ => br_f (by decide) fin)
end
end
section
/-! marks, walls, places, rules: both sides -/
def rb_D (placed starts goals : Nat → Int32) (r : Nat) (wt x : Int32) : Int32 := if placed r = 0 then 0 else (if starts r = x then wt else 0) + (if goals r = x then 2 * wt else 0)
/-- the mark of a cell -/
def rb_mk (walls placed starts goals : Nat → Int32) (c : Nat) : Int32 := ((if walls c = 0 then 0 else 1) + rb_D placed starts goals 0 2 (nI c)) + rb_D placed starts goals 1 8 (nI c)
/-- a place is taken -/
def rb_tk (walls placed starts goals : Nat → Int32) (r a b : Nat) : Prop := walls a ≠ 0 ∨ walls b ≠ 0 ∨ (placed (1 - r) ≠ 0 ∧ (starts (1 - r) = nI a ∨ goals (1 - r) = nI b))
section
variable {f_never f_status f_bound f_leastTotal : Int32} {a_neighbour a_walls a_placed a_starts a_goals a_rules a_open a_next a_earliest a_solo a_cost a_plan a_since a_done : Nat → Int32} {w C H rc : Nat} {g s : Nat → Nat}
theorem rb_xIsC {post : Int32 → Prop} {x : Int32} (hC : C ≤ 15) (h1 : ∀ c, c < C → x = nI c → post 1) (h0 : (∀ c, c < C → x ≠ nI c) → post 0) : wpX_isCell post (f_never, nI C, nI H, nI rc, f_status, f_bound, f_leastTotal, a_neighbour, a_walls, a_placed, a_starts, a_goals, a_rules, a_open, a_next, a_earliest, a_solo, a_cost, a_plan, a_since, a_done) x := by
  refine br_c (fun z => h0 fun c hc e => nI_pos (n := c) (by omega) (e ▸ z)) (fun z => ?_)
  obtain ⟨j, hj, rfl⟩ := nI_of z
  exact pk_le C j (fun z => h0 fun c hc e => by rw [nI_eq hj (by omega)] at e; omega) (fun z => h1 j z rfl)
theorem rb_xIsCy {post : Int32 → Prop} {c : Nat} (hC : C ≤ 15) (hc : c < C) (h1 : post 1) : wpX_isCell post (f_never, nI C, nI H, nI rc, f_status, f_bound, f_leastTotal, a_neighbour, a_walls, a_placed, a_starts, a_goals, a_rules, a_open, a_next, a_earliest, a_solo, a_cost, a_plan, a_since, a_done) (nI c) :=
  rb_xIsC hC (fun _ _ _ => h1) (fun z => absurd rfl (z c hc))
theorem rb_xIsCn {post : Int32 → Prop} {x : Int32} (hC : C ≤ 15) (hx : ∀ c, c < C → x ≠ nI c) (h0 : post 0) : wpX_isCell post (f_never, nI C, nI H, nI rc, f_status, f_bound, f_leastTotal, a_neighbour, a_walls, a_placed, a_starts, a_goals, a_rules, a_open, a_next, a_earliest, a_solo, a_cost, a_plan, a_since, a_done) x :=
  rb_xIsC hC (fun c hc e => absurd e (hx c hc)) (fun _ => h0)
theorem rb_xMarkI {post : Int32 → Prop} {x1 x2 x3 : Int32} {r n : Nat} (hr : r < 2) (hJ : wX_mark_30 post x1 f_never (nI C) (nI H) (nI rc) f_status f_bound f_leastTotal a_neighbour a_walls a_placed a_starts a_goals a_rules a_open a_next a_earliest a_solo a_cost a_plan a_since a_done n (x2 + rb_D a_placed a_starts a_goals r x3 x1) (x3 * 4) (nI (r + 1))) : wX_mark_30 post x1 f_never (nI C) (nI H) (nI rc) f_status f_bound f_leastTotal a_neighbour a_walls a_placed a_starts a_goals a_rules a_open a_next a_earliest a_solo a_cost a_plan a_since a_done (n + 1) x2 x3 (nI r) := by
  have s61 : ∀ y, (y + (if a_placed r = 0 then 0 else (if a_goals r = x1 then 2 * x3 else 0)) = x2 + rb_D a_placed a_starts a_goals r x3 x1) → wX_mark_61 post (wX_mark_30 post x1 f_never (nI C) (nI H) (nI rc) f_status f_bound f_leastTotal a_neighbour a_walls a_placed a_starts a_goals a_rules a_open a_next a_earliest a_solo a_cost a_plan a_since a_done n) x1 y x3 (nI r) f_never (nI C) (nI H) (nI rc) f_status f_bound f_leastTotal a_neighbour a_walls a_placed a_starts a_goals a_rules a_open a_next a_earliest a_solo a_cost a_plan a_since a_done := by
    intro y ey
    rw [← ey] at hJ
    unfold wX_mark_61
    rw [nI_clamp (by omega)]
    refine ⟨vp_in_nI (by omega) (by omega), br_c (fun z => ?_) (fun z => ⟨vp_in_nI (by omega) (by omega), br_c (fun z2 => ?_) (fun z2 => ?_)⟩)⟩
    · rw [if_pos z, Int32.add_zero] at hJ
      exact nm_e (nm_r (nI_1 r) hJ)
    · rw [if_neg z, if_pos z2] at hJ
      exact nm_e (nm_e (nm_r (nI_1 r) hJ))
    · rw [if_neg z, if_neg z2, Int32.add_zero] at hJ
      exact nm_e (nm_r (nI_1 r) hJ)
  unfold rb_D at s61
  refine pk_le 2 r (fun z => by omega) (fun _ => ⟨vp_in_nI (by omega) (by omega), ?_⟩)
  rw [nI_clamp (by omega)]
  refine br_c (fun z => s61 x2 (by rw [if_pos z, if_pos z])) (fun z => ⟨vp_in_nI (by omega) (by omega), br_c (fun z2 => nm_e (s61 (x2 + x3) ?_)) (fun z2 => s61 x2 ?_)⟩)
  · rw [if_neg z, if_neg z, if_pos z2, Int32.add_assoc]
  · rw [if_neg z, if_neg z, if_neg z2, Int32.zero_add]
theorem rb_xMark {post : Int32 → Prop} {c : Nat} (hC : C ≤ 15) (hc : c < C) (hJ : post (rb_mk a_walls a_placed a_starts a_goals c)) : wpX_mark post (f_never, nI C, nI H, nI rc, f_status, f_bound, f_leastTotal, a_neighbour, a_walls, a_placed, a_starts, a_goals, a_rules, a_open, a_next, a_earliest, a_solo, a_cost, a_plan, a_since, a_done) (nI c) := by
  have fin : ∀ v : Int32, v + rb_D a_placed a_starts a_goals 0 2 (nI c) + rb_D a_placed a_starts a_goals 1 8 (nI c) = rb_mk a_walls a_placed a_starts a_goals c → ∃ n30 : Nat, wX_mark_30 post (nI c) f_never (nI C) (nI H) (nI rc) f_status f_bound f_leastTotal a_neighbour a_walls a_placed a_starts a_goals a_rules a_open a_next a_earliest a_solo a_cost a_plan a_since a_done n30 v 2 0 := by
    intro v ev
    refine ⟨3, rb_xMarkI (r := 0) (by omega) (rb_xMarkI (r := 1) (by omega) ?_)⟩
    refine pk_le 2 2 (fun _ => ?_) (fun z => by omega)
    have e8 : (2 : Int32) * 4 = 8 := by decide
    rw [e8, ev]
    exact hJ
  unfold rb_mk at fin
  unfold wpX_mark
  refine rb_xIsCy hC hc (br_f (by decide) ⟨vp_in_nI (by omega) (by omega), ?_⟩)
  rw [nI_clamp (by omega)]
  exact br_c (fun z => fin 0 (by rw [if_pos z])) (fun z => fin 1 (by rw [if_neg z]))
theorem rb_xMarkN {post : Int32 → Prop} {x : Int32} (hC : C ≤ 15) (hx : ∀ c, c < C → x ≠ nI c) (hJ : post (-1)) : wpX_mark post (f_never, nI C, nI H, nI rc, f_status, f_bound, f_leastTotal, a_neighbour, a_walls, a_placed, a_starts, a_goals, a_rules, a_open, a_next, a_earliest, a_solo, a_cost, a_plan, a_since, a_done) x := by
  unfold wpX_mark
  exact rb_xIsCn hC hx (br_t rfl hJ)
theorem rb_xWall {post : Int32 → SX → Prop} {c : Nat} (hC : C ≤ 15) (hc : c < C) (h2 : ¬ rb_mk a_walls a_placed a_starts a_goals c ≤ 1 → post (-2) (f_never, nI C, nI H, nI rc, f_status, f_bound, f_leastTotal, a_neighbour, a_walls, a_placed, a_starts, a_goals, a_rules, a_open, a_next, a_earliest, a_solo, a_cost, a_plan, a_since, a_done))
    (h0 : rb_mk a_walls a_placed a_starts a_goals c ≤ 1 → post 0 (f_never, nI C, nI H, nI rc, 0, (-1), f_leastTotal, a_neighbour, upd a_walls c (if a_walls c = 0 then 1 else 0), a_placed, a_starts, a_goals, a_rules, a_open, a_next, a_earliest, a_solo, a_cost, a_plan, a_since, a_done)) : wpX_wall post (f_never, nI C, nI H, nI rc, f_status, f_bound, f_leastTotal, a_neighbour, a_walls, a_placed, a_starts, a_goals, a_rules, a_open, a_next, a_earliest, a_solo, a_cost, a_plan, a_since, a_done) (nI c) := by
  unfold wpX_wall
  refine rb_xIsCy hC hc (br_f (by decide) (rb_xMark hC hc (br_c (fun z => ⟨vp_in_nI (by omega) (by omega), ?_⟩) h2)))
  have h := h0 z
  have go : ∀ v : Int32, vp_nar .boolean v = (if a_walls c = 0 then 1 else 0) → wX_wall_41 post v (nI c) f_never (nI C) (nI H) (nI rc) f_status f_bound f_leastTotal a_neighbour a_walls a_placed a_starts a_goals a_rules a_open a_next a_earliest a_solo a_cost a_plan a_since a_done := by
    intro v ev
    unfold wX_wall_41
    rw [nI_clamp (by omega), ev]
    exact ⟨vp_in_nI (by omega) (by omega), nm_e h⟩
  rw [nI_clamp (by omega)]
  exact br_c (fun z => go 1 (by rw [if_pos z]; rfl)) (fun z => go 0 (by rw [if_neg z]; rfl))
theorem rb_xWallN {post : Int32 → SX → Prop} {x : Int32} (hC : C ≤ 15) (hx : ∀ c, c < C → x ≠ nI c) (hJ : post (-1) (f_never, nI C, nI H, nI rc, f_status, f_bound, f_leastTotal, a_neighbour, a_walls, a_placed, a_starts, a_goals, a_rules, a_open, a_next, a_earliest, a_solo, a_cost, a_plan, a_since, a_done)) : wpX_wall post (f_never, nI C, nI H, nI rc, f_status, f_bound, f_leastTotal, a_neighbour, a_walls, a_placed, a_starts, a_goals, a_rules, a_open, a_next, a_earliest, a_solo, a_cost, a_plan, a_since, a_done) x := by
  unfold wpX_wall
  exact rb_xIsCn hC hx (br_t rfl hJ)
theorem rb_xPlace {post : Int32 → SX → Prop} {r a b : Nat} (hC : C ≤ 15) (hr : r < 2) (ha : a < C) (hb : b < C) (h2 : rb_tk a_walls a_placed a_starts a_goals r a b → post (-2) (f_never, nI C, nI H, nI rc, f_status, f_bound, f_leastTotal, a_neighbour, a_walls, a_placed, a_starts, a_goals, a_rules, a_open, a_next, a_earliest, a_solo, a_cost, a_plan, a_since, a_done))
    (h0 : ¬ rb_tk a_walls a_placed a_starts a_goals r a b → post 0 (f_never, nI C, nI H, nI rc, 0, (-1), f_leastTotal, a_neighbour, a_walls, upd a_placed r 1, upd a_starts r (nI a), upd a_goals r (nI b), a_rules, a_open, a_next, a_earliest, a_solo, a_cost, a_plan, a_since, a_done)) : wpX_place post (f_never, nI C, nI H, nI rc, f_status, f_bound, f_leastTotal, a_neighbour, a_walls, a_placed, a_starts, a_goals, a_rules, a_open, a_next, a_earliest, a_solo, a_cost, a_plan, a_since, a_done) (nI r) (nI a) (nI b) := by
  unfold wpX_place
  refine rb_xIsR hr (br_f (by decide) (rb_xIsCy hC ha (br_f (by decide) (rb_xIsCy hC hb (br_f (by decide) ⟨vp_in_nI (by omega) (by omega), ?_⟩)))))
  have e1 : (1 : Int32) - nI r = nI (1 - r) := pk_sub (a := 1) (by omega)
  have go : ¬ rb_tk a_walls a_placed a_starts a_goals r a b → wX_place_87 post (nI r) (nI a) (nI b) f_never (nI C) (nI H) (nI rc) f_status f_bound f_leastTotal a_neighbour a_walls a_placed a_starts a_goals a_rules a_open a_next a_earliest a_solo a_cost a_plan a_since a_done := by
    intro z
    have h := h0 z
    unfold wX_place_87
    rw [nI_clamp (by omega), rb_b1]
    exact ⟨vp_in_nI (by omega) (by omega), nm_e ⟨vp_in_nI (by omega) (by omega), nm_e ⟨vp_in_nI (by omega) (by omega), nm_e h⟩⟩⟩
  rw [nI_clamp (show a < 2 ^ 31 by omega), nI_clamp (show b < 2 ^ 31 by omega)]
  refine br_c (fun z1 => ⟨vp_in_nI (by omega) (by omega), br_c (fun z2 => nm_r e1 ⟨vp_in_nI (by omega) (by omega), ?_⟩) (fun z2 => h2 (Or.inr (Or.inl z2)))⟩) (fun z1 => h2 (Or.inl z1))
  rw [nI_clamp (show 1 - r < 2 ^ 31 by omega)]
  refine br_c (fun z3 => go fun k => ?_) (fun z3 => ⟨vp_in_nI (by omega) (by omega), br_c (fun z4 => h2 (Or.inr (Or.inr ⟨z3, Or.inl z4⟩))) (fun z4 => ⟨vp_in_nI (by omega) (by omega), br_c (fun z5 => h2 (Or.inr (Or.inr ⟨z3, Or.inr z5⟩))) (fun z5 => go fun k => ?_)⟩)⟩)
  · rcases k with k | k | k
    · exact k z1
    · exact k z2
    · exact k.1 z3
  · rcases k with k | k | ⟨k, k | k⟩
    · exact k z1
    · exact k z2
    · exact z4 k
    · exact z5 k
theorem rb_xAdd {post : Int32 → SX → Prop} {x : Int32} (hrc : rc ≤ 8) (h2 : rb_HR a_rules rc x → post (-2) (f_never, nI C, nI H, nI rc, f_status, f_bound, f_leastTotal, a_neighbour, a_walls, a_placed, a_starts, a_goals, a_rules, a_open, a_next, a_earliest, a_solo, a_cost, a_plan, a_since, a_done)) (h3 : ¬ rb_HR a_rules rc x → rc = 8 → post (-3) (f_never, nI C, nI H, nI rc, f_status, f_bound, f_leastTotal, a_neighbour, a_walls, a_placed, a_starts, a_goals, a_rules, a_open, a_next, a_earliest, a_solo, a_cost, a_plan, a_since, a_done))
    (h0 : ¬ rb_HR a_rules rc x → rc < 8 → post 0 (f_never, nI C, nI H, nI (rc + 1), 0, (-1), f_leastTotal, a_neighbour, a_walls, a_placed, a_starts, a_goals, upd a_rules rc x, a_open, a_next, a_earliest, a_solo, a_cost, a_plan, a_since, a_done)) : wpX_addRule post (f_never, nI C, nI H, nI rc, f_status, f_bound, f_leastTotal, a_neighbour, a_walls, a_placed, a_starts, a_goals, a_rules, a_open, a_next, a_earliest, a_solo, a_cost, a_plan, a_since, a_done) x := by
  unfold wpX_addRule
  refine rb_xHas hrc (fun z => br_f (by decide) (h2 z)) (fun z => br_t rfl (pk_lt rc 8 (fun z2 => ⟨vp_in_nI (by omega) (by omega), ?_⟩) (fun z2 => h3 z (by omega))))
  rw [nI_clamp (by omega)]
  exact nm_e (nm_r (nI_1 rc) (h0 z z2))
end
section
variable {f_status f_bound : Int32} {a_walls a_placed a_dead a_start a_goal a_done a_rules a_path a_codes a_kept a_lone : Nat → Int32} {w h C H rc : Nat} {g s : Nat → Nat}
theorem rb_yIsCx {post : Int32 → Prop} {x : Int32} (eC : w * h = C) (hC : C ≤ 15) (hx : ∀ c, c < C → x ≠ nI c) (h0 : post 0) : wpY_isCell post (nI w, nI h, nI H, nI rc, f_status, f_bound, a_walls, a_placed, a_dead, a_start, a_goal, a_done, a_rules, a_path, a_codes, a_kept, a_lone) x :=
  rb_yIsC eC hC (fun c hc e => absurd e (hx c hc)) (fun _ => h0)
theorem rb_yMark {post : Int32 → Prop} {c : Nat} (eC : w * h = C) (hC : C ≤ 15) (hc : c < C) (hJ : post (rb_mk a_walls a_placed a_start a_goal c)) : wpY_mark post (nI w, nI h, nI H, nI rc, f_status, f_bound, a_walls, a_placed, a_dead, a_start, a_goal, a_done, a_rules, a_path, a_codes, a_kept, a_lone) (nI c) := by
  unfold rb_mk at hJ
  have s101 : ∀ y z, y = rb_D a_placed a_start a_goal 0 2 (nI c) → z = rb_D a_placed a_start a_goal 1 8 (nI c) → wY_mark_101 post (nI c) y z (nI w) (nI h) (nI H) (nI rc) f_status f_bound a_walls a_placed a_dead a_start a_goal a_done a_rules a_path a_codes a_kept a_lone := by
    intro y z e1 e2
    subst e1 e2
    unfold wY_mark_101
    rw [nI_clamp (by omega)]
    refine ⟨vp_in_nI (by omega) (by omega), br_c (fun k => ?_) (fun k => ?_)⟩
    · rw [if_pos k] at hJ; exact hJ
    · rw [if_neg k] at hJ; exact hJ
  have s54 : ∀ y, y = rb_D a_placed a_start a_goal 0 2 (nI c) → wY_mark_54 post (nI c) y (nI w) (nI h) (nI H) (nI rc) f_status f_bound a_walls a_placed a_dead a_start a_goal a_done a_rules a_path a_codes a_kept a_lone := by
    intro y e1
    unfold rb_D at s101
    refine br_c (fun k => s101 y 0 e1 (by rw [if_pos k])) (fun k => ?_)
    have s80 : ∀ v : Int32, v = (if a_start 1 = nI c then 8 else 0) → wY_mark_80 post (nI c) y v (nI w) (nI h) (nI H) (nI rc) f_status f_bound a_walls a_placed a_dead a_start a_goal a_done a_rules a_path a_codes a_kept a_lone := by
      intro v ev
      refine br_c (fun k2 => s101 y _ e1 ?_) (fun k2 => s101 y _ e1 ?_)
      · rw [if_neg k, if_pos k2, ev]; rfl
      · rw [if_neg k, if_neg k2, ev]
    exact br_c (fun k2 => s80 8 (by rw [if_pos k2])) (fun k2 => s80 0 (by rw [if_neg k2]))
  unfold wpY_mark
  refine rb_yIsCy eC hC hc (br_f (by decide) (br_c (fun k => s54 0 (by unfold rb_D; rw [if_pos k])) (fun k => ?_)))
  have s34 : ∀ v : Int32, v = (if a_start 0 = nI c then 2 else 0) → wY_mark_34 post (nI c) v (nI w) (nI h) (nI H) (nI rc) f_status f_bound a_walls a_placed a_dead a_start a_goal a_done a_rules a_path a_codes a_kept a_lone := by
    intro v ev
    refine br_c (fun k2 => s54 _ ?_) (fun k2 => s54 _ ?_)
    · unfold rb_D; rw [if_neg k, if_pos k2, ev]; rfl
    · unfold rb_D; rw [if_neg k, if_neg k2, ev]
  exact br_c (fun k2 => s34 2 (by rw [if_pos k2])) (fun k2 => s34 0 (by rw [if_neg k2]))
theorem rb_yMarkN {post : Int32 → Prop} {x : Int32} (eC : w * h = C) (hC : C ≤ 15) (hx : ∀ c, c < C → x ≠ nI c) (hJ : post (-1)) : wpY_mark post (nI w, nI h, nI H, nI rc, f_status, f_bound, a_walls, a_placed, a_dead, a_start, a_goal, a_done, a_rules, a_path, a_codes, a_kept, a_lone) x := by
  unfold wpY_mark
  exact rb_yIsCx eC hC hx (br_t rfl hJ)
theorem rb_yWall {post : Int32 → SY → Prop} {c : Nat} (eC : w * h = C) (hC : C ≤ 15) (hc : c < C) (h2 : ¬ rb_mk a_walls a_placed a_start a_goal c ≤ 1 → post (-2) (nI w, nI h, nI H, nI rc, f_status, f_bound, a_walls, a_placed, a_dead, a_start, a_goal, a_done, a_rules, a_path, a_codes, a_kept, a_lone))
    (h0 : rb_mk a_walls a_placed a_start a_goal c ≤ 1 → post 0 (nI w, nI h, nI H, nI rc, 0, (-1), upd a_walls c (if a_walls c = 0 then 1 else 0), a_placed, a_dead, a_start, a_goal, a_done, a_rules, a_path, a_codes, a_kept, a_lone)) : wpY_wall post (nI w, nI h, nI H, nI rc, f_status, f_bound, a_walls, a_placed, a_dead, a_start, a_goal, a_done, a_rules, a_path, a_codes, a_kept, a_lone) (nI c) := by
  unfold wpY_wall
  refine rb_yIsCy eC hC hc (br_f (by decide) (rb_yMark eC hC hc (br_c (fun z => ⟨vp_in_nI (by omega) (by omega), ?_⟩) h2)))
  have hh := h0 z
  have go : ∀ v : Int32, vp_nar .boolean v = (if a_walls c = 0 then 1 else 0) → wY_wall_41 post v (nI c) (nI w) (nI h) (nI H) (nI rc) f_status f_bound a_walls a_placed a_dead a_start a_goal a_done a_rules a_path a_codes a_kept a_lone := by
    intro v ev
    unfold wY_wall_41
    rw [nI_clamp (by omega), ev]
    exact ⟨vp_in_nI (by omega) (by omega), nm_e hh⟩
  rw [nI_clamp (by omega)]
  exact br_c (fun z => go 1 (by rw [if_pos z]; rfl)) (fun z => go 0 (by rw [if_neg z]; rfl))
theorem rb_yWallN {post : Int32 → SY → Prop} {x : Int32} (eC : w * h = C) (hC : C ≤ 15) (hx : ∀ c, c < C → x ≠ nI c) (hJ : post (-1) (nI w, nI h, nI H, nI rc, f_status, f_bound, a_walls, a_placed, a_dead, a_start, a_goal, a_done, a_rules, a_path, a_codes, a_kept, a_lone)) : wpY_wall post (nI w, nI h, nI H, nI rc, f_status, f_bound, a_walls, a_placed, a_dead, a_start, a_goal, a_done, a_rules, a_path, a_codes, a_kept, a_lone) x := by
  unfold wpY_wall
  exact rb_yIsCx eC hC hx (br_t rfl hJ)
theorem rb_yPlace {post : Int32 → SY → Prop} {r a b : Nat} (eC : w * h = C) (hC : C ≤ 15) (hr : r < 2) (ha : a < C) (hb : b < C) (h2 : rb_tk a_walls a_placed a_start a_goal r a b → post (-2) (nI w, nI h, nI H, nI rc, f_status, f_bound, a_walls, a_placed, a_dead, a_start, a_goal, a_done, a_rules, a_path, a_codes, a_kept, a_lone))
    (h0 : ¬ rb_tk a_walls a_placed a_start a_goal r a b → post 0 (nI w, nI h, nI H, nI rc, 0, (-1), a_walls, upd a_placed r 1, a_dead, upd a_start r (nI a), upd a_goal r (nI b), a_done, a_rules, a_path, a_codes, a_kept, a_lone)) : wpY_place post (nI w, nI h, nI H, nI rc, f_status, f_bound, a_walls, a_placed, a_dead, a_start, a_goal, a_done, a_rules, a_path, a_codes, a_kept, a_lone) (nI r) (nI a) (nI b) := by
  unfold wpY_place
  refine rb_yIsR hr (br_f (by decide) (rb_yIsCy eC hC ha (br_f (by decide) (rb_yIsCy eC hC hb (br_f (by decide) ⟨vp_in_nI (by omega) (by omega), ?_⟩)))))
  have e1 : (1 : Int32) - nI r = nI (1 - r) := pk_sub (a := 1) (by omega)
  have go : ¬ rb_tk a_walls a_placed a_start a_goal r a b → wY_place_85 post (nI r) (nI a) (nI b) (nI w) (nI h) (nI H) (nI rc) f_status f_bound a_walls a_placed a_dead a_start a_goal a_done a_rules a_path a_codes a_kept a_lone := by
    intro z
    have hh := h0 z
    unfold wY_place_85
    rw [nI_clamp (by omega), rb_b1]
    exact ⟨vp_in_nI (by omega) (by omega), nm_e ⟨vp_in_nI (by omega) (by omega), nm_e ⟨vp_in_nI (by omega) (by omega), nm_e hh⟩⟩⟩
  rw [e1, nI_clamp (show a < 2 ^ 31 by omega), nI_clamp (show b < 2 ^ 31 by omega), nI_clamp (show 1 - r < 2 ^ 31 by omega)]
  refine br_c (fun z1 => ⟨vp_in_nI (by omega) (by omega), br_c (fun z2 => ⟨vp_in_nI (by omega) (by omega), ?_⟩) (fun z2 => h2 (Or.inr (Or.inl z2)))⟩) (fun z1 => h2 (Or.inl z1))
  refine br_c (fun z3 => go fun k => ?_) (fun z3 => ⟨vp_in_nI (by omega) (by omega), br_c (fun z4 => h2 (Or.inr (Or.inr ⟨z3, Or.inl z4⟩))) (fun z4 => ⟨vp_in_nI (by omega) (by omega), br_c (fun z5 => h2 (Or.inr (Or.inr ⟨z3, Or.inr z5⟩))) (fun z5 => go fun k => ?_)⟩)⟩)
  · rcases k with k | k | k
    · exact k z1
    · exact k z2
    · exact k.1 z3
  · rcases k with k | k | ⟨k, k | k⟩
    · exact k z1
    · exact k z2
    · exact z4 k
    · exact z5 k
theorem rb_yAdd {post : Int32 → SY → Prop} {r c d t : Nat} (hrc : rc ≤ 8) (h2 : rb_HR a_rules rc (nI (rb_cd r c d t)) → post (-2) (nI w, nI h, nI H, nI rc, f_status, f_bound, a_walls, a_placed, a_dead, a_start, a_goal, a_done, a_rules, a_path, a_codes, a_kept, a_lone)) (h3 : ¬ rb_HR a_rules rc (nI (rb_cd r c d t)) → rc = 8 → post (-3) (nI w, nI h, nI H, nI rc, f_status, f_bound, a_walls, a_placed, a_dead, a_start, a_goal, a_done, a_rules, a_path, a_codes, a_kept, a_lone))
    (h0 : ¬ rb_HR a_rules rc (nI (rb_cd r c d t)) → rc < 8 → post 0 (nI w, nI h, nI H, nI (rc + 1), 0, (-1), a_walls, a_placed, a_dead, a_start, a_goal, a_done, upd a_rules rc (nI (rb_cd r c d t)), a_path, a_codes, a_kept, a_lone)) : wpY_addRule post (nI w, nI h, nI H, nI rc, f_status, f_bound, a_walls, a_placed, a_dead, a_start, a_goal, a_done, a_rules, a_path, a_codes, a_kept, a_lone) (nI r) (nI c) (nI d) (nI t) := by
  unfold wpY_addRule
  refine rb_yHas hrc (fun z => br_f (by decide) (h2 z)) (fun z => br_t rfl (pk_lt rc 8 (fun z2 => nm_r (nI_1 rc) ⟨vp_in_nI (by omega) (by omega), ?_⟩) (fun z2 => h3 z (by omega))))
  rw [nI_clamp (by omega), rb_code]
  exact nm_e (h0 z z2)
end
end
section
/-! the relation -/
/-- what always holds -/
def rb_BS (a_neighbour a_placed a_starts a_goals : Nat → Int32) (w h C H rc : Nat) (s g : Nat → Nat) : Prop :=
  w * h = C ∧ 1 ≤ w ∧ w ≤ 5 ∧ C ≤ 15 ∧ 1 ≤ H ∧ H ≤ 12 ∧ rc ≤ 8 ∧ (∀ r, r < 2 → g r < C ∧ a_goals r = nI (g r)) ∧ (∀ r, r < 2 → s r < C ∧ a_starts r = nI (s r)) ∧
  (∀ c d, c < C → d < 5 → rb_NB w C a_neighbour c d) ∧ (a_placed 0 ≠ 0 → a_placed 1 ≠ 0 → s 0 ≠ s 1)
/-- while searching -/
def rb_SR (f_bound f_leastTotal : Int32) (a_walls a_placed a_rules a_next a_cost : Nat → Int32) (w C H rc : Nat) (s g : Nat → Nat) : Prop :=
  a_placed 0 ≠ 0 ∧ a_placed 1 ≠ 0 ∧ ∃ B L, f_bound = nI B ∧ f_leastTotal = nI L ∧ L ≤ 1000 ∧ B ≤ L ∧ B ≤ 2 * H ∧
  (∀ y, y < 1000 → (L ≤ y ↔ rb_KS (rb_mv a_walls a_rules rc w C) (rb_Op a_walls a_rules rc C) g H 0 (s 0) (s 1) False False y)) ∧
  (∀ r t c d, r < 2 → t < H → c < C → d < 5 → rb_NT (rb_mv a_walls a_rules rc w C) a_next r t c d) ∧
  (∀ t a b f, t ≤ H → a < C → b < C → f < 4 → rb_CT (rb_mv a_walls a_rules rc w C) (rb_Op a_walls a_rules rc C) g H a_cost t a b f) ∧
  rb_Op a_walls a_rules rc C 0 0 (s 0) ∧ rb_Op a_walls a_rules rc C 1 0 (s 1)
/-- while a plan is kept -/
def rb_FD (a_plan a_done b_kept b_done : Nat → Int32) (w C H : Nat) (s : Nat → Nat) : Prop :=
  ∃ (kt pc pd : Nat → Nat) (d0 d1 : Nat), (∀ i, i < H → b_kept i = nI (kt i) ∧ kt i < 25) ∧ pc 0 = s 0 ∧ pd 0 = s 1 ∧
  (∀ i, i < H → rb_tg w C (pc i) (kt i / 5) = some (pc (i + 1)) ∧ rb_tg w C (pd i) (kt i % 5) = some (pd (i + 1))) ∧
  (∀ j, j ≤ H → a_plan j = nI (pc j) ∧ a_plan (13 + j) = nI (pd j) ∧ pc j < C ∧ pd j < C) ∧
  d0 ≤ H ∧ d1 ≤ H ∧ a_done 0 = nI d0 ∧ a_done 1 = nI d1 ∧ b_done 0 = nI d0 ∧ b_done 1 = nI d1
def rb_SS (f_status f_bound f_leastTotal : Int32) (a_walls a_placed a_rules a_next a_cost a_plan a_done b_kept b_done : Nat → Int32) (w C H rc : Nat) (s g : Nat → Nat) : Prop :=
  (f_status = 0 ∧ f_bound = -1) ∨ (f_status = 1 ∧ rb_SR f_bound f_leastTotal a_walls a_placed a_rules a_next a_cost w C H rc s g) ∨ (f_status = 2 ∧ rb_FD a_plan a_done b_kept b_done w C H s) ∨ f_status = 3
/-- the relation at the head of a turn whose first cell is k -/
def i_Rel (k : Nat) (u : SX) (v : SY) : Prop :=
  ∃ (f_never f_status f_bound f_leastTotal : Int32) (a_neighbour a_walls a_placed a_starts a_goals a_rules a_open a_next a_earliest a_solo a_cost a_plan a_since a_done b_dead b_done b_path b_codes b_kept b_lone : Nat → Int32) (w h C H rc : Nat) (s g : Nat → Nat),
    u = (f_never, nI C, nI H, nI rc, f_status, f_bound, f_leastTotal, a_neighbour, a_walls, a_placed, a_starts, a_goals, a_rules, a_open, a_next, a_earliest, a_solo, a_cost, a_plan, a_since, a_done) ∧ v = (nI w, nI h, nI H, nI rc, f_status, f_bound, a_walls, a_placed, b_dead, a_starts, a_goals, b_done, a_rules, b_path, b_codes, b_kept, b_lone) ∧ rb_BS a_neighbour a_placed a_starts a_goals w h C H rc s g ∧ rb_SS f_status f_bound f_leastTotal a_walls a_placed a_rules a_next a_cost a_plan a_done b_kept b_done w C H rc s g
theorem i_up {k : Nat} {u : SX} {v : SY} (h : i_Rel k u v) : i_Rel (k + 5) u v := h
theorem rb_el {P : SX → SY → Prop} {k : Nat} {u : SX} {v : SY} (hP : ∀ (f_never f_status f_bound f_leastTotal : Int32) (a_neighbour a_walls a_placed a_starts a_goals a_rules a_open a_next a_earliest a_solo a_cost a_plan a_since a_done b_dead b_done b_path b_codes b_kept b_lone : Nat → Int32) (w h C H rc : Nat) (s g : Nat → Nat),
    rb_BS a_neighbour a_placed a_starts a_goals w h C H rc s g → rb_SS f_status f_bound f_leastTotal a_walls a_placed a_rules a_next a_cost a_plan a_done b_kept b_done w C H rc s g → P (f_never, nI C, nI H, nI rc, f_status, f_bound, f_leastTotal, a_neighbour, a_walls, a_placed, a_starts, a_goals, a_rules, a_open, a_next, a_earliest, a_solo, a_cost, a_plan, a_since, a_done) (nI w, nI h, nI H, nI rc, f_status, f_bound, a_walls, a_placed, b_dead, a_starts, a_goals, b_done, a_rules, b_path, b_codes, b_kept, b_lone)) (I : i_Rel k u v) : P u v :=
  Exists.elim I fun f_never I => Exists.elim I fun f_status I => Exists.elim I fun f_bound I => Exists.elim I fun f_leastTotal I =>
  Exists.elim I fun a_neighbour I => Exists.elim I fun a_walls I => Exists.elim I fun a_placed I => Exists.elim I fun a_starts I => Exists.elim I fun a_goals I => Exists.elim I fun a_rules I => Exists.elim I fun a_open I => Exists.elim I fun a_next I => Exists.elim I fun a_earliest I => Exists.elim I fun a_solo I => Exists.elim I fun a_cost I => Exists.elim I fun a_plan I => Exists.elim I fun a_since I => Exists.elim I fun a_done I =>
  Exists.elim I fun b_dead I => Exists.elim I fun b_done I => Exists.elim I fun b_path I => Exists.elim I fun b_codes I => Exists.elim I fun b_kept I => Exists.elim I fun b_lone I =>
  Exists.elim I fun w I => Exists.elim I fun h I => Exists.elim I fun C I => Exists.elim I fun H I => Exists.elim I fun rc I => Exists.elim I fun s I => Exists.elim I fun g I =>
    I.1.symm ▸ I.2.1.symm ▸ hP f_never f_status f_bound f_leastTotal a_neighbour a_walls a_placed a_starts a_goals a_rules a_open a_next a_earliest a_solo a_cost a_plan a_since a_done b_dead b_done b_path b_codes b_kept b_lone w h C H rc s g I.2.2.1 I.2.2.2
theorem rb_mk_Rel {k : Nat} {f_never f_status f_bound f_leastTotal : Int32} {a_neighbour a_walls a_placed a_starts a_goals a_rules a_open a_next a_earliest a_solo a_cost a_plan a_since a_done b_dead b_done b_path b_codes b_kept b_lone : Nat → Int32} {w h C H rc : Nat} {s g : Nat → Nat}
    (h1 : rb_BS a_neighbour a_placed a_starts a_goals w h C H rc s g) (h2 : rb_SS f_status f_bound f_leastTotal a_walls a_placed a_rules a_next a_cost a_plan a_done b_kept b_done w C H rc s g) : i_Rel k (f_never, nI C, nI H, nI rc, f_status, f_bound, f_leastTotal, a_neighbour, a_walls, a_placed, a_starts, a_goals, a_rules, a_open, a_next, a_earliest, a_solo, a_cost, a_plan, a_since, a_done) (nI w, nI h, nI H, nI rc, f_status, f_bound, a_walls, a_placed, b_dead, a_starts, a_goals, b_done, a_rules, b_path, b_codes, b_kept, b_lone) :=
  ⟨f_never, f_status, f_bound, f_leastTotal, a_neighbour, a_walls, a_placed, a_starts, a_goals, a_rules, a_open, a_next, a_earliest, a_solo, a_cost, a_plan, a_since, a_done, b_dead, b_done, b_path, b_codes, b_kept, b_lone, w, h, C, H, rc, s, g, rfl, rfl, h1, h2⟩
end
section
/-! the constructors -/
def rb_oi (o : Option Nat) : Int32 := match o with
  | none => -1
  | some c => nI c
theorem rb_NB_oi {w C c d : Nat} {a : Nat → Int32} (h : a (c * 5 + d) = rb_oi (rb_tg w C c d)) : rb_NB w C a c d := by
  unfold rb_NB
  cases e : rb_tg w C c d with
  | none => rw [e] at h; exact Or.inl ⟨rfl, h⟩
  | some c' => rw [e] at h; exact Or.inr ⟨c', rfl, h⟩
theorem rb_row_cl {w row col : Nat} (hr : row < 3) (hc : col < w) : rb_cl w (row * w + col) = col := by
  have h : row = 0 ∨ row = 1 ∨ row = 2 := by omega
  unfold rb_cl
  rcases h with rfl | rfl | rfl
  · rw [if_neg (by omega), if_neg (by omega)]; omega
  · rw [if_neg (by omega), if_pos (by omega)]; omega
  · rw [if_pos (by omega)]; omega
/-- the rows' arithmetic, once for all -/
theorem rb_row {w h C row col : Nat} (eC : w * h = C) (hw : 1 ≤ w) (hh : h ≤ 3) (hr : row < h) (hc : col < w) :
    row * w + col < C ∧ (0 < row → w ≤ row * w + col) ∧ (row = 0 → row * w + col < w) ∧ (col + 1 < w → row * w + col + 1 < C) ∧ (row + 1 < h ↔ row * w + col + w < C) ∧ (row * w ≤ 2 * w) := by
  have h1 : h = 1 ∨ h = 2 ∨ h = 3 := by omega
  have h2 : row = 0 ∨ row = 1 ∨ row = 2 := by omega
  rcases h1 with rfl | rfl | rfl <;> rcases h2 with rfl | rfl | rfl <;> (first | omega | (refine ⟨?_, ?_, ?_, ?_, ?_, ?_⟩ <;> omega))
theorem rb_tg1 {w h C row col : Nat} (eC : w * h = C) (hw : 1 ≤ w) (hh : h ≤ 3) (hr : row < h) (hc : col < w) : rb_oi (rb_tg w C (row * w + col) 1) = if 0 < row then nI (row * w + col - w) else -1 := by
  have k := rb_row eC hw hh hr hc
  by_cases z : 0 < row
  · have := k.2.1 z
    rw [if_pos z]; simp [rb_tg, this, rb_oi]
  · have : ¬ w ≤ row * w + col := by have := k.2.2.1 (by omega); omega
    rw [if_neg z]; simp [rb_tg, this, rb_oi]
theorem rb_tg2 {w h C row col : Nat} (eC : w * h = C) (hw : 1 ≤ w) (hh : h ≤ 3) (hr : row < h) (hc : col < w) : rb_oi (rb_tg w C (row * w + col) 2) = if col + 1 < w then nI (row * w + col + 1) else -1 := by
  have k := rb_row eC hw hh hr hc
  have e := rb_row_cl (w := w) (row := row) (col := col) (by omega) hc
  by_cases z : col + 1 < w
  · have k2 := k.2.2.2.1 z
    have k3 : ¬ col + 1 = w := by omega
    rw [if_pos z]; simp [rb_tg, e, k2, k3, rb_oi]
  · have k3 : col + 1 = w := by omega
    rw [if_neg z]; simp [rb_tg, e, k3, rb_oi]
theorem rb_tg3 {w h C row col : Nat} (eC : w * h = C) (hw : 1 ≤ w) (hh : h ≤ 3) (hr : row < h) (hc : col < w) : rb_oi (rb_tg w C (row * w + col) 3) = if row + 1 < h then nI (row * w + col + w) else -1 := by
  have k := rb_row eC hw hh hr hc
  by_cases z : row + 1 < h
  · have k2 := k.2.2.2.2.1.mp z
    rw [if_pos z]; simp [rb_tg, k2, rb_oi]
  · have k2 : ¬ row * w + col + w < C := fun y => z (k.2.2.2.2.1.mpr y)
    rw [if_neg z]; simp [rb_tg, k2, rb_oi]
theorem rb_tg4 {w h C row col : Nat} (eC : w * h = C) (hw : 1 ≤ w) (hh : h ≤ 3) (hr : row < h) (hc : col < w) : rb_oi (rb_tg w C (row * w + col) 4) = if 0 < col then nI (row * w + col - 1) else -1 := by
  have e := rb_row_cl (w := w) (row := row) (col := col) (by omega) hc
  by_cases z : 0 < col
  · have k2 : 1 ≤ row * w + col := by omega
    have k3 : ¬ col = 0 := by omega
    rw [if_pos z]; simp [rb_tg, e, k2, k3, rb_oi]
  · have e0 : rb_cl w (row * w + col) = 0 := by omega
    rw [if_neg z]; simp [rb_tg, e0, rb_oi]
section
variable {f_never f_status f_bound f_leastTotal : Int32} {a_neighbour a_walls a_placed a_starts a_goals a_rules a_open a_next a_earliest a_solo a_cost a_plan a_since a_done : Nat → Int32} {w h C H rc : Nat}
theorem rb_x108 {post : SX → Prop} {J2 J10 : Int32 → rb_A14} {row col c : Nat} {z0 : Int32} (hc15 : c < 15) (hcol : col ≤ c) (x1 x2 : Int32)
    (hJ : J10 (nI (col + 1)) (upd (upd a_neighbour (c * 5 + 3) z0) (c * 5 + 4) (if 0 < col then nI (c - 1) else -1)) a_walls a_placed a_starts a_goals a_rules a_open a_next a_earliest a_solo a_cost a_plan a_since a_done) :
    wX_buildNeighbours_108 post J2 J10 x1 x2 (nI row) (nI col) (nI c) (nI (c * 5)) z0 (nI (c * 5) + 3) f_never (nI C) (nI H) (nI rc) f_status f_bound f_leastTotal a_neighbour a_walls a_placed a_starts a_goals a_rules a_open a_next a_earliest a_solo a_cost a_plan a_since a_done := by
  have e3 : nI (c * 5) + 3 = nI (c * 5 + 3) := nI_add _ 3
  have e4 : nI (c * 5) + 4 = nI (c * 5 + 4) := nI_add _ 4
  unfold wX_buildNeighbours_108
  rw [e3, e4, nI_clamp (show c * 5 + 3 < 2 ^ 31 by omega), nI_clamp (show c * 5 + 4 < 2 ^ 31 by omega)]
  refine ⟨vp_in_nI (by omega) (by omega), nm_e (pk_le col 0 (fun z => ⟨vp_in_nI (by omega) (by omega), ?_⟩) (fun z => ⟨vp_in_nI (by omega) (by omega), ?_⟩))⟩
  · rw [if_neg (by omega)] at hJ
    exact nm_e (nm_r (nI_1 col) hJ)
  · rw [if_pos z] at hJ
    exact nm_r (congrArg (upd _ _) (pk_sub (b := 1) (by omega))) (nm_r (nI_1 col) hJ)
theorem rb_x84 {post : SX → Prop} {J2 J10 : Int32 → rb_A14} {row col c : Nat} {z0 : Int32} (hc15 : c < 15) (hcol : col ≤ c) (hh : 1 ≤ h) (hh3 : h ≤ 3) (hr : row < 3) (x1 : Int32) (ex1 : x1 = nI w)
    (hJ : J10 (nI (col + 1)) (upd (upd (upd a_neighbour (c * 5 + 2) z0) (c * 5 + 3) (if row + 1 < h then nI (c + w) else -1)) (c * 5 + 4) (if 0 < col then nI (c - 1) else -1)) a_walls a_placed a_starts a_goals a_rules a_open a_next a_earliest a_solo a_cost a_plan a_since a_done) :
    wX_buildNeighbours_84 post J2 J10 x1 (nI h) (nI row) (nI col) (nI c) (nI (c * 5)) z0 (nI (c * 5) + 2) f_never (nI C) (nI H) (nI rc) f_status f_bound f_leastTotal a_neighbour a_walls a_placed a_starts a_goals a_rules a_open a_next a_earliest a_solo a_cost a_plan a_since a_done := by
  have e2 : nI (c * 5) + 2 = nI (c * 5 + 2) := nI_add _ 2
  have eh : nI h - 1 = nI (h - 1) := pk_sub (b := 1) hh
  subst ex1
  unfold wX_buildNeighbours_84
  rw [e2, nI_clamp (show c * 5 + 2 < 2 ^ 31 by omega), nI_add]
  refine ⟨vp_in_nI (by omega) (by omega), nm_e (pk_le (h - 1) row (fun z => ?_) (fun z => ?_) eh)⟩
  · rw [if_neg (by omega)] at hJ
    exact rb_x108 hc15 hcol _ _ hJ
  · rw [if_pos (by omega)] at hJ
    exact rb_x108 hc15 hcol _ _ hJ
theorem rb_x59 {post : SX → Prop} {J2 J10 : Int32 → rb_A14} {row col c : Nat} {z0 : Int32} (hc15 : c < 15) (hcol : col ≤ c) (hw : 1 ≤ w) (hw5 : w ≤ 5) (hh : 1 ≤ h) (hh3 : h ≤ 3) (hr : row < 3)
    (hJ : J10 (nI (col + 1)) (upd (upd (upd (upd a_neighbour (c * 5 + 1) z0) (c * 5 + 2) (if col + 1 < w then nI (c + 1) else -1)) (c * 5 + 3) (if row + 1 < h then nI (c + w) else -1)) (c * 5 + 4) (if 0 < col then nI (c - 1) else -1)) a_walls a_placed a_starts a_goals a_rules a_open a_next a_earliest a_solo a_cost a_plan a_since a_done) :
    wX_buildNeighbours_59 post J2 J10 (nI w) (nI h) (nI row) (nI col) (nI c) (nI (c * 5)) z0 (nI (c * 5) + 1) f_never (nI C) (nI H) (nI rc) f_status f_bound f_leastTotal a_neighbour a_walls a_placed a_starts a_goals a_rules a_open a_next a_earliest a_solo a_cost a_plan a_since a_done := by
  have e1 : nI (c * 5) + 1 = nI (c * 5 + 1) := nI_1 _
  have ew : nI w - 1 = nI (w - 1) := pk_sub (b := 1) hw
  unfold wX_buildNeighbours_59
  rw [e1, nI_clamp (show c * 5 + 1 < 2 ^ 31 by omega), nI_1 c]
  refine ⟨vp_in_nI (by omega) (by omega), nm_e (pk_le (w - 1) col (fun z => ?_) (fun z => ?_) ew)⟩
  · rw [if_neg (by omega)] at hJ
    exact rb_x84 hc15 hcol hh hh3 hr _ rfl hJ
  · rw [if_pos (by omega)] at hJ
    exact rb_x84 hc15 hcol hh hh3 hr _ rfl hJ
theorem rb_x10 {post : SX → Prop} {J2 : Int32 → rb_A14} {row : Nat} (eC : w * h = C) (hC : C ≤ 15) (hw : 1 ≤ w) (hw5 : w ≤ 5) (hh3 : h ≤ 3) (hr : row < h)
    (hJ : ∀ a_neighbour, (∀ c d, c < row * w + w → d < 5 → rb_NB w C a_neighbour c d) → J2 (nI (row + 1)) a_neighbour a_walls a_placed a_starts a_goals a_rules a_open a_next a_earliest a_solo a_cost a_plan a_since a_done) :
    ∀ n col a_neighbour, col ≤ w → w - col < n → (∀ c d, c < row * w + col → d < 5 → rb_NB w C a_neighbour c d) → wX_buildNeighbours_10 post J2 (nI w) (nI h) (nI row) f_never (nI C) (nI H) (nI rc) f_status f_bound f_leastTotal n (nI col) a_neighbour a_walls a_placed a_starts a_goals a_rules a_open a_next a_earliest a_solo a_cost a_plan a_since a_done := by
  intro n
  induction n with
  | zero => intro i _ _ h; omega
  | succ n ih =>
    intro col a_neighbour hcol hn hp
    refine pk_le w col (fun z => nm_r (nI_1 row) (hJ a_neighbour fun c d h1 h2 => hp c d (by omega) h2)) (fun z => ?_)
    have k := rb_row eC hw hh3 hr z
    have ec : nI row * nI w + nI col = nI (row * w + col) := by rw [pk_mul, nI_add]
    refine nm_r ec (nm_r (rb_x5 _) ⟨vp_in_nI (by omega) (by omega), ?_⟩)
    rw [nI_clamp (by omega)]
    have J := ih (col + 1) (upd (upd (upd (upd (upd a_neighbour ((row * w + col) * 5) (nI (row * w + col))) ((row * w + col) * 5 + 1) (if 0 < row then nI (row * w + col - w) else -1)) ((row * w + col) * 5 + 2) (if col + 1 < w then nI (row * w + col + 1) else -1)) ((row * w + col) * 5 + 3) (if row + 1 < h then nI (row * w + col + w) else -1)) ((row * w + col) * 5 + 4) (if 0 < col then nI (row * w + col - 1) else -1)) (by omega) (by omega) (fun c d h1 h2 => ?_)
    · refine nm_e (pk_le row 0 (fun z2 => ?_) (fun z2 => ?_))
      · rw [if_neg (show ¬ 0 < row by omega)] at J
        exact rb_x59 (by omega) (by omega) hw hw5 (by omega) hh3 (by omega) J
      · rw [if_pos z2] at J
        rw [pk_sub (k.2.1 z2)]
        exact rb_x59 (by omega) (by omega) hw hw5 (by omega) hh3 (by omega) J
    · by_cases e : c = row * w + col
      · apply rb_NB_oi
        have h5 : d = 0 ∨ d = 1 ∨ d = 2 ∨ d = 3 ∨ d = 4 := by omega
        rw [e]
        rcases h5 with rfl | rfl | rfl | rfl | rfl
        · rw [pk_un (by omega), pk_un (by omega), pk_un (by omega), pk_un (by omega), Nat.add_zero, pk_us, rb_tg_0]; rfl
        · rw [pk_un (by omega), pk_un (by omega), pk_un (by omega), pk_us, rb_tg1 eC hw hh3 hr z]
        · rw [pk_un (by omega), pk_un (by omega), pk_us, rb_tg2 eC hw hh3 hr z]
        · rw [pk_un (by omega), pk_us, rb_tg3 eC hw hh3 hr z]
        · rw [pk_us, rb_tg4 eC hw hh3 hr z]
      · have q := hp c d (by omega) h2
        unfold rb_NB at q ⊢
        rw [pk_un (by omega), pk_un (by omega), pk_un (by omega), pk_un (by omega), pk_un (by omega)]
        exact q
theorem rb_x2 {post : SX → Prop} (eC : w * h = C) (hC : C ≤ 15) (hw : 1 ≤ w) (hw5 : w ≤ 5) (hh3 : h ≤ 3)
    (hJ : ∀ a_neighbour, (∀ c d, c < C → d < 5 → rb_NB w C a_neighbour c d) → post (f_never, nI C, nI H, nI rc, f_status, f_bound, f_leastTotal, a_neighbour, a_walls, a_placed, a_starts, a_goals, a_rules, a_open, a_next, a_earliest, a_solo, a_cost, a_plan, a_since, a_done)) :
    ∀ n row a_neighbour, row ≤ h → h - row < n → (∀ c d, c < row * w → d < 5 → rb_NB w C a_neighbour c d) → wX_buildNeighbours_2 post (nI w) (nI h) f_never (nI C) (nI H) (nI rc) f_status f_bound f_leastTotal n (nI row) a_neighbour a_walls a_placed a_starts a_goals a_rules a_open a_next a_earliest a_solo a_cost a_plan a_since a_done := by
  intro n
  induction n with
  | zero => intro i _ _ h; omega
  | succ n ih =>
    intro row a_neighbour hrow hn hp
    refine pk_le h row (fun z => hJ a_neighbour fun c d h1 h2 => hp c d ?_ h2) (fun z => ⟨w + 1, ?_⟩)
    · have e : row = h := by omega
      rw [e, Nat.mul_comm]; omega
    · exact rb_x10 eC hC hw hw5 hh3 z (fun a_neighbour hp => ih (row + 1) a_neighbour (by omega) (by omega) fun c d h1 h2 => hp c d (by rw [Nat.succ_mul] at h1; exact h1) h2) (w + 1) 0 a_neighbour (Nat.zero_le _) (by omega) (fun c d h1 h2 => hp c d (by omega) h2)
theorem rb_xBuild {post : SX → Prop} (eC : w * h = C) (hC : C ≤ 15) (hw : 1 ≤ w) (hw5 : w ≤ 5) (hh3 : h ≤ 3)
    (hJ : ∀ a_neighbour, (∀ c d, c < C → d < 5 → rb_NB w C a_neighbour c d) → post (f_never, nI C, nI H, nI rc, f_status, f_bound, f_leastTotal, a_neighbour, a_walls, a_placed, a_starts, a_goals, a_rules, a_open, a_next, a_earliest, a_solo, a_cost, a_plan, a_since, a_done)) : wpX_buildNeighbours post (f_never, nI C, nI H, nI rc, f_status, f_bound, f_leastTotal, a_neighbour, a_walls, a_placed, a_starts, a_goals, a_rules, a_open, a_next, a_earliest, a_solo, a_cost, a_plan, a_since, a_done) (nI w) (nI h) :=
  ⟨h + 1, rb_x2 eC hC hw hw5 hh3 hJ (h + 1) 0 a_neighbour (Nat.zero_le _) (by omega) (fun c d h1 _ => by omega)⟩
end
theorem rb_clamp (p : Int32) (m : Nat) (hm : 1 ≤ m) (hm2 : m < 1000) : ∃ v, 1 ≤ v ∧ v ≤ m ∧ ∀ A : Int32 → Prop, A (nI v) → ((1 ≤ p → ((p ≤ nI m → A p) ∧ (¬ p ≤ nI m → A (nI m)))) ∧ (¬ 1 ≤ p → A 1)) := by
  by_cases h1 : 1 ≤ p
  · by_cases h2 : p ≤ nI m
    · have h0 : ¬ p < 0 := fun k => by
        have := Int32.lt_of_lt_of_le k (by decide : (0 : Int32) ≤ 1)
        exact absurd h1 (Int32.not_le.mpr this)
      obtain ⟨j, hj, rfl⟩ := nI_of h0
      have a1 : 1 ≤ j := (nI_leI (a := 1) (by omega) hj).mp h1
      have a2 : j ≤ m := (nI_leI hj (by omega)).mp h2
      exact ⟨j, a1, a2, fun A hA => br_t h1 (br_t h2 hA)⟩
    · exact ⟨m, hm, Nat.le_refl m, fun A hA => br_t h1 (br_f h2 hA)⟩
  · exact ⟨1, Nat.le_refl 1, hm, fun A hA => br_f h1 hA⟩
end
section
/-! forbidding: both sides -/
theorem rb_num (x : Int32) {n : Nat} (hn : n < 2 ^ 31) : (∃ j, j < n ∧ x = nI j) ∨ ((∀ j, j < n → x ≠ nI j) ∧ (x < 0 ∨ (¬ x < 0 ∧ nI n ≤ x))) := by
  rcases pk_ix x hn with h | h | h
  · exact Or.inr ⟨fun j hj e => nI_pos (n := j) (by omega) (e ▸ h), Or.inl h⟩
  · refine Or.inr ⟨fun j hj e => ?_, Or.inr ⟨fun k => ?_, h⟩⟩
    · rw [e, nI_leI hn (by omega)] at h; omega
    · exact absurd (Int32.lt_of_le_of_lt h k) (nI_pos hn)
  · exact Or.inl h
section
variable {f_never f_status f_bound f_leastTotal : Int32} {a_neighbour a_walls a_placed a_starts a_goals a_rules a_open a_next a_earliest a_solo a_cost a_plan a_since a_done : Nat → Int32} {w C H rc : Nat} {g s : Nat → Nat}
theorem rb_xForbidV {post : Int32 → SX → Prop} {r c t : Nat} (hC : C ≤ 15) (hH : H ≤ 12) (hrc : rc ≤ 8) (hr : r < 2) (hc : c < C) (ht : t ≤ H)
    (h2 : rb_HR a_rules rc (nI (rb_cd r c 0 t)) → post (-2) (f_never, nI C, nI H, nI rc, f_status, f_bound, f_leastTotal, a_neighbour, a_walls, a_placed, a_starts, a_goals, a_rules, a_open, a_next, a_earliest, a_solo, a_cost, a_plan, a_since, a_done)) (h3 : ¬ rb_HR a_rules rc (nI (rb_cd r c 0 t)) → rc = 8 → post (-3) (f_never, nI C, nI H, nI rc, f_status, f_bound, f_leastTotal, a_neighbour, a_walls, a_placed, a_starts, a_goals, a_rules, a_open, a_next, a_earliest, a_solo, a_cost, a_plan, a_since, a_done))
    (h0 : ¬ rb_HR a_rules rc (nI (rb_cd r c 0 t)) → rc < 8 → post 0 (f_never, nI C, nI H, nI (rc + 1), 0, (-1), f_leastTotal, a_neighbour, a_walls, a_placed, a_starts, a_goals, upd a_rules rc (nI (rb_cd r c 0 t)), a_open, a_next, a_earliest, a_solo, a_cost, a_plan, a_since, a_done)) : wpX_forbid post (f_never, nI C, nI H, nI rc, f_status, f_bound, f_leastTotal, a_neighbour, a_walls, a_placed, a_starts, a_goals, a_rules, a_open, a_next, a_earliest, a_solo, a_cost, a_plan, a_since, a_done) (nI r) (nI c) (nI t) := by
  unfold wpX_forbid
  exact rb_xIsR hr (br_f (by decide) (rb_xIsCy hC hc (br_f (by decide) (br_f (nI_pos (by omega)) (pk_le t H (fun _ => rb_xEncode (d := 0) (rb_xAdd hrc h2 h3 h0)) (fun z => by omega))))))
theorem rb_xForbidN {post : Int32 → SX → Prop} {p0 p1 p2 : Int32} (hC : C ≤ 15) (hH : H ≤ 12) (hn : ¬ ∃ r c t, r < 2 ∧ c < C ∧ t < H + 1 ∧ p0 = nI r ∧ p1 = nI c ∧ p2 = nI t) (hJ : post (-1) (f_never, nI C, nI H, nI rc, f_status, f_bound, f_leastTotal, a_neighbour, a_walls, a_placed, a_starts, a_goals, a_rules, a_open, a_next, a_earliest, a_solo, a_cost, a_plan, a_since, a_done)) : wpX_forbid post (f_never, nI C, nI H, nI rc, f_status, f_bound, f_leastTotal, a_neighbour, a_walls, a_placed, a_starts, a_goals, a_rules, a_open, a_next, a_earliest, a_solo, a_cost, a_plan, a_since, a_done) p0 p1 p2 := by
  unfold wpX_forbid
  rcases rb_num p0 (n := 2) (by decide) with ⟨r, hr, rfl⟩ | ⟨k, _⟩
  · refine rb_xIsR hr (br_f (by decide) ?_)
    rcases rb_num p1 (n := C) (by omega) with ⟨c, hc, rfl⟩ | ⟨k, _⟩
    · refine rb_xIsCy hC hc (br_f (by decide) ?_)
      rcases rb_num p2 (n := H + 1) (by omega) with ⟨t, ht, rfl⟩ | ⟨k, k2 | k2⟩
      · exact absurd ⟨r, c, t, hr, hc, ht, rfl, rfl, rfl⟩ hn
      · exact br_t k2 hJ
      · refine br_f k2.1 (br_f (fun k3 => ?_) hJ)
        have := Int32.le_trans k2.2 k3
        rw [nI_leI (by omega) (by omega)] at this
        omega
    · exact rb_xIsCn hC k (br_t rfl hJ)
  · exact rb_xNotR (k 0 (by omega)) (k 1 (by omega)) (br_t rfl hJ)
theorem rb_xMoveV {post : Int32 → SX → Prop} {r c d t c' : Nat} (hC : C ≤ 15) (hH : H ≤ 12) (hrc : rc ≤ 8) (hnb : ∀ c d, c < C → d < 5 → rb_NB w C a_neighbour c d) (hr : r < 2) (hc : c < C) (hd1 : 1 ≤ d) (hd : d < 5) (ht : t < H) (hg : rb_tg w C c d = some c')
    (h2 : rb_HR a_rules rc (nI (rb_cd r c d t)) → post (-2) (f_never, nI C, nI H, nI rc, f_status, f_bound, f_leastTotal, a_neighbour, a_walls, a_placed, a_starts, a_goals, a_rules, a_open, a_next, a_earliest, a_solo, a_cost, a_plan, a_since, a_done)) (h3 : ¬ rb_HR a_rules rc (nI (rb_cd r c d t)) → rc = 8 → post (-3) (f_never, nI C, nI H, nI rc, f_status, f_bound, f_leastTotal, a_neighbour, a_walls, a_placed, a_starts, a_goals, a_rules, a_open, a_next, a_earliest, a_solo, a_cost, a_plan, a_since, a_done))
    (h0 : ¬ rb_HR a_rules rc (nI (rb_cd r c d t)) → rc < 8 → post 0 (f_never, nI C, nI H, nI (rc + 1), 0, (-1), f_leastTotal, a_neighbour, a_walls, a_placed, a_starts, a_goals, upd a_rules rc (nI (rb_cd r c d t)), a_open, a_next, a_earliest, a_solo, a_cost, a_plan, a_since, a_done)) : wpX_forbidMove post (f_never, nI C, nI H, nI rc, f_status, f_bound, f_leastTotal, a_neighbour, a_walls, a_placed, a_starts, a_goals, a_rules, a_open, a_next, a_earliest, a_solo, a_cost, a_plan, a_since, a_done) (nI r) (nI c) (nI d) (nI t) := by
  have hc' := rb_tg_lt hc hg
  unfold wpX_forbidMove
  refine rb_xIsR hr (br_f (by decide) (rb_xIsCy hC hc (br_f (by decide) (pk_lt d 1 (fun z => by omega) (fun _ => pk_le d 4 (fun _ => ?_) (fun z => by omega))))))
  rw [rb_m5, nI_clamp (by omega)]
  have e : a_neighbour (c * 5 + d) = nI c' := by
    rcases hnb c d hc hd with ⟨e1, _⟩ | ⟨c'', e1, e2⟩
    · rw [e1] at hg; cases hg
    · rw [e1] at hg; cases hg; exact e2
  rw [e]
  exact ⟨vp_in_nI (by omega) (by omega), br_f (nI_pos (by omega)) (br_f (nI_pos (by omega)) (pk_lt t H (fun _ => rb_xEncode (rb_xAdd hrc h2 h3 h0)) (fun z => by omega)))⟩
theorem rb_xMoveN {post : Int32 → SX → Prop} {p0 p1 p2 p3 : Int32} (hC : C ≤ 15) (hH : H ≤ 12) (hnb : ∀ c d, c < C → d < 5 → rb_NB w C a_neighbour c d)
    (hn : ¬ ∃ r c d t c', r < 2 ∧ c < C ∧ 1 ≤ d ∧ d < 5 ∧ t < H ∧ rb_tg w C c d = some c' ∧ p0 = nI r ∧ p1 = nI c ∧ p2 = nI d ∧ p3 = nI t) (hJ : post (-1) (f_never, nI C, nI H, nI rc, f_status, f_bound, f_leastTotal, a_neighbour, a_walls, a_placed, a_starts, a_goals, a_rules, a_open, a_next, a_earliest, a_solo, a_cost, a_plan, a_since, a_done)) : wpX_forbidMove post (f_never, nI C, nI H, nI rc, f_status, f_bound, f_leastTotal, a_neighbour, a_walls, a_placed, a_starts, a_goals, a_rules, a_open, a_next, a_earliest, a_solo, a_cost, a_plan, a_since, a_done) p0 p1 p2 p3 := by
  unfold wpX_forbidMove
  rcases rb_num p0 (n := 2) (by decide) with ⟨r, hr, rfl⟩ | ⟨k, _⟩
  · refine rb_xIsR hr (br_f (by decide) ?_)
    rcases rb_num p1 (n := C) (by omega) with ⟨c, hc, rfl⟩ | ⟨k, _⟩
    · refine rb_xIsCy hC hc (br_f (by decide) ?_)
      rcases rb_num p2 (n := 5) (by omega) with ⟨d, hd, rfl⟩ | ⟨k, k2 | k2⟩
      · refine pk_lt d 1 (fun _ => hJ) (fun z => pk_le d 4 (fun _ => ?_) (fun z => by omega))
        rw [rb_m5, nI_clamp (by omega)]
        refine ⟨vp_in_nI (by omega) (by omega), ?_⟩
        rcases hnb c d hc hd with ⟨e1, e2⟩ | ⟨c', e1, e2⟩
        · rw [e2]; exact br_t rb_neg1 hJ
        · have hc' := rb_tg_lt hc e1
          rw [e2]
          refine br_f (nI_pos (by omega)) ?_
          rcases rb_num p3 (n := H) (by omega) with ⟨t, ht, rfl⟩ | ⟨k, k2 | k2⟩
          · exact absurd ⟨r, c, d, t, c', hr, hc, z, hd, ht, e1, rfl, rfl, rfl, rfl⟩ hn
          · exact br_t k2 hJ
          · exact br_f k2.1 (br_f (Int32.not_lt.mpr k2.2) hJ)
      · exact br_t (Int32.lt_of_lt_of_le k2 (by decide)) hJ
      · refine br_f (fun k3 => ?_) (br_f (fun k3 => ?_) hJ)
        · exact absurd (Int32.lt_of_le_of_lt k2.2 k3) (by decide)
        · exact absurd (Int32.le_trans k2.2 k3) (by decide)
    · exact rb_xIsCn hC k (br_t rfl hJ)
  · exact rb_xNotR (k 0 (by omega)) (k 1 (by omega)) (br_t rfl hJ)
theorem rb_xPlaceN {post : Int32 → SX → Prop} {p0 p1 p2 : Int32} (hC : C ≤ 15) (hn : ¬ ∃ r a b, r < 2 ∧ a < C ∧ b < C ∧ p0 = nI r ∧ p1 = nI a ∧ p2 = nI b) (hJ : post (-1) (f_never, nI C, nI H, nI rc, f_status, f_bound, f_leastTotal, a_neighbour, a_walls, a_placed, a_starts, a_goals, a_rules, a_open, a_next, a_earliest, a_solo, a_cost, a_plan, a_since, a_done)) : wpX_place post (f_never, nI C, nI H, nI rc, f_status, f_bound, f_leastTotal, a_neighbour, a_walls, a_placed, a_starts, a_goals, a_rules, a_open, a_next, a_earliest, a_solo, a_cost, a_plan, a_since, a_done) p0 p1 p2 := by
  unfold wpX_place
  rcases rb_num p0 (n := 2) (by decide) with ⟨r, hr, rfl⟩ | ⟨k, _⟩
  · refine rb_xIsR hr (br_f (by decide) ?_)
    rcases rb_num p1 (n := C) (by omega) with ⟨c, hc, rfl⟩ | ⟨k, _⟩
    · refine rb_xIsCy hC hc (br_f (by decide) ?_)
      rcases rb_num p2 (n := C) (by omega) with ⟨t, ht, rfl⟩ | ⟨k, _⟩
      · exact absurd ⟨r, c, t, hr, hc, ht, rfl, rfl, rfl⟩ hn
      · exact rb_xIsCn hC k (br_t rfl hJ)
    · exact rb_xIsCn hC k (br_t rfl hJ)
  · exact rb_xNotR (k 0 (by omega)) (k 1 (by omega)) (br_t rfl hJ)
end
section
variable {f_status f_bound : Int32} {a_walls a_placed a_dead a_start a_goal a_done a_rules a_path a_codes a_kept a_lone : Nat → Int32} {w h C H rc : Nat} {g s : Nat → Nat}
theorem rb_yForbidV {post : Int32 → SY → Prop} {r c t : Nat} (eC : w * h = C) (hC : C ≤ 15) (hH : H ≤ 12) (hrc : rc ≤ 8) (hr : r < 2) (hc : c < C) (ht : t ≤ H)
    (h2 : rb_HR a_rules rc (nI (rb_cd r c 0 t)) → post (-2) (nI w, nI h, nI H, nI rc, f_status, f_bound, a_walls, a_placed, a_dead, a_start, a_goal, a_done, a_rules, a_path, a_codes, a_kept, a_lone)) (h3 : ¬ rb_HR a_rules rc (nI (rb_cd r c 0 t)) → rc = 8 → post (-3) (nI w, nI h, nI H, nI rc, f_status, f_bound, a_walls, a_placed, a_dead, a_start, a_goal, a_done, a_rules, a_path, a_codes, a_kept, a_lone))
    (h0 : ¬ rb_HR a_rules rc (nI (rb_cd r c 0 t)) → rc < 8 → post 0 (nI w, nI h, nI H, nI (rc + 1), 0, (-1), a_walls, a_placed, a_dead, a_start, a_goal, a_done, upd a_rules rc (nI (rb_cd r c 0 t)), a_path, a_codes, a_kept, a_lone)) : wpY_forbid post (nI w, nI h, nI H, nI rc, f_status, f_bound, a_walls, a_placed, a_dead, a_start, a_goal, a_done, a_rules, a_path, a_codes, a_kept, a_lone) (nI r) (nI c) (nI t) := by
  unfold wpY_forbid
  exact rb_yIsR hr (br_f (by decide) (rb_yIsCy eC hC hc (br_f (by decide) (br_f (nI_pos (by omega)) (pk_le t H (fun _ => rb_yAdd (d := 0) hrc h2 h3 h0) (fun z => by omega))))))
theorem rb_yForbidN {post : Int32 → SY → Prop} {p0 p1 p2 : Int32} (eC : w * h = C) (hC : C ≤ 15) (hH : H ≤ 12) (hn : ¬ ∃ r c t, r < 2 ∧ c < C ∧ t < H + 1 ∧ p0 = nI r ∧ p1 = nI c ∧ p2 = nI t) (hJ : post (-1) (nI w, nI h, nI H, nI rc, f_status, f_bound, a_walls, a_placed, a_dead, a_start, a_goal, a_done, a_rules, a_path, a_codes, a_kept, a_lone)) : wpY_forbid post (nI w, nI h, nI H, nI rc, f_status, f_bound, a_walls, a_placed, a_dead, a_start, a_goal, a_done, a_rules, a_path, a_codes, a_kept, a_lone) p0 p1 p2 := by
  unfold wpY_forbid
  rcases rb_num p0 (n := 2) (by decide) with ⟨r, hr, rfl⟩ | ⟨k, _⟩
  · refine rb_yIsR hr (br_f (by decide) ?_)
    rcases rb_num p1 (n := C) (by omega) with ⟨c, hc, rfl⟩ | ⟨k, _⟩
    · refine rb_yIsCy eC hC hc (br_f (by decide) ?_)
      rcases rb_num p2 (n := H + 1) (by omega) with ⟨t, ht, rfl⟩ | ⟨k, k2 | k2⟩
      · exact absurd ⟨r, c, t, hr, hc, ht, rfl, rfl, rfl⟩ hn
      · exact br_t k2 hJ
      · refine br_f k2.1 (br_f (fun k3 => ?_) hJ)
        have := Int32.le_trans k2.2 k3
        rw [nI_leI (by omega) (by omega)] at this
        omega
    · exact rb_yIsCx eC hC k (br_t rfl hJ)
  · exact rb_yNotR (k 0 (by omega)) (k 1 (by omega)) (br_t rfl hJ)
theorem rb_yMoveV {post : Int32 → SY → Prop} {r c d t c' : Nat} (eC : w * h = C) (hC : C ≤ 15) (hH : H ≤ 12) (hw : 1 ≤ w) (hw5 : w ≤ 5) (hrc : rc ≤ 8) (hr : r < 2) (hc : c < C) (hd1 : 1 ≤ d) (hd : d < 5) (ht : t < H) (hg : rb_tg w C c d = some c')
    (h2 : rb_HR a_rules rc (nI (rb_cd r c d t)) → post (-2) (nI w, nI h, nI H, nI rc, f_status, f_bound, a_walls, a_placed, a_dead, a_start, a_goal, a_done, a_rules, a_path, a_codes, a_kept, a_lone)) (h3 : ¬ rb_HR a_rules rc (nI (rb_cd r c d t)) → rc = 8 → post (-3) (nI w, nI h, nI H, nI rc, f_status, f_bound, a_walls, a_placed, a_dead, a_start, a_goal, a_done, a_rules, a_path, a_codes, a_kept, a_lone))
    (h0 : ¬ rb_HR a_rules rc (nI (rb_cd r c d t)) → rc < 8 → post 0 (nI w, nI h, nI H, nI (rc + 1), 0, (-1), a_walls, a_placed, a_dead, a_start, a_goal, a_done, upd a_rules rc (nI (rb_cd r c d t)), a_path, a_codes, a_kept, a_lone)) : wpY_forbidMove post (nI w, nI h, nI H, nI rc, f_status, f_bound, a_walls, a_placed, a_dead, a_start, a_goal, a_done, a_rules, a_path, a_codes, a_kept, a_lone) (nI r) (nI c) (nI d) (nI t) := by
  have hc' := rb_tg_lt hc hg
  unfold wpY_forbidMove
  refine rb_yIsR hr (br_f (by decide) (rb_yIsCy eC hC hc (br_f (by decide) (pk_lt d 1 (fun z => by omega) (fun _ => pk_le d 4 (fun _ => ?_) (fun z => by omega))))))
  refine rb_yTarget eC hC hw hw5 hc hd (fun e => by rw [e] at hg; cases hg) (fun c'' e => ?_)
  have hc'' := rb_tg_lt hc e
  exact br_f (nI_pos (by omega)) (br_f (nI_pos (by omega)) (pk_lt t H (fun _ => rb_yAdd hrc h2 h3 h0) (fun z => by omega)))
theorem rb_yMoveN {post : Int32 → SY → Prop} {p0 p1 p2 p3 : Int32} (eC : w * h = C) (hC : C ≤ 15) (hH : H ≤ 12) (hw : 1 ≤ w) (hw5 : w ≤ 5)
    (hn : ¬ ∃ r c d t c', r < 2 ∧ c < C ∧ 1 ≤ d ∧ d < 5 ∧ t < H ∧ rb_tg w C c d = some c' ∧ p0 = nI r ∧ p1 = nI c ∧ p2 = nI d ∧ p3 = nI t) (hJ : post (-1) (nI w, nI h, nI H, nI rc, f_status, f_bound, a_walls, a_placed, a_dead, a_start, a_goal, a_done, a_rules, a_path, a_codes, a_kept, a_lone)) : wpY_forbidMove post (nI w, nI h, nI H, nI rc, f_status, f_bound, a_walls, a_placed, a_dead, a_start, a_goal, a_done, a_rules, a_path, a_codes, a_kept, a_lone) p0 p1 p2 p3 := by
  unfold wpY_forbidMove
  rcases rb_num p0 (n := 2) (by decide) with ⟨r, hr, rfl⟩ | ⟨k, _⟩
  · refine rb_yIsR hr (br_f (by decide) ?_)
    rcases rb_num p1 (n := C) (by omega) with ⟨c, hc, rfl⟩ | ⟨k, _⟩
    · refine rb_yIsCy eC hC hc (br_f (by decide) ?_)
      rcases rb_num p2 (n := 5) (by omega) with ⟨d, hd, rfl⟩ | ⟨k, k2 | k2⟩
      · refine pk_lt d 1 (fun _ => hJ) (fun z => pk_le d 4 (fun _ => ?_) (fun z => by omega))
        refine rb_yTarget eC hC hw hw5 hc hd (fun e => br_t rb_neg1 hJ) (fun c' e => ?_)
        have hc' := rb_tg_lt hc e
        refine br_f (nI_pos (by omega)) ?_
        rcases rb_num p3 (n := H) (by omega) with ⟨t, ht, rfl⟩ | ⟨k, k2 | k2⟩
        · exact absurd ⟨r, c, d, t, c', hr, hc, z, hd, ht, e, rfl, rfl, rfl, rfl⟩ hn
        · exact br_t k2 hJ
        · exact br_f k2.1 (br_f (Int32.not_lt.mpr k2.2) hJ)
      · exact br_t (Int32.lt_of_lt_of_le k2 (by decide)) hJ
      · refine br_f (fun k3 => ?_) (br_f (fun k3 => ?_) hJ)
        · exact absurd (Int32.lt_of_le_of_lt k2.2 k3) (by decide)
        · exact absurd (Int32.le_trans k2.2 k3) (by decide)
    · exact rb_yIsCx eC hC k (br_t rfl hJ)
  · exact rb_yNotR (k 0 (by omega)) (k 1 (by omega)) (br_t rfl hJ)
theorem rb_yPlaceN {post : Int32 → SY → Prop} {p0 p1 p2 : Int32} (eC : w * h = C) (hC : C ≤ 15) (hn : ¬ ∃ r a b, r < 2 ∧ a < C ∧ b < C ∧ p0 = nI r ∧ p1 = nI a ∧ p2 = nI b) (hJ : post (-1) (nI w, nI h, nI H, nI rc, f_status, f_bound, a_walls, a_placed, a_dead, a_start, a_goal, a_done, a_rules, a_path, a_codes, a_kept, a_lone)) : wpY_place post (nI w, nI h, nI H, nI rc, f_status, f_bound, a_walls, a_placed, a_dead, a_start, a_goal, a_done, a_rules, a_path, a_codes, a_kept, a_lone) p0 p1 p2 := by
  unfold wpY_place
  rcases rb_num p0 (n := 2) (by decide) with ⟨r, hr, rfl⟩ | ⟨k, _⟩
  · refine rb_yIsR hr (br_f (by decide) ?_)
    rcases rb_num p1 (n := C) (by omega) with ⟨c, hc, rfl⟩ | ⟨k, _⟩
    · refine rb_yIsCy eC hC hc (br_f (by decide) ?_)
      rcases rb_num p2 (n := C) (by omega) with ⟨t, ht, rfl⟩ | ⟨k, _⟩
      · exact absurd ⟨r, c, t, hr, hc, ht, rfl, rfl, rfl⟩ hn
      · exact rb_yIsCx eC hC k (br_t rfl hJ)
    · exact rb_yIsCx eC hC k (br_t rfl hJ)
  · exact rb_yNotR (k 0 (by omega)) (k 1 (by omega)) (br_t rfl hJ)
end
end
section
/-! what is owed: the constructors, edits, simple questions -/
theorem rb_xClamp {post : Int32 → Prop} {u : SX} {p : Int32} {m v : Nat} (hv : ∀ A : Int32 → Prop, A (nI v) → ((1 ≤ p → ((p ≤ nI m → A p) ∧ (¬ p ≤ nI m → A (nI m)))) ∧ (¬ 1 ≤ p → A 1))) (hp : post (nI v)) : wpX_clamp post u p (nI m) := hv post hp
theorem i_vc0 (k0 : Int32) (k1 : Int32) (k2 : Int32) : wpX_init (fun u => wpY_init (fun v => i_Rel 3 u v) k0 k1 k2) k0 k1 k2 := by
  obtain ⟨w, w1, w5, cw⟩ := rb_clamp k0 5 (by omega) (by omega)
  obtain ⟨h, h1, h3, ch⟩ := rb_clamp k1 3 (by omega) (by omega)
  obtain ⟨H, H1, H12, cH⟩ := rb_clamp k2 12 (by omega) (by omega)
  have hC : w * h ≤ 15 := Nat.mul_le_mul w5 h3
  have hC0 : 0 < w * h := Nat.mul_pos w1 h1
  unfold wpX_init
  refine rb_xClamp (m := 5) cw (rb_xClamp (m := 3) ch (rb_xClamp (m := 12) cH (nm_r (pk_mul w h) ?_)))
  refine rb_xBuild (C := w * h) (rc := 0) rfl hC w1 w5 h3 (fun a_neighbour hnb => ?_)
  refine cw (fun z => wY_init_124 _ k1 k2 z 0 0 0 0 0 (-1) (fun _ => 0) (fun _ => 0) (fun _ => 0) (fun _ => 0) (fun _ => 0) (fun _ => 0) (fun _ => 0) (fun _ => 0) (fun _ => 0) (fun _ => 0) (fun _ => 0)) ?_
  refine ch (fun z => wY_init_147 _ k2 z (nI w) 0 0 0 0 (-1) (fun _ => 0) (fun _ => 0) (fun _ => 0) (fun _ => 0) (fun _ => 0) (fun _ => 0) (fun _ => 0) (fun _ => 0) (fun _ => 0) (fun _ => 0) (fun _ => 0)) ?_
  refine cH (fun z => i_Rel 3 _ (nI w, nI h, z, 0, 0, (-1), (fun _ => 0), (fun _ => 0), (fun _ => 0), (fun _ => 0), (fun _ => 0), (fun _ => 0), (fun _ => 0), (fun _ => 0), (fun _ => 0), (fun _ => 0), (fun _ => 0))) ?_
  exact rb_mk_Rel (rc := 0) (s := fun _ => 0) (g := fun _ => 0) ⟨rfl, w1, w5, hC, H1, H12, Nat.zero_le _, fun r _ => ⟨hC0, rfl⟩, fun r _ => ⟨hC0, rfl⟩, hnb, fun z => absurd rfl z⟩ (Or.inl ⟨rfl, rfl⟩)
theorem i_vc_wall {k : Nat} {u : SX} {v : SY} (I : i_Rel k u v) (hk : k + 5 ≤ 2563) (v1 : Int32) : wpX_wall (fun r u' => wpY_wall (fun r' v' => r' = r ∧ i_Rel (k + 5) u' v') v v1) u v1 := by
  refine rb_el (P := fun u v => wpX_wall (fun r u' => wpY_wall (fun r' v' => r' = r ∧ i_Rel (k + 5) u' v') v v1) u v1) ?_ I
  intro f_never f_status f_bound f_leastTotal a_neighbour a_walls a_placed a_starts a_goals a_rules a_open a_next a_earliest a_solo a_cost a_plan a_since a_done b_dead b_done b_path b_codes b_kept b_lone w h C H rc s g hB hS
  have eC := hB.1
  have hC := hB.2.2.2.1
  rcases rb_num v1 (n := C) (by omega) with ⟨c, hc, rfl⟩ | ⟨hx, _⟩
  · exact rb_xWall hC hc (fun z => rb_yWall eC hC hc (fun _ => ⟨rfl, rb_mk_Rel hB hS⟩) (fun z2 => absurd z2 z)) (fun z => rb_yWall eC hC hc (fun z2 => absurd z z2) (fun _ => ⟨rfl, rb_mk_Rel hB (Or.inl ⟨rfl, rfl⟩)⟩))
  · exact rb_xWallN hC hx (rb_yWallN eC hC hx ⟨rfl, rb_mk_Rel hB hS⟩)
theorem rb_BS_place {a_neighbour a_walls a_placed a_starts a_goals : Nat → Int32} {w h C H rc r a b : Nat} {s g : Nat → Nat} (hB : rb_BS a_neighbour a_placed a_starts a_goals w h C H rc s g) (hr : r < 2) (ha : a < C) (hb : b < C) (hz : ¬ rb_tk a_walls a_placed a_starts a_goals r a b) :
    rb_BS a_neighbour (upd a_placed r 1) (upd a_starts r (nI a)) (upd a_goals r (nI b)) w h C H rc (rb_up s r a) (rb_up g r b) := by
  obtain ⟨eC, hw, hw5, hC, hH1, hH, hrc, hg, hs, hnb, hne⟩ := hB
  refine ⟨eC, hw, hw5, hC, hH1, hH, hrc, fun q hq => ?_, fun q hq => ?_, hnb, fun p0 p1 => ?_⟩
  · by_cases e : q = r
    · rw [e, rb_up_s, pk_us]; exact ⟨hb, rfl⟩
    · rw [rb_up_n e, pk_un e]; exact hg q hq
  · by_cases e : q = r
    · rw [e, rb_up_s, pk_us]; exact ⟨ha, rfl⟩
    · rw [rb_up_n e, pk_un e]; exact hs q hq
  · have h2 : r = 0 ∨ r = 1 := by omega
    rcases h2 with rfl | rfl
    · rw [rb_up_s, rb_up_n (by decide)]
      rw [pk_un (by decide)] at p1
      intro e
      exact hz (Or.inr (Or.inr ⟨p1, Or.inl (by rw [show 1 - 0 = 1 from rfl, (hs 1 (by omega)).2, e])⟩))
    · rw [rb_up_s, rb_up_n (by decide)]
      rw [pk_un (by decide)] at p0
      intro e
      exact hz (Or.inr (Or.inr ⟨p0, Or.inl (by rw [show 1 - 1 = 0 from rfl, (hs 0 (by omega)).2, e])⟩))
theorem i_vc_place {k : Nat} {u : SX} {v : SY} (I : i_Rel k u v) (hk : k + 5 ≤ 2563) (v1 : Int32) (v2 : Int32) (v3 : Int32) : wpX_place (fun r u' => wpY_place (fun r' v' => r' = r ∧ i_Rel (k + 5) u' v') v v1 v2 v3) u v1 v2 v3 := by
  refine rb_el (P := fun u v => wpX_place (fun r u' => wpY_place (fun r' v' => r' = r ∧ i_Rel (k + 5) u' v') v v1 v2 v3) u v1 v2 v3) ?_ I
  intro f_never f_status f_bound f_leastTotal a_neighbour a_walls a_placed a_starts a_goals a_rules a_open a_next a_earliest a_solo a_cost a_plan a_since a_done b_dead b_done b_path b_codes b_kept b_lone w h C H rc s g hB hS
  have eC := hB.1
  have hC := hB.2.2.2.1
  by_cases hx : ∃ r a b, r < 2 ∧ a < C ∧ b < C ∧ v1 = nI r ∧ v2 = nI a ∧ v3 = nI b
  · obtain ⟨r, a, b, hr, ha, hb, rfl, rfl, rfl⟩ := hx
    exact rb_xPlace hC hr ha hb (fun z => rb_yPlace eC hC hr ha hb (fun _ => ⟨rfl, rb_mk_Rel hB hS⟩) (fun z2 => absurd z z2)) (fun z => rb_yPlace eC hC hr ha hb (fun z2 => absurd z2 z) (fun _ => ⟨rfl, rb_mk_Rel (rb_BS_place hB hr ha hb z) (Or.inl ⟨rfl, rfl⟩)⟩))
  · exact rb_xPlaceN hC hx (rb_yPlaceN eC hC hx ⟨rfl, rb_mk_Rel hB hS⟩)
theorem rb_BS_rc {a_neighbour a_placed a_starts a_goals : Nat → Int32} {w h C H rc rc' : Nat} {s g : Nat → Nat} (hB : rb_BS a_neighbour a_placed a_starts a_goals w h C H rc s g) (hr : rc' ≤ 8) : rb_BS a_neighbour a_placed a_starts a_goals w h C H rc' s g := by
  obtain ⟨eC, hw, hw5, hC, hH1, hH, hrc, hg, hs, hnb, hne⟩ := hB
  exact ⟨eC, hw, hw5, hC, hH1, hH, hr, hg, hs, hnb, hne⟩
theorem i_vc_forbid {k : Nat} {u : SX} {v : SY} (I : i_Rel k u v) (hk : k + 5 ≤ 2563) (v1 : Int32) (v2 : Int32) (v3 : Int32) : wpX_forbid (fun r u' => wpY_forbid (fun r' v' => r' = r ∧ i_Rel (k + 5) u' v') v v1 v2 v3) u v1 v2 v3 := by
  refine rb_el (P := fun u v => wpX_forbid (fun r u' => wpY_forbid (fun r' v' => r' = r ∧ i_Rel (k + 5) u' v') v v1 v2 v3) u v1 v2 v3) ?_ I
  intro f_never f_status f_bound f_leastTotal a_neighbour a_walls a_placed a_starts a_goals a_rules a_open a_next a_earliest a_solo a_cost a_plan a_since a_done b_dead b_done b_path b_codes b_kept b_lone w h C H rc s g hB hS
  have hB' := hB
  obtain ⟨eC, hw, hw5, hC, hH1, hH, hrc, hg, hs, hnb, hne⟩ := hB'
  by_cases hx : ∃ r c t, r < 2 ∧ c < C ∧ t < H + 1 ∧ v1 = nI r ∧ v2 = nI c ∧ v3 = nI t
  · obtain ⟨r, c, t, hr, hc, ht, rfl, rfl, rfl⟩ := hx
    refine rb_xForbidV hC hH hrc hr hc (by omega) (fun z => ?_) (fun z z1 => ?_) (fun z z1 => ?_)
    · exact rb_yForbidV eC hC hH hrc hr hc (by omega) (fun _ => ⟨rfl, rb_mk_Rel hB hS⟩) (fun z2 => absurd z z2) (fun z2 => absurd z z2)
    · exact rb_yForbidV eC hC hH hrc hr hc (by omega) (fun z2 => absurd z2 z) (fun _ _ => ⟨rfl, rb_mk_Rel hB hS⟩) (fun _ z3 => by omega)
    · exact rb_yForbidV eC hC hH hrc hr hc (by omega) (fun z2 => absurd z2 z) (fun _ z3 => by omega) (fun _ _ => ⟨rfl, rb_mk_Rel (rb_BS_rc hB (by omega)) (Or.inl ⟨rfl, rfl⟩)⟩)
  · exact rb_xForbidN hC hH hx (rb_yForbidN eC hC hH hx ⟨rfl, rb_mk_Rel hB hS⟩)
theorem i_vc_forbidMove {k : Nat} {u : SX} {v : SY} (I : i_Rel k u v) (hk : k + 5 ≤ 2563) (v1 : Int32) (v2 : Int32) (v3 : Int32) (v4 : Int32) : wpX_forbidMove (fun r u' => wpY_forbidMove (fun r' v' => r' = r ∧ i_Rel (k + 5) u' v') v v1 v2 v3 v4) u v1 v2 v3 v4 := by
  refine rb_el (P := fun u v => wpX_forbidMove (fun r u' => wpY_forbidMove (fun r' v' => r' = r ∧ i_Rel (k + 5) u' v') v v1 v2 v3 v4) u v1 v2 v3 v4) ?_ I
  intro f_never f_status f_bound f_leastTotal a_neighbour a_walls a_placed a_starts a_goals a_rules a_open a_next a_earliest a_solo a_cost a_plan a_since a_done b_dead b_done b_path b_codes b_kept b_lone w h C H rc s g hB hS
  have hB' := hB
  obtain ⟨eC, hw, hw5, hC, hH1, hH, hrc, hg, hs, hnb, hne⟩ := hB'
  by_cases hx : ∃ r c d t c', r < 2 ∧ c < C ∧ 1 ≤ d ∧ d < 5 ∧ t < H ∧ rb_tg w C c d = some c' ∧ v1 = nI r ∧ v2 = nI c ∧ v3 = nI d ∧ v4 = nI t
  · obtain ⟨r, c, d, t, c', hr, hc, hd1, hd, ht, ht', rfl, rfl, rfl, rfl⟩ := hx
    refine rb_xMoveV hC hH hrc hnb hr hc hd1 hd ht ht' (fun z => ?_) (fun z z1 => ?_) (fun z z1 => ?_)
    · exact rb_yMoveV eC hC hH hw hw5 hrc hr hc hd1 hd ht ht' (fun _ => ⟨rfl, rb_mk_Rel hB hS⟩) (fun z2 => absurd z z2) (fun z2 => absurd z z2)
    · exact rb_yMoveV eC hC hH hw hw5 hrc hr hc hd1 hd ht ht' (fun z2 => absurd z2 z) (fun _ _ => ⟨rfl, rb_mk_Rel hB hS⟩) (fun _ z3 => by omega)
    · exact rb_yMoveV eC hC hH hw hw5 hrc hr hc hd1 hd ht ht' (fun z2 => absurd z2 z) (fun _ z3 => by omega) (fun _ _ => ⟨rfl, rb_mk_Rel (rb_BS_rc hB (by omega)) (Or.inl ⟨rfl, rfl⟩)⟩)
  · exact rb_xMoveN hC hH hnb hx (rb_yMoveN eC hC hH hw hw5 hx ⟨rfl, rb_mk_Rel hB hS⟩)
theorem i_vc_undo {k : Nat} {u : SX} {v : SY} (I : i_Rel k u v) (hk : k + 5 ≤ 2563) : wpX_undo (fun r u' => wpY_undo (fun r' v' => r' = r ∧ i_Rel (k + 5) u' v') v) u := by
  refine rb_el (P := fun u v => wpX_undo (fun r u' => wpY_undo (fun r' v' => r' = r ∧ i_Rel (k + 5) u' v') v) u) ?_ I
  intro f_never f_status f_bound f_leastTotal a_neighbour a_walls a_placed a_starts a_goals a_rules a_open a_next a_earliest a_solo a_cost a_plan a_since a_done b_dead b_done b_path b_codes b_kept b_lone w h C H rc s g hB hS
  have hrc := hB.2.2.2.2.2.2.1
  unfold wpX_undo wpY_undo
  refine pk_eq rc 0 (fun e => pk_lt 0 rc (fun z => by omega) (fun _ => ⟨rfl, rb_mk_Rel hB hS⟩)) (fun e => ?_)
  have e1 : nI rc - 1 = nI (rc - 1) := pk_sub (b := 1) (by omega)
  exact nm_r e1 (pk_lt 0 rc (fun _ => nm_r e1 ⟨rfl, rb_mk_Rel (rb_BS_rc hB (by omega)) (Or.inl ⟨rfl, rfl⟩)⟩) (fun z => by omega))
theorem i_vc_rule {k : Nat} {u : SX} {v : SY} (I : i_Rel k u v) (hk : k + 5 ≤ 2563) (v1 : Int32) : wpX_rule (fun r => wpY_rule (fun r' => r' = r ∧ i_Rel (k + 5) u v) v v1) u v1 := by
  refine rb_el (P := fun u v => wpX_rule (fun r => wpY_rule (fun r' => r' = r ∧ i_Rel (k + 5) u v) v v1) u v1) ?_ I
  intro f_never f_status f_bound f_leastTotal a_neighbour a_walls a_placed a_starts a_goals a_rules a_open a_next a_earliest a_solo a_cost a_plan a_since a_done b_dead b_done b_path b_codes b_kept b_lone w h C H rc s g hB hS
  have hrc := hB.2.2.2.2.2.2.1
  unfold wpX_rule wpY_rule
  by_cases h0 : v1 < 0
  · exact br_t h0 (br_t h0 ⟨rfl, rb_mk_Rel hB hS⟩)
  · obtain ⟨j, hj, rfl⟩ := nI_of h0
    refine br_f h0 (pk_lt j rc (fun z => ⟨vp_in_nI (by omega) (by omega), br_f h0 (pk_lt j rc (fun _ => ⟨vp_in_nI (by omega) (by omega), rfl, rb_mk_Rel hB hS⟩) (fun z2 => by omega))⟩) (fun z => br_f h0 (pk_lt j rc (fun z2 => by omega) (fun _ => ⟨rfl, rb_mk_Rel hB hS⟩))))
theorem i_vc_mark {k : Nat} {u : SX} {v : SY} (I : i_Rel k u v) (hk : k + 5 ≤ 2563) (v1 : Int32) : wpX_mark (fun r => wpY_mark (fun r' => r' = r ∧ i_Rel (k + 5) u v) v v1) u v1 := by
  refine rb_el (P := fun u v => wpX_mark (fun r => wpY_mark (fun r' => r' = r ∧ i_Rel (k + 5) u v) v v1) u v1) ?_ I
  intro f_never f_status f_bound f_leastTotal a_neighbour a_walls a_placed a_starts a_goals a_rules a_open a_next a_earliest a_solo a_cost a_plan a_since a_done b_dead b_done b_path b_codes b_kept b_lone w h C H rc s g hB hS
  have eC := hB.1
  have hC := hB.2.2.2.1
  rcases rb_num v1 (n := C) (by omega) with ⟨c, hc, rfl⟩ | ⟨hx, _⟩
  · exact rb_xMark hC hc (rb_yMark eC hC hc ⟨rfl, rb_mk_Rel hB hS⟩)
  · exact rb_xMarkN hC hx (rb_yMarkN eC hC hx ⟨rfl, rb_mk_Rel hB hS⟩)
theorem i_vc_bound {k : Nat} {u : SX} {v : SY} (I : i_Rel k u v) (hk : k + 5 ≤ 2563) : wpX_bound (fun r => wpY_bound (fun r' => r' = r ∧ i_Rel (k + 5) u v) v) u := by
  refine rb_el (P := fun u v => wpX_bound (fun r => wpY_bound (fun r' => r' = r ∧ i_Rel (k + 5) u v) v) u) ?_ I
  intro f_never f_status f_bound f_leastTotal a_neighbour a_walls a_placed a_starts a_goals a_rules a_open a_next a_earliest a_solo a_cost a_plan a_since a_done b_dead b_done b_path b_codes b_kept b_lone w h C H rc s g hB hS
  exact ⟨rfl, rb_mk_Rel hB hS⟩
end
section
/-! what is owed: the kept plan -/
section
variable {f_status f_bound : Int32} {a_walls a_placed a_dead a_start a_goal a_done a_rules a_path a_codes a_kept a_lone : Nat → Int32} {w h C H rc : Nat}
theorem rb_yPl40 {post : Int32 → Prop} {r t : Nat} {kt p dr : Nat → Nat} (eC : w * h = C) (hC : C ≤ 15) (hH : H ≤ 12) (hw : 1 ≤ w) (hw5 : w ≤ 5) (ht : t ≤ H) (hr : r < 2) (hk : ∀ i, i < H → a_kept i = nI (kt i) ∧ kt i < 25)
    (hd : ∀ i, i < H → (r = 0 → dr i = kt i / 5) ∧ (r ≠ 0 → dr i = kt i % 5)) (hp : ∀ i, i < H → p i < C ∧ rb_tg w C (p i) (dr i) = some (p (i + 1))) (hJ : post (nI (p t))) :
    ∀ n j, j ≤ t → t - j < n → wY_planned_40 post (nI r) (nI t) (nI w) (nI h) (nI H) (nI rc) f_status f_bound a_walls a_placed a_dead a_start a_goal a_done a_rules a_path a_codes a_kept a_lone n (nI (p j)) (nI j) := by
  intro n
  induction n with
  | zero => intro j _ h; omega
  | succ n ih =>
    intro j hj hn
    refine pk_le t j (fun z => ?_) (fun z => pk_le 12 j (fun z2 => by omega) (fun z2 => ?_))
    · have e : j = t := by omega
      rw [e]; exact hJ
    have kj := hk j (by omega)
    have pj := hp j (by omega)
    have dj := hd j (by omega)
    have go : ∀ x : Int32, x = nI (dr j) → dr j < 5 → wY_planned_80 post (wY_planned_40 post (nI r) (nI t) (nI w) (nI h) (nI H) (nI rc) f_status f_bound a_walls a_placed a_dead a_start a_goal a_done a_rules a_path a_codes a_kept a_lone n) (nI r) (nI t) (nI j) x (nI (p j)) (nI w) (nI h) (nI H) (nI rc) f_status f_bound a_walls a_placed a_dead a_start a_goal a_done a_rules a_path a_codes a_kept a_lone := by
      intro x ex h5
      subst ex
      unfold wY_planned_80
      refine rb_yTarget eC hC hw hw5 pj.1 h5 (fun e => ?_) (fun c' e => ?_)
      · rw [e] at pj; cases pj.2
      · have e2 := e.symm.trans pj.2
        cases e2
        exact nm_r (nI_1 j) (ih (j + 1) (by omega) (by omega))
    refine pk_eq r 0 (fun e => ?_) (fun e => ?_)
    · rw [nI_clamp (by omega), kj.1]
      refine ⟨vp_in_nI (by omega) (by omega), by decide, go _ ?_ (by have := dj.1 e; omega)⟩
      rw [dj.1 e]
      exact pk_div (d := 5) (by omega) (by omega) (by omega)
    · rw [nI_clamp (by omega), kj.1]
      refine ⟨vp_in_nI (by omega) (by omega), by decide, go _ ?_ (by have := dj.2 e; omega)⟩
      rw [dj.2 e]
      exact pk_rem (d := 5) (by omega) (by omega) (by omega)
/-- where the kept plan has robot r at tick t -/
def rb_po (r : Nat) (pc pd : Nat → Nat) : Nat → Nat := if r = 0 then pc else pd
theorem rb_yPlanned {post : Int32 → Prop} {r t : Nat} {kt pc pd s : Nat → Nat} (eC : w * h = C) (hC : C ≤ 15) (hH : H ≤ 12) (hw : 1 ≤ w) (hw5 : w ≤ 5) (ht : t ≤ H) (hr : r < 2) (hk : ∀ i, i < H → a_kept i = nI (kt i) ∧ kt i < 25)
    (hs : ∀ r, r < 2 → s r < C ∧ a_start r = nI (s r)) (e0 : pc 0 = s 0) (e1 : pd 0 = s 1)
    (hst : ∀ i, i < H → rb_tg w C (pc i) (kt i / 5) = some (pc (i + 1)) ∧ rb_tg w C (pd i) (kt i % 5) = some (pd (i + 1))) (hlt : ∀ j, j ≤ H → pc j < C ∧ pd j < C)
    (hJ : post (nI (rb_po r pc pd t))) : wpY_planned post (nI w, nI h, nI H, nI rc, 2, f_bound, a_walls, a_placed, a_dead, a_start, a_goal, a_done, a_rules, a_path, a_codes, a_kept, a_lone) (nI r) (nI t) := by
  unfold wpY_planned
  refine br_t rfl (rb_yIsR hr (br_f (by decide) (br_f (nI_pos (by omega)) (pk_le t H (fun _ => ⟨vp_in_nI (by omega) (by omega), ?_⟩) (fun z => by omega)))))
  rw [nI_clamp (by omega), (hs r hr).2]
  refine nm_e ⟨t + 1, ?_⟩
  have h2 : r = 0 ∨ r = 1 := by omega
  rcases h2 with rfl | rfl
  · rw [← e0]
    exact rb_yPl40 (p := pc) (dr := fun i => kt i / 5) eC hC hH hw hw5 ht hr hk (fun i _ => ⟨fun _ => rfl, fun z => absurd rfl z⟩) (fun i hi => ⟨(hlt i (by omega)).1, (hst i hi).1⟩) hJ (t + 1) 0 (Nat.zero_le _) (by omega)
  · rw [← e1]
    exact rb_yPl40 (p := pd) (dr := fun i => kt i % 5) eC hC hH hw hw5 ht hr hk (fun i _ => ⟨fun z => absurd z (by decide), fun _ => rfl⟩) (fun i hi => ⟨(hlt i (by omega)).2, (hst i hi).2⟩) hJ (t + 1) 0 (Nat.zero_le _) (by omega)
theorem rb_yPlannedN {post : Int32 → Prop} {p0 p1 : Int32} (hH : H ≤ 12) (hn : ¬ ∃ r t, r < 2 ∧ t < H + 1 ∧ p0 = nI r ∧ p1 = nI t) (hJ : post (-1)) : wpY_planned post (nI w, nI h, nI H, nI rc, f_status, f_bound, a_walls, a_placed, a_dead, a_start, a_goal, a_done, a_rules, a_path, a_codes, a_kept, a_lone) p0 p1 := by
  unfold wpY_planned
  refine br_c (fun _ => ?_) (fun _ => hJ)
  rcases rb_num p0 (n := 2) (by decide) with ⟨r, hr, rfl⟩ | ⟨k, _⟩
  · refine rb_yIsR hr (br_f (by decide) ?_)
    rcases rb_num p1 (n := H + 1) (by omega) with ⟨t, ht, rfl⟩ | ⟨k, k2 | k2⟩
    · exact absurd ⟨r, t, hr, ht, rfl, rfl⟩ hn
    · exact br_t k2 hJ
    · refine br_f k2.1 (br_f (fun k3 => ?_) hJ)
      have := Int32.le_trans k2.2 k3
      rw [nI_leI (by omega) (by omega)] at this
      omega
  · exact rb_yNotR (k 0 (by omega)) (k 1 (by omega)) (br_t rfl hJ)
theorem rb_yAdv60 {post : Int32 → SY → Prop} {kt pc pd s : Nat → Nat} {d0 d1 e0 e1 : Nat} (eC : w * h = C) (hC : C ≤ 15) (hH : H ≤ 12) (hw : 1 ≤ w) (hw5 : w ≤ 5) (hk : ∀ i, i < H → a_kept i = nI (kt i) ∧ kt i < 25)
    (hs : ∀ r, r < 2 → s r < C ∧ a_start r = nI (s r)) (p0 : pc 0 = s 0) (p1 : pd 0 = s 1)
    (hst : ∀ i, i < H → rb_tg w C (pc i) (kt i / 5) = some (pc (i + 1)) ∧ rb_tg w C (pd i) (kt i % 5) = some (pd (i + 1))) (hlt : ∀ j, j ≤ H → pc j < C ∧ pd j < C)
    (a0 : a_done 0 = nI d0) (a1 : a_done 1 = nI d1) (b0 : d0 + e0 ≤ H) (b1 : d1 + e1 ≤ H)
    (h4 : pc (d0 + e0) = pd (d1 + e1) → post 4 (nI w, nI h, nI H, nI rc, 2, f_bound, a_walls, a_placed, a_dead, a_start, a_goal, a_done, a_rules, a_path, a_codes, a_kept, a_lone)) (h5 : pc (d0 + e0) ≠ pd (d1 + e1) → (pc (d0 + e0) = pd d1 ∧ pd (d1 + e1) = pc d0) → post 5 (nI w, nI h, nI H, nI rc, 2, f_bound, a_walls, a_placed, a_dead, a_start, a_goal, a_done, a_rules, a_path, a_codes, a_kept, a_lone))
    (h6 : pc (d0 + e0) ≠ pd (d1 + e1) → ¬ (pc (d0 + e0) = pd d1 ∧ pd (d1 + e1) = pc d0) → (d0 + e0 = H ∧ d1 + e1 = H) → post 6 (nI w, nI h, nI H, nI rc, 2, f_bound, a_walls, a_placed, a_dead, a_start, a_goal, upd (upd a_done 0 (nI (d0 + e0))) 1 (nI (d1 + e1)), a_rules, a_path, a_codes, a_kept, a_lone))
    (h0 : pc (d0 + e0) ≠ pd (d1 + e1) → ¬ (pc (d0 + e0) = pd d1 ∧ pd (d1 + e1) = pc d0) → ¬ (d0 + e0 = H ∧ d1 + e1 = H) → post 0 (nI w, nI h, nI H, nI rc, 2, f_bound, a_walls, a_placed, a_dead, a_start, a_goal, upd (upd a_done 0 (nI (d0 + e0))) 1 (nI (d1 + e1)), a_rules, a_path, a_codes, a_kept, a_lone)) :
    wY_advance_60 post (nI e0) (nI e1) (nI w) (nI h) (nI H) (nI rc) 2 f_bound a_walls a_placed a_dead a_start a_goal a_done a_rules a_path a_codes a_kept a_lone := by
  have l0 := hlt d0 (by omega)
  have l1 := hlt d1 (by omega)
  have l2 := hlt (d0 + e0) (by omega)
  have l3 := hlt (d1 + e1) (by omega)
  unfold wY_advance_60
  rw [a0, a1, nI_add, nI_add]
  refine rb_yPlanned (r := 0) (s := s) eC hC hH hw hw5 (by omega) (by omega) hk hs p0 p1 hst hlt (rb_yPlanned (r := 0) (s := s) eC hC hH hw hw5 (by omega) (by omega) hk hs p0 p1 hst hlt (rb_yPlanned (r := 1) (s := s) eC hC hH hw hw5 (by omega) (by omega) hk hs p0 p1 hst hlt (rb_yPlanned (r := 1) (s := s) eC hC hH hw hw5 (by omega) (by omega) hk hs p0 p1 hst hlt ?_)))
  show (nI (pc (d0 + e0)) = nI (pd (d1 + e1)) → _) ∧ _
  have go : pc (d0 + e0) ≠ pd (d1 + e1) → ¬ (pc (d0 + e0) = pd d1 ∧ pd (d1 + e1) = pc d0) → wY_advance_142 post (nI e0) (nI e1) (nI w) (nI h) (nI H) (nI rc) 2 f_bound a_walls a_placed a_dead a_start a_goal a_done a_rules a_path a_codes a_kept a_lone := by
    intro c1 c2
    unfold wY_advance_142
    rw [a0, nI_add]
    refine nm_e ?_
    rw [pk_un (show (1 : Nat) ≠ 0 by decide), a1, nI_add]
    refine nm_e ?_
    rw [pk_un (show (0 : Nat) ≠ 1 by decide), pk_us, pk_us]
    exact pk_eq (d0 + e0) H (fun z => pk_eq (d1 + e1) H (fun z2 => h6 c1 c2 ⟨z, z2⟩) (fun z2 => h0 c1 c2 fun k => z2 k.2)) (fun z => h0 c1 c2 fun k => z k.1)
  exact pk_eq (pc (d0 + e0)) (pd (d1 + e1)) h4 (fun c1 => pk_eq (pc (d0 + e0)) (pd d1) (fun c2 => pk_eq (pd (d1 + e1)) (pc d0) (fun c3 => h5 c1 ⟨c2, c3⟩) (fun c3 => go c1 fun k => c3 k.2)) (fun c2 => go c1 fun k => c2 k.1))
end
section
variable {f_never f_status f_bound f_leastTotal : Int32} {a_neighbour a_walls a_placed a_starts a_goals a_rules a_open a_next a_earliest a_solo a_cost a_plan a_since a_done : Nat → Int32} {w C H rc : Nat}
theorem rb_xAdv60 {post : Int32 → SX → Prop} {pc pd : Nat → Nat} {d0 d1 e0 e1 : Nat} (hC : C ≤ 15) (hH : H ≤ 12)
    (hpl : ∀ j, j ≤ H → a_plan j = nI (pc j) ∧ a_plan (13 + j) = nI (pd j) ∧ pc j < C ∧ pd j < C)
    (a0 : a_done 0 = nI d0) (a1 : a_done 1 = nI d1) (b0 : d0 + e0 ≤ H) (b1 : d1 + e1 ≤ H)
    (h4 : pc (d0 + e0) = pd (d1 + e1) → post 4 (f_never, nI C, nI H, nI rc, f_status, f_bound, f_leastTotal, a_neighbour, a_walls, a_placed, a_starts, a_goals, a_rules, a_open, a_next, a_earliest, a_solo, a_cost, a_plan, a_since, a_done)) (h5 : pc (d0 + e0) ≠ pd (d1 + e1) → (pc (d0 + e0) = pd d1 ∧ pd (d1 + e1) = pc d0) → post 5 (f_never, nI C, nI H, nI rc, f_status, f_bound, f_leastTotal, a_neighbour, a_walls, a_placed, a_starts, a_goals, a_rules, a_open, a_next, a_earliest, a_solo, a_cost, a_plan, a_since, a_done))
    (h6 : pc (d0 + e0) ≠ pd (d1 + e1) → ¬ (pc (d0 + e0) = pd d1 ∧ pd (d1 + e1) = pc d0) → (d0 + e0 = H ∧ d1 + e1 = H) → post 6 (f_never, nI C, nI H, nI rc, f_status, f_bound, f_leastTotal, a_neighbour, a_walls, a_placed, a_starts, a_goals, a_rules, a_open, a_next, a_earliest, a_solo, a_cost, a_plan, a_since, upd (upd a_done 0 (nI (d0 + e0))) 1 (nI (d1 + e1))))
    (h0 : pc (d0 + e0) ≠ pd (d1 + e1) → ¬ (pc (d0 + e0) = pd d1 ∧ pd (d1 + e1) = pc d0) → ¬ (d0 + e0 = H ∧ d1 + e1 = H) → post 0 (f_never, nI C, nI H, nI rc, f_status, f_bound, f_leastTotal, a_neighbour, a_walls, a_placed, a_starts, a_goals, a_rules, a_open, a_next, a_earliest, a_solo, a_cost, a_plan, a_since, upd (upd a_done 0 (nI (d0 + e0))) 1 (nI (d1 + e1)))) :
    wX_advance_60 post (nI e0) (nI e1) f_never (nI C) (nI H) (nI rc) f_status f_bound f_leastTotal a_neighbour a_walls a_placed a_starts a_goals a_rules a_open a_next a_earliest a_solo a_cost a_plan a_since a_done := by
  have l0 := hpl d0 (by omega)
  have l1 := hpl d1 (by omega)
  have l2 := hpl (d0 + e0) (by omega)
  have l3 := hpl (d1 + e1) (by omega)
  have e13 : (13 : Int32) + nI d1 = nI (13 + d1) := nI_add 13 d1
  have e13' : nI (13 + d1) + nI e1 = nI (13 + (d1 + e1)) := (nI_add _ _).trans (congrArg nI (by omega))
  unfold wX_advance_60
  rw [a0, a1, e13, e13', nI_add d0 e0, nI_clamp (show d0 < 2 ^ 31 by omega), nI_clamp (show 13 + d1 < 2 ^ 31 by omega), nI_clamp (show d0 + e0 < 2 ^ 31 by omega), nI_clamp (show 13 + (d1 + e1) < 2 ^ 31 by omega), l0.1, l1.2.1, l2.1, l3.2.1]
  have go : pc (d0 + e0) ≠ pd (d1 + e1) → ¬ (pc (d0 + e0) = pd d1 ∧ pd (d1 + e1) = pc d0) → wX_advance_148 post (nI e0) (nI e1) f_never (nI C) (nI H) (nI rc) f_status f_bound f_leastTotal a_neighbour a_walls a_placed a_starts a_goals a_rules a_open a_next a_earliest a_solo a_cost a_plan a_since a_done := by
    intro c1 c2
    unfold wX_advance_148
    rw [a0, nI_add]
    refine nm_e ?_
    rw [pk_un (show (1 : Nat) ≠ 0 by decide), a1, nI_add]
    refine nm_e ?_
    rw [pk_un (show (0 : Nat) ≠ 1 by decide), pk_us, pk_us]
    exact pk_eq (d0 + e0) H (fun z => pk_eq (d1 + e1) H (fun z2 => h6 c1 c2 ⟨z, z2⟩) (fun z2 => h0 c1 c2 fun k => z2 k.2)) (fun z => h0 c1 c2 fun k => z k.1)
  refine ⟨vp_in_nI (by omega) (by omega), nm_e ⟨vp_in_nI (by omega) (by omega), nm_e ⟨vp_in_nI (by omega) (by omega), nm_e ⟨vp_in_nI (by omega) (by omega), nm_e ?_⟩⟩⟩⟩
  exact pk_eq (pc (d0 + e0)) (pd (d1 + e1)) h4 (fun c1 => pk_eq (pc (d0 + e0)) (pd d1) (fun c2 => pk_eq (pd (d1 + e1)) (pc d0) (fun c3 => h5 c1 ⟨c2, c3⟩) (fun c3 => go c1 fun k => c3 k.2)) (fun c2 => go c1 fun k => c2 k.1))
end
theorem rb_pick (x m : Int32) (d H : Nat) (hd : d ≤ H) (hH : H ≤ 12) : ∃ e, d + e ≤ H ∧ ∀ y : Int32, y = nI d → ∀ A : Int32 → Prop, A (nI e) → ((x &&& m = 0 → A 0) ∧ (¬ x &&& m = 0 → ((nI H ≤ y → A 0) ∧ (¬ nI H ≤ y → A 1)))) := by
  by_cases h1 : x &&& m = 0
  · exact ⟨0, hd, fun y ey A hA => br_t h1 hA⟩
  · by_cases h2 : H ≤ d
    · exact ⟨0, hd, fun y ey A hA => br_f h1 (br_t (by rw [ey]; exact nI_le h2 (by omega)) hA)⟩
    · exact ⟨1, by omega, fun y ey A hA => br_f h1 (br_f (by rw [ey]; exact nI_ge (by omega) (by omega)) hA)⟩
theorem i_vc_planned {k : Nat} {u : SX} {v : SY} (I : i_Rel k u v) (hk : k + 5 ≤ 2563) (v1 : Int32) (v2 : Int32) : wpX_planned (fun r => wpY_planned (fun r' => r' = r ∧ i_Rel (k + 5) u v) v v1 v2) u v1 v2 := by
  refine rb_el (P := fun u v => wpX_planned (fun r => wpY_planned (fun r' => r' = r ∧ i_Rel (k + 5) u v) v v1 v2) u v1 v2) ?_ I
  intro f_never f_status f_bound f_leastTotal a_neighbour a_walls a_placed a_starts a_goals a_rules a_open a_next a_earliest a_solo a_cost a_plan a_since a_done b_dead b_done b_path b_codes b_kept b_lone w h C H rc s g hB hS
  have hB' := hB
  obtain ⟨eC, hw, hw5, hC, hH1, hH, hrc, hg, hs, hnb, hne⟩ := hB'
  have R : i_Rel (k + 5) (f_never, nI C, nI H, nI rc, f_status, f_bound, f_leastTotal, a_neighbour, a_walls, a_placed, a_starts, a_goals, a_rules, a_open, a_next, a_earliest, a_solo, a_cost, a_plan, a_since, a_done) (nI w, nI h, nI H, nI rc, f_status, f_bound, a_walls, a_placed, b_dead, a_starts, a_goals, b_done, a_rules, b_path, b_codes, b_kept, b_lone) := rb_mk_Rel hB hS
  by_cases st : f_status = 2
  · subst st
    have fd : rb_FD a_plan a_done b_kept b_done w C H s := by
      rcases hS with ⟨z, _⟩ | ⟨z, _⟩ | ⟨_, z⟩ | z
      · exact absurd z (by decide)
      · exact absurd z (by decide)
      · exact z
      · exact absurd z (by decide)
    obtain ⟨kt, pc, pd, d0, d1, f1, f2, f3, f4, f5, f6, f7, f8, f9, f10, f11⟩ := fd
    by_cases hx : ∃ r t, r < 2 ∧ t < H + 1 ∧ v1 = nI r ∧ v2 = nI t
    · obtain ⟨r, t, hr, ht, rfl, rfl⟩ := hx
      unfold wpX_planned
      refine br_t rfl (rb_xIsR hr (br_f (by decide) (br_f (nI_pos (by omega)) (pk_le t H (fun z => ?_) (fun z => by omega)))))
      have e13 : nI r * 13 + nI t = nI (r * 13 + t) := by rw [rb_x13, nI_add]
      rw [e13, nI_clamp (by omega)]
      refine ⟨vp_in_nI (by omega) (by omega), ?_⟩
      refine rb_yPlanned (s := s) (kt := kt) (pc := pc) (pd := pd) eC hC hH hw hw5 z hr f1 hs f2 f3 f4 (fun j hj => (f5 j hj).2.2) ⟨?_, R⟩
      have h2 : r = 0 ∨ r = 1 := by omega
      rcases h2 with rfl | rfl
      · rw [show 0 * 13 + t = t by omega, (f5 t z).1]; rfl
      · rw [show 1 * 13 + t = 13 + t by omega, (f5 t z).2.1]; rfl
    · unfold wpX_planned
      refine br_t rfl ?_
      have Y : wpY_planned (fun r' => r' = -1 ∧ i_Rel (k + 5) (f_never, nI C, nI H, nI rc, 2, f_bound, f_leastTotal, a_neighbour, a_walls, a_placed, a_starts, a_goals, a_rules, a_open, a_next, a_earliest, a_solo, a_cost, a_plan, a_since, a_done) (nI w, nI h, nI H, nI rc, 2, f_bound, a_walls, a_placed, b_dead, a_starts, a_goals, b_done, a_rules, b_path, b_codes, b_kept, b_lone)) (nI w, nI h, nI H, nI rc, 2, f_bound, a_walls, a_placed, b_dead, a_starts, a_goals, b_done, a_rules, b_path, b_codes, b_kept, b_lone) v1 v2 := rb_yPlannedN hH hx ⟨rfl, R⟩
      rcases rb_num v1 (n := 2) (by decide) with ⟨r, hr, rfl⟩ | ⟨k2, _⟩
      · refine rb_xIsR hr (br_f (by decide) ?_)
        rcases rb_num v2 (n := H + 1) (by omega) with ⟨t, ht, rfl⟩ | ⟨k2, k3 | k3⟩
        · exact absurd ⟨r, t, hr, ht, rfl, rfl⟩ hx
        · exact br_t k3 Y
        · refine br_f k3.1 (br_f (fun k4 => ?_) Y)
          have := Int32.le_trans k3.2 k4
          rw [nI_leI (by omega) (by omega)] at this
          omega
      · exact rb_xNotR (k2 0 (by omega)) (k2 1 (by omega)) (br_t rfl Y)
  · unfold wpX_planned wpY_planned
    exact br_f st (br_f st ⟨rfl, R⟩)
theorem i_vc_advance {k : Nat} {u : SX} {v : SY} (I : i_Rel k u v) (hk : k + 5 ≤ 2563) (v1 : Int32) : wpX_advance (fun r u' => wpY_advance (fun r' v' => r' = r ∧ i_Rel (k + 5) u' v') v v1) u v1 := by
  refine rb_el (P := fun u v => wpX_advance (fun r u' => wpY_advance (fun r' v' => r' = r ∧ i_Rel (k + 5) u' v') v v1) u v1) ?_ I
  intro f_never f_status f_bound f_leastTotal a_neighbour a_walls a_placed a_starts a_goals a_rules a_open a_next a_earliest a_solo a_cost a_plan a_since a_done b_dead b_done b_path b_codes b_kept b_lone w h C H rc s g hB hS
  have hB' := hB
  obtain ⟨eC, hw, hw5, hC, hH1, hH, hrc, hg, hs, hnb, hne⟩ := hB'
  have R : i_Rel (k + 5) (f_never, nI C, nI H, nI rc, f_status, f_bound, f_leastTotal, a_neighbour, a_walls, a_placed, a_starts, a_goals, a_rules, a_open, a_next, a_earliest, a_solo, a_cost, a_plan, a_since, a_done) (nI w, nI h, nI H, nI rc, f_status, f_bound, a_walls, a_placed, b_dead, a_starts, a_goals, b_done, a_rules, b_path, b_codes, b_kept, b_lone) := rb_mk_Rel hB hS
  by_cases st : f_status = 2
  · subst st
    have fd : rb_FD a_plan a_done b_kept b_done w C H s := by
      rcases hS with ⟨z, _⟩ | ⟨z, _⟩ | ⟨_, z⟩ | z
      · exact absurd z (by decide)
      · exact absurd z (by decide)
      · exact z
      · exact absurd z (by decide)
    obtain ⟨kt, pc, pd, d0, d1, f1, f2, f3, f4, f5, f6, f7, f8, f9, f10, f11⟩ := fd
    obtain ⟨e0, b0, c0⟩ := rb_pick v1 1 d0 H f6 hH
    obtain ⟨e1, b1, c1⟩ := rb_pick v1 2 d1 H f7 hH
    have R2 : i_Rel (k + 5) (f_never, nI C, nI H, nI rc, 2, f_bound, f_leastTotal, a_neighbour, a_walls, a_placed, a_starts, a_goals, a_rules, a_open, a_next, a_earliest, a_solo, a_cost, a_plan, a_since, upd (upd a_done 0 (nI (d0 + e0))) 1 (nI (d1 + e1))) (nI w, nI h, nI H, nI rc, 2, f_bound, a_walls, a_placed, b_dead, a_starts, a_goals, upd (upd b_done 0 (nI (d0 + e0))) 1 (nI (d1 + e1)), a_rules, b_path, b_codes, b_kept, b_lone) :=
      rb_mk_Rel hB (Or.inr (Or.inr (Or.inl ⟨rfl, kt, pc, pd, d0 + e0, d1 + e1, f1, f2, f3, f4, f5, b0, b1, (pk_un (by decide)).trans pk_us, pk_us, (pk_un (by decide)).trans pk_us, pk_us⟩)))
    have Y : ∀ post : Int32 → SY → Prop, (pc (d0 + e0) = pd (d1 + e1) → post 4 (nI w, nI h, nI H, nI rc, 2, f_bound, a_walls, a_placed, b_dead, a_starts, a_goals, b_done, a_rules, b_path, b_codes, b_kept, b_lone)) → (pc (d0 + e0) ≠ pd (d1 + e1) → (pc (d0 + e0) = pd d1 ∧ pd (d1 + e1) = pc d0) → post 5 (nI w, nI h, nI H, nI rc, 2, f_bound, a_walls, a_placed, b_dead, a_starts, a_goals, b_done, a_rules, b_path, b_codes, b_kept, b_lone)) →
        (pc (d0 + e0) ≠ pd (d1 + e1) → ¬ (pc (d0 + e0) = pd d1 ∧ pd (d1 + e1) = pc d0) → (d0 + e0 = H ∧ d1 + e1 = H) → post 6 (nI w, nI h, nI H, nI rc, 2, f_bound, a_walls, a_placed, b_dead, a_starts, a_goals, upd (upd b_done 0 (nI (d0 + e0))) 1 (nI (d1 + e1)), a_rules, b_path, b_codes, b_kept, b_lone)) →
        (pc (d0 + e0) ≠ pd (d1 + e1) → ¬ (pc (d0 + e0) = pd d1 ∧ pd (d1 + e1) = pc d0) → ¬ (d0 + e0 = H ∧ d1 + e1 = H) → post 0 (nI w, nI h, nI H, nI rc, 2, f_bound, a_walls, a_placed, b_dead, a_starts, a_goals, upd (upd b_done 0 (nI (d0 + e0))) 1 (nI (d1 + e1)), a_rules, b_path, b_codes, b_kept, b_lone)) → wpY_advance post (nI w, nI h, nI H, nI rc, 2, f_bound, a_walls, a_placed, b_dead, a_starts, a_goals, b_done, a_rules, b_path, b_codes, b_kept, b_lone) v1 := by
      intro post y4 y5 y6 y0
      unfold wpY_advance
      refine br_t rfl (c0 _ f10 (fun z => wY_advance_35 post v1 z (nI w) (nI h) (nI H) (nI rc) 2 f_bound a_walls a_placed b_dead a_starts a_goals b_done a_rules b_path b_codes b_kept b_lone) ?_)
      refine c1 _ f11 (fun z => wY_advance_60 post (nI e0) z (nI w) (nI h) (nI H) (nI rc) 2 f_bound a_walls a_placed b_dead a_starts a_goals b_done a_rules b_path b_codes b_kept b_lone) ?_
      exact rb_yAdv60 (s := s) eC hC hH hw hw5 f1 hs f2 f3 f4 (fun j hj => (f5 j hj).2.2) f10 f11 b0 b1 y4 y5 y6 y0
    unfold wpX_advance
    refine br_t rfl (c0 _ f8 (fun z => wX_advance_35 _ v1 z f_never (nI C) (nI H) (nI rc) 2 f_bound f_leastTotal a_neighbour a_walls a_placed a_starts a_goals a_rules a_open a_next a_earliest a_solo a_cost a_plan a_since a_done) ?_)
    refine c1 _ f9 (fun z => wX_advance_60 _ (nI e0) z f_never (nI C) (nI H) (nI rc) 2 f_bound f_leastTotal a_neighbour a_walls a_placed a_starts a_goals a_rules a_open a_next a_earliest a_solo a_cost a_plan a_since a_done) ?_
    refine rb_xAdv60 (pc := pc) (pd := pd) hC hH f5 f8 f9 b0 b1 (fun z1 => ?_) (fun z1 z2 => ?_) (fun z1 z2 z3 => ?_) (fun z1 z2 z3 => ?_)
    · exact Y _ (fun _ => ⟨rfl, R⟩) (fun y1 => absurd z1 y1) (fun y1 => absurd z1 y1) (fun y1 => absurd z1 y1)
    · exact Y _ (fun y1 => absurd y1 z1) (fun _ _ => ⟨rfl, R⟩) (fun _ y2 => absurd z2 y2) (fun _ y2 => absurd z2 y2)
    · exact Y _ (fun y1 => absurd y1 z1) (fun _ y2 => absurd y2 z2) (fun _ _ _ => ⟨rfl, R2⟩) (fun _ _ y3 => absurd z3 y3)
    · exact Y _ (fun y1 => absurd y1 z1) (fun _ y2 => absurd y2 z2) (fun _ _ y3 => absurd y3 z3) (fun _ _ _ => ⟨rfl, R2⟩)
  · unfold wpX_advance wpY_advance
    exact br_f st (br_f st ⟨rfl, R⟩)
theorem i_vc_progress {k : Nat} {u : SX} {v : SY} (I : i_Rel k u v) (hk : k + 5 ≤ 2563) (v1 : Int32) : wpX_progress (fun r => wpY_progress (fun r' => r' = r ∧ i_Rel (k + 5) u v) v v1) u v1 := by
  refine rb_el (P := fun u v => wpX_progress (fun r => wpY_progress (fun r' => r' = r ∧ i_Rel (k + 5) u v) v v1) u v1) ?_ I
  intro f_never f_status f_bound f_leastTotal a_neighbour a_walls a_placed a_starts a_goals a_rules a_open a_next a_earliest a_solo a_cost a_plan a_since a_done b_dead b_done b_path b_codes b_kept b_lone w h C H rc s g hB hS
  have R : i_Rel (k + 5) (f_never, nI C, nI H, nI rc, f_status, f_bound, f_leastTotal, a_neighbour, a_walls, a_placed, a_starts, a_goals, a_rules, a_open, a_next, a_earliest, a_solo, a_cost, a_plan, a_since, a_done) (nI w, nI h, nI H, nI rc, f_status, f_bound, a_walls, a_placed, b_dead, a_starts, a_goals, b_done, a_rules, b_path, b_codes, b_kept, b_lone) := rb_mk_Rel hB hS
  unfold wpX_progress wpY_progress
  by_cases st : f_status = 2
  · subst st
    have fd : rb_FD a_plan a_done b_kept b_done w C H s := by
      rcases hS with ⟨z, _⟩ | ⟨z, _⟩ | ⟨_, z⟩ | z
      · exact absurd z (by decide)
      · exact absurd z (by decide)
      · exact z
      · exact absurd z (by decide)
    obtain ⟨kt, pc, pd, d0, d1, f1, f2, f3, f4, f5, f6, f7, f8, f9, f10, f11⟩ := fd
    refine br_t rfl ?_
    rcases rb_num v1 (n := 2) (by decide) with ⟨r, hr, rfl⟩ | ⟨k2, _⟩
    · refine rb_xIsR hr (br_f (by decide) ⟨vp_in_nI (by omega) (by omega), br_t rfl (rb_yIsR hr (br_f (by decide) ⟨vp_in_nI (by omega) (by omega), ?_, R⟩))⟩)
      rw [nI_clamp (by omega)]
      have h2 : r = 0 ∨ r = 1 := by omega
      rcases h2 with rfl | rfl
      · rw [f8, f10]
      · rw [f9, f11]
    · exact rb_xNotR (k2 0 (by omega)) (k2 1 (by omega)) (br_t rfl (br_t rfl (rb_yNotR (k2 0 (by omega)) (k2 1 (by omega)) (br_t rfl ⟨rfl, R⟩))))
  · exact br_f st (br_f st ⟨rfl, R⟩)
theorem i_vc_rewind {k : Nat} {u : SX} {v : SY} (I : i_Rel k u v) (hk : k + 5 ≤ 2563) : wpX_rewind (fun r u' => wpY_rewind (fun r' v' => r' = r ∧ i_Rel (k + 5) u' v') v) u := by
  refine rb_el (P := fun u v => wpX_rewind (fun r u' => wpY_rewind (fun r' v' => r' = r ∧ i_Rel (k + 5) u' v') v) u) ?_ I
  intro f_never f_status f_bound f_leastTotal a_neighbour a_walls a_placed a_starts a_goals a_rules a_open a_next a_earliest a_solo a_cost a_plan a_since a_done b_dead b_done b_path b_codes b_kept b_lone w h C H rc s g hB hS
  have R : i_Rel (k + 5) (f_never, nI C, nI H, nI rc, f_status, f_bound, f_leastTotal, a_neighbour, a_walls, a_placed, a_starts, a_goals, a_rules, a_open, a_next, a_earliest, a_solo, a_cost, a_plan, a_since, a_done) (nI w, nI h, nI H, nI rc, f_status, f_bound, a_walls, a_placed, b_dead, a_starts, a_goals, b_done, a_rules, b_path, b_codes, b_kept, b_lone) := rb_mk_Rel hB hS
  unfold wpX_rewind wpY_rewind
  by_cases st : f_status = 2
  · subst st
    have fd : rb_FD a_plan a_done b_kept b_done w C H s := by
      rcases hS with ⟨z, _⟩ | ⟨z, _⟩ | ⟨_, z⟩ | z
      · exact absurd z (by decide)
      · exact absurd z (by decide)
      · exact z
      · exact absurd z (by decide)
    obtain ⟨kt, pc, pd, d0, d1, f1, f2, f3, f4, f5, f6, f7, f8, f9, f10, f11⟩ := fd
    refine br_t rfl (nm_e (nm_e (br_t rfl (nm_e (nm_e ⟨rfl, ?_⟩)))))
    exact rb_mk_Rel hB (Or.inr (Or.inr (Or.inl ⟨rfl, kt, pc, pd, 0, 0, f1, f2, f3, f4, f5, Nat.zero_le _, Nat.zero_le _, (pk_un (by decide)).trans pk_us, pk_us, (pk_un (by decide)).trans pk_us, pk_us⟩)))
  · exact br_f st (br_f st ⟨rfl, R⟩)
end
section
/-! what is owed: lone costs and conflicts -/
section
variable {mv : Nat → Nat → Nat → Nat → Nat → Prop} {Op : Nat → Nat → Nat → Prop} {g : Nat → Nat} {H : Nat}
theorem rb_E_min {r c x due : Nat} (hx : x ≤ H) (hE : rb_IsE mv Op g H r 0 c x) (hd : due ≤ H) (h1 : rb_LF mv Op g H r 0 c due) (h2 : ∀ u, u < due → ¬ rb_LF mv Op g H r 0 c u) : due = x := by
  have a := (hE.2 due (Nat.zero_le _) hd).mpr h1
  have b := (hE.2 x (Nat.zero_le _) hx).mp (Nat.le_refl x)
  have c : ¬ x < due := fun z => h2 x z b
  omega
theorem rb_E_no {r c u : Nat} (hH : H < 1000) (hE : rb_IsE mv Op g H r 0 c 1000) (hu : u ≤ H) : ¬ rb_LF mv Op g H r 0 c u := by
  intro h
  have := (hE.2 u (Nat.zero_le _) hu).mpr h
  omega
theorem rb_ok1 {u v k t c d : Nat} (h : rb_ok (rb_sl mv g 0 u) 5 k t c) : rb_ok (rb_sY mv g 1 u v) 25 k t (c, d) := by
  refine rb_ok_map (fun s (q : Nat × Nat) => q = (s, d)) (fun t s m s' q hm hr hs => ⟨5 * m, by omega, (s', d), ?_, rfl⟩) _ _ _ _ rfl h
  subst hr
  refine ⟨fun _ => ?_, fun z => absurd z (by decide), fun z => absurd rfl z, fun _ => ⟨by omega, rfl⟩, fun z => absurd z (by decide)⟩
  rw [show 5 * m / 5 = m by omega]
  exact hs
theorem rb_ok2 {u v k t c d : Nat} (h : rb_ok (rb_sl mv g 1 v) 5 k t d) : rb_ok (rb_sY mv g 2 u v) 25 k t (c, d) := by
  refine rb_ok_map (fun s (q : Nat × Nat) => q = (c, s)) (fun t s m s' q hm hr hs => ⟨m, by omega, (c, s'), ?_, rfl⟩) _ _ _ _ rfl h
  subst hr
  refine ⟨fun z => absurd rfl z, fun _ => ⟨by omega, rfl⟩, fun _ => ?_, fun z => absurd z (by decide), fun z => absurd z (by decide)⟩
  rw [show m % 5 = m by omega]
  exact hs
theorem rb_same0 {C arr : Nat} {s0 : Nat × Nat} {p cs : Nat → Nat} {ps : Nat → Nat × Nat} {path codes : Nat → Int32} (M : rb_MV mv Op) (h : rb_TR mv Op g H 0 arr H p) (hr : rb_RN (rb_sY mv g 1 arr arr) H C s0 cs ps path codes) (e0 : p 0 = s0.1) (hL : rb_LF mv Op g H 0 0 (p 0) arr) : ∀ t, t ≤ H → p t = (ps t).1 := by
  have ok : ∀ i, i < H → rb_LF mv Op g H 0 (i + 1) (ps (i + 1)).1 arr := by
    intro i hi
    have st := (hr.2.1 i hi).2.1.1 (by decide)
    refine ⟨M.2.2.1 _ _ _ _ _ st.1, st.2, ?_⟩
    have := rb_ok_plan (St := rb_sY mv g 1 arr arr) (N := 25) cs ps (H - (i + 1)) (i + 1) (fun j h1 h2 => ⟨(hr.2.1 j (by omega)).1, (hr.2.1 j (by omega)).2.1⟩)
    exact rb_ok_map (fun (s : Nat × Nat) q => s.1 = q) (fun t s m s' q hm hr hs => ⟨m / 5, by omega, s'.1, hr ▸ hs.1 (by decide), rfl⟩) _ _ _ _ rfl this
  refine rb_TR_Y (q := fun j => (ps j).1) (cs := fun i => cs i / 5) M h (by show p 0 = (ps 0).1; rw [hr.1]; exact e0) hL (fun i hi => ?_) (fun i hi m c' hm hmv hLF => ?_)
  · have st := (hr.2.1 i hi).2.1.1 (by decide)
    have l := (hr.2.1 i hi).1
    exact ⟨by show cs i / 5 < 5; omega, st.1, st.2, ok i hi⟩
  · have hm' : m < cs i / 5 := hm
    have l := (hr.2.1 i hi).1
    refine (hr.2.1 i hi).2.2 (5 * m) (by omega) (c', (ps i).2) ⟨fun _ => ?_, fun z => absurd z (by decide), fun z => absurd rfl z, fun _ => ⟨by omega, rfl⟩, fun z => absurd z (by decide)⟩ (rb_ok1 hLF.2.2)
    rw [show 5 * m / 5 = m by omega]
    exact ⟨hmv, hLF.2.1⟩
theorem rb_same1 {C arr : Nat} {s0 : Nat × Nat} {p cs : Nat → Nat} {ps : Nat → Nat × Nat} {path codes : Nat → Int32} (M : rb_MV mv Op) (h : rb_TR mv Op g H 1 arr H p) (hr : rb_RN (rb_sY mv g 2 arr arr) H C s0 cs ps path codes) (e0 : p 0 = s0.2) (hL : rb_LF mv Op g H 1 0 (p 0) arr) : ∀ t, t ≤ H → p t = (ps t).2 := by
  have ok : ∀ i, i < H → rb_LF mv Op g H 1 (i + 1) (ps (i + 1)).2 arr := by
    intro i hi
    have st := (hr.2.1 i hi).2.1.2.2.1 (by decide)
    refine ⟨M.2.2.1 _ _ _ _ _ st.1, st.2, ?_⟩
    have := rb_ok_plan (St := rb_sY mv g 2 arr arr) (N := 25) cs ps (H - (i + 1)) (i + 1) (fun j h1 h2 => ⟨(hr.2.1 j (by omega)).1, (hr.2.1 j (by omega)).2.1⟩)
    exact rb_ok_map (fun (s : Nat × Nat) q => s.2 = q) (fun t s m s' q hm hr hs => ⟨m % 5, by omega, s'.2, hr ▸ hs.2.2.1 (by decide), rfl⟩) _ _ _ _ rfl this
  refine rb_TR_Y (q := fun j => (ps j).2) (cs := fun i => cs i % 5) M h (by show p 0 = (ps 0).2; rw [hr.1]; exact e0) hL (fun i hi => ?_) (fun i hi m c' hm hmv hLF => ?_)
  · have st := (hr.2.1 i hi).2.1.2.2.1 (by decide)
    exact ⟨by show cs i % 5 < 5; omega, st.1, st.2, ok i hi⟩
  · have hm' : m < cs i % 5 := hm
    have l := (hr.2.1 i hi).2.1.2.1 rfl
    refine (hr.2.1 i hi).2.2 m (by omega) ((ps i).1, c') ⟨fun z => absurd rfl z, fun _ => ⟨by omega, rfl⟩, fun _ => ?_, fun z => absurd z (by decide), fun z => absurd z (by decide)⟩ (rb_ok2 hLF.2.2)
    rw [show m % 5 = m by omega]
    exact ⟨hmv, hLF.2.1⟩
end
/-- robot r is placed and can arrive -/
def rb_Fe (a_walls a_placed a_rules : Nat → Int32) (rc w C H : Nat) (s g : Nat → Nat) (r : Nat) : Prop := a_placed r ≠ 0 ∧ ∃ u, u ≤ H ∧ rb_LF (rb_mv a_walls a_rules rc w C) (rb_Op a_walls a_rules rc C) g H r 0 (s r) u
section
variable {f_never f_status f_bound f_leastTotal : Int32} {a_neighbour a_walls a_placed a_starts a_goals a_rules a_open a_next a_earliest a_solo a_cost a_plan a_since a_done : Nat → Int32} {w C H rc : Nat} {g s : Nat → Nat}
theorem rb_xSoloU {post : Int32 → SX → Prop} {r : Nat} (hr : r < 2) (hpl : a_placed r = 0) (hP : post (-1) (f_never, nI C, nI H, nI rc, f_status, f_bound, f_leastTotal, a_neighbour, a_walls, a_placed, a_starts, a_goals, a_rules, a_open, a_next, a_earliest, a_solo, a_cost, a_plan, a_since, a_done)) : wpX_soloCost post (f_never, nI C, nI H, nI rc, f_status, f_bound, f_leastTotal, a_neighbour, a_walls, a_placed, a_starts, a_goals, a_rules, a_open, a_next, a_earliest, a_solo, a_cost, a_plan, a_since, a_done) (nI r) := by
  unfold wpX_soloCost
  exact rb_xIsR hr (br_f (by decide) ⟨vp_in_nI (by omega) (by omega), br_t (by rw [nI_clamp (by omega)]; exact hpl) hP⟩)
theorem rb_xSoloN {post : Int32 → SX → Prop} {x : Int32} (h0 : x ≠ 0) (h1 : x ≠ 1) (hP : post (-1) (f_never, nI C, nI H, nI rc, f_status, f_bound, f_leastTotal, a_neighbour, a_walls, a_placed, a_starts, a_goals, a_rules, a_open, a_next, a_earliest, a_solo, a_cost, a_plan, a_since, a_done)) : wpX_soloCost post (f_never, nI C, nI H, nI rc, f_status, f_bound, f_leastTotal, a_neighbour, a_walls, a_placed, a_starts, a_goals, a_rules, a_open, a_next, a_earliest, a_solo, a_cost, a_plan, a_since, a_done) x := by
  unfold wpX_soloCost
  exact rb_xNotR h0 h1 (br_t rfl hP)
theorem rb_xSoloR {post : Int32 → SX → Prop} {r : Nat} (hr : r < 2) (hH : H ≤ 12) (hw : 1 ≤ w) (hC : C ≤ 15) (hrc : rc ≤ 8) (hg : ∀ r, r < 2 → g r < C ∧ a_goals r = nI (g r)) (hs : ∀ r, r < 2 → s r < C ∧ a_starts r = nI (s r))
    (hnb : ∀ c d, c < C → d < 5 → rb_NB w C a_neighbour c d)
    (hF : ∀ a_open' a_next' a_earliest', ¬ rb_Fe a_walls a_placed a_rules rc w C H s g r → (∀ q, q < 2 → q ≠ r → rb_TB a_walls a_rules a_open a_next a_earliest rc w C H g q → rb_TB a_walls a_rules a_open' a_next' a_earliest' rc w C H g q) → (∀ q, q < 2 → (a_placed r ≠ 0 → q ≠ r → ∀ t c d, t < H → c < C → d < 5 → rb_NT (rb_mv a_walls a_rules rc w C) a_next q t c d) → a_placed r ≠ 0 → ∀ t c d, t < H → c < C → d < 5 → rb_NT (rb_mv a_walls a_rules rc w C) a_next' q t c d) → post (-1) (f_never, nI C, nI H, nI rc, f_status, f_bound, f_leastTotal, a_neighbour, a_walls, a_placed, a_starts, a_goals, a_rules, a_open', a_next', a_earliest', a_solo, a_cost, a_plan, a_since, a_done))
    (hT : ∀ a_open' a_next' a_earliest' x, x ≤ H → a_placed r ≠ 0 → rb_IsE (rb_mv a_walls a_rules rc w C) (rb_Op a_walls a_rules rc C) g H r 0 (s r) x → rb_TB a_walls a_rules a_open' a_next' a_earliest' rc w C H g r → (∀ q, q < 2 → q ≠ r → rb_TB a_walls a_rules a_open a_next a_earliest rc w C H g q → rb_TB a_walls a_rules a_open' a_next' a_earliest' rc w C H g q) → (∀ q, q < 2 → (a_placed r ≠ 0 → q ≠ r → ∀ t c d, t < H → c < C → d < 5 → rb_NT (rb_mv a_walls a_rules rc w C) a_next q t c d) → a_placed r ≠ 0 → ∀ t c d, t < H → c < C → d < 5 → rb_NT (rb_mv a_walls a_rules rc w C) a_next' q t c d) → post (nI x) (f_never, nI C, nI H, nI rc, f_status, f_bound, f_leastTotal, a_neighbour, a_walls, a_placed, a_starts, a_goals, a_rules, a_open', a_next', a_earliest', a_solo, a_cost, a_plan, a_since, a_done)) :
    wpX_soloCost post (f_never, nI C, nI H, nI rc, f_status, f_bound, f_leastTotal, a_neighbour, a_walls, a_placed, a_starts, a_goals, a_rules, a_open, a_next, a_earliest, a_solo, a_cost, a_plan, a_since, a_done) (nI r) := by
  by_cases hpl : a_placed r = 0
  · exact rb_xSoloU hr hpl (hF a_open a_next a_earliest (fun z => z.1 hpl) (fun q _ _ k => k) (fun q _ k z => absurd hpl z))
  · refine rb_xSoloCost (g := g) hr hH hw hC hrc (hg r hr).1 (hg r hr).2 (hs r hr).1 (hs r hr).2 hpl hnb (fun o n e f1 f2 f3 T => ?_)
    have fr : ∀ q, q < 2 → q ≠ r → rb_TB a_walls a_rules a_open a_next a_earliest rc w C H g q → rb_TB a_walls a_rules o n e rc w C H g q := fun q hq hqr k => rb_TB_fr hq hr hqr hH hC f1 f2 f3 k
    have nx : ∀ q, q < 2 → (a_placed r ≠ 0 → q ≠ r → ∀ t c d, t < H → c < C → d < 5 → rb_NT (rb_mv a_walls a_rules rc w C) a_next q t c d) → a_placed r ≠ 0 → ∀ t c d, t < H → c < C → d < 5 → rb_NT (rb_mv a_walls a_rules rc w C) n q t c d := by
      intro q hq k hz t c d h1 h2 h3
      by_cases e : q = r
      · rw [e]; exact T.2.1 t c d h1 h2 h3
      · exact rb_NT_fr hq hr e (by omega) (by omega) h3 f2 (k hz e t c d h1 h2 h3)
    refine ⟨fun x hx hE => hT o n e x hx hpl hE T fr nx, fun hE => hF o n e (fun z => ?_) fr nx⟩
    obtain ⟨u, hu, hL⟩ := z.2
    exact rb_E_no (by omega) hE hu hL
end
theorem rb_pl2 {a : Nat → Int32} {r : Nat} (hr : r < 2) (p0 : a 0 ≠ 0) (p1 : a 1 ≠ 0) : a r ≠ 0 := by
  have h : r = 0 ∨ r = 1 := by omega
  rcases h with rfl | rfl
  · exact p0
  · exact p1
theorem rb_SS_next {f_status f_bound f_leastTotal : Int32} {a_walls a_placed a_rules a_next a_next' a_cost a_plan a_done b_kept b_done : Nat → Int32} {w C H rc : Nat} {s g : Nat → Nat} (h : rb_SS f_status f_bound f_leastTotal a_walls a_placed a_rules a_next a_cost a_plan a_done b_kept b_done w C H rc s g)
    (hn : a_placed 0 ≠ 0 → a_placed 1 ≠ 0 → (∀ r t c d, r < 2 → t < H → c < C → d < 5 → rb_NT (rb_mv a_walls a_rules rc w C) a_next r t c d) → ∀ r t c d, r < 2 → t < H → c < C → d < 5 → rb_NT (rb_mv a_walls a_rules rc w C) a_next' r t c d) :
    rb_SS f_status f_bound f_leastTotal a_walls a_placed a_rules a_next' a_cost a_plan a_done b_kept b_done w C H rc s g := by
  rcases h with h | ⟨h, p0, p1, B, L, k1, k2, k3, k4, k5, k6, k7, k8⟩ | h
  · exact Or.inl h
  · exact Or.inr (Or.inl ⟨h, p0, p1, B, L, k1, k2, k3, k4, k5, k6, hn p0 p1 k7, k8⟩)
  · exact Or.inr (Or.inr h)
theorem i_vc_soloCost {k : Nat} {u : SX} {v : SY} (I : i_Rel k u v) (hk : k + 5 ≤ 2563) (v1 : Int32) : wpX_soloCost (fun r u' => wpY_soloCost (fun r' v' => r' = r ∧ i_Rel (k + 5) u' v') v v1) u v1 := by
  refine rb_el (P := fun u v => wpX_soloCost (fun r u' => wpY_soloCost (fun r' v' => r' = r ∧ i_Rel (k + 5) u' v') v v1) u v1) ?_ I
  intro f_never f_status f_bound f_leastTotal a_neighbour a_walls a_placed a_starts a_goals a_rules a_open a_next a_earliest a_solo a_cost a_plan a_since a_done b_dead b_done b_path b_codes b_kept b_lone w h C H rc s g hB hS
  have hB' := hB
  obtain ⟨eC, hw, hw5, hC, hH1, hH, hrc, hg, hs, hnb, hne⟩ := hB'
  rcases rb_num v1 (n := 2) (by decide) with ⟨r, hr, rfl⟩ | ⟨k2, _⟩
  · refine rb_xSoloR (s := s) (g := g) hr hH hw hC hrc hg hs hnb (fun o n e hnF _ nx => ?_) (fun o n e x hx hpl hE _ _ nx => ?_)
    · have S' := rb_SS_next (a_next' := n) hS (fun p0 p1 k1 q t c d hq => nx q hq (fun _ _ t c d => k1 q t c d hq) (rb_pl2 hr p0 p1) t c d)
      by_cases hpl : a_placed r = 0
      · exact rb_ySoloU hr hpl ⟨rfl, rb_mk_Rel hB S'⟩
      · refine rb_ySolo (s := s) (g := g) eC hC hH hw hw5 hrc hr hpl hg hs (fun due cs ps b_dead b_path b_codes hd hL _ _ => absurd ⟨hpl, due, hd, hL⟩ hnF) (fun b_dead b_path b_codes _ => ⟨rfl, rb_mk_Rel hB S'⟩)
    · have S' := rb_SS_next (a_next' := n) hS (fun p0 p1 k1 q t c d hq => nx q hq (fun _ _ t c d => k1 q t c d hq) hpl t c d)
      refine rb_ySolo (s := s) (g := g) eC hC hH hw hw5 hrc hr hpl hg hs (fun due cs ps b_dead b_path b_codes hd hL hm _ => ⟨?_, rb_mk_Rel hB S'⟩) (fun b_dead b_path b_codes hno => ?_)
      · rw [rb_E_min hx hE hd hL hm]
      · exact absurd ((hE.2 x (Nat.zero_le _) hx).mp (Nat.le_refl x)) (hno x hx)
  · exact rb_xSoloN (k2 0 (by omega)) (k2 1 (by omega)) (rb_ySoloN (k2 0 (by omega)) (k2 1 (by omega)) ⟨rfl, rb_mk_Rel hB hS⟩)
end
section
/-! what is owed: lone conflicts -/
section
variable {f_never f_status f_bound f_leastTotal : Int32} {a_neighbour a_walls a_placed a_starts a_goals a_rules a_open a_next a_earliest a_solo a_cost a_plan a_since a_done : Nat → Int32} {w C H rc : Nat} {g s : Nat → Nat}
theorem rb_xConf {post : Int32 → SX → Prop} (hH : H ≤ 12) (hw : 1 ≤ w) (hC : C ≤ 15) (hrc : rc ≤ 8) (hg : ∀ r, r < 2 → g r < C ∧ a_goals r = nI (g r)) (hs : ∀ r, r < 2 → s r < C ∧ a_starts r = nI (s r))
    (hnb : ∀ c d, c < C → d < 5 → rb_NB w C a_neighbour c d)
    (hF : ∀ a_open' a_next' a_earliest', ¬ (rb_Fe a_walls a_placed a_rules rc w C H s g 0 ∧ rb_Fe a_walls a_placed a_rules rc w C H s g 1) → (a_placed 0 ≠ 0 → a_placed 1 ≠ 0 → (∀ r t c d, r < 2 → t < H → c < C → d < 5 → rb_NT (rb_mv a_walls a_rules rc w C) a_next r t c d) → ∀ r t c d, r < 2 → t < H → c < C → d < 5 → rb_NT (rb_mv a_walls a_rules rc w C) a_next' r t c d) →
      post (-1) (f_never, nI C, nI H, nI rc, f_status, f_bound, f_leastTotal, a_neighbour, a_walls, a_placed, a_starts, a_goals, a_rules, a_open', a_next', a_earliest', a_solo, a_cost, a_plan, a_since, a_done))
    (hT : ∀ a_open' a_next' a_earliest' a_solo' x0 x1 p q, x0 ≤ H → x1 ≤ H → a_placed 0 ≠ 0 → a_placed 1 ≠ 0 → rb_IsE (rb_mv a_walls a_rules rc w C) (rb_Op a_walls a_rules rc C) g H 0 0 (s 0) x0 → rb_IsE (rb_mv a_walls a_rules rc w C) (rb_Op a_walls a_rules rc C) g H 1 0 (s 1) x1 →
      p 0 = s 0 → q 0 = s 1 → rb_TR (rb_mv a_walls a_rules rc w C) (rb_Op a_walls a_rules rc C) g H 0 x0 H p → rb_TR (rb_mv a_walls a_rules rc w C) (rb_Op a_walls a_rules rc C) g H 1 x1 H q →
      (a_placed 0 ≠ 0 → a_placed 1 ≠ 0 → (∀ r t c d, r < 2 → t < H → c < C → d < 5 → rb_NT (rb_mv a_walls a_rules rc w C) a_next r t c d) → ∀ r t c d, r < 2 → t < H → c < C → d < 5 → rb_NT (rb_mv a_walls a_rules rc w C) a_next' r t c d) →
      post (nI (rb_cf p q H (H + 1) 0)) (f_never, nI C, nI H, nI rc, f_status, f_bound, f_leastTotal, a_neighbour, a_walls, a_placed, a_starts, a_goals, a_rules, a_open', a_next', a_earliest', a_solo', a_cost, a_plan, a_since, a_done)) :
    wpX_soloConflict post (f_never, nI C, nI H, nI rc, f_status, f_bound, f_leastTotal, a_neighbour, a_walls, a_placed, a_starts, a_goals, a_rules, a_open, a_next, a_earliest, a_solo, a_cost, a_plan, a_since, a_done) := by
  have s0 := hs 0 (by omega)
  have s1 := hs 1 (by omega)
  unfold wpX_soloConflict
  refine rb_xSoloR (r := 0) (s := s) (g := g) (by omega) hH hw hC hrc hg hs hnb (fun o0 n0 e0 nF0 fr0 nx0 => ?_) (fun o0 n0 e0 x0 hx0 pl0 E0 T0 fr0 nx0 => ?_)
  · refine rb_xSoloR (r := 1) (s := s) (g := g) (by omega) hH hw hC hrc hg hs hnb (fun o1 n1 e1 nF1 fr1 nx1 => ?_) (fun o1 n1 e1 x1 hx1 pl1 E1 T1 fr1 nx1 => ?_)
    · exact br_t rb_neg1 (hF o1 n1 e1 (fun z => nF0 z.1) (fun p0 p1 k r t c d hr => nx1 r hr (fun _ _ => nx0 r hr (fun _ _ t c d => k r t c d hr) p0) p1 t c d))
    · exact br_t rb_neg1 (hF o1 n1 e1 (fun z => nF0 z.1) (fun p0 p1 k r t c d hr => nx1 r hr (fun _ _ => nx0 r hr (fun _ _ t c d => k r t c d hr) p0) p1 t c d))
  · refine rb_xSoloR (r := 1) (s := s) (g := g) (by omega) hH hw hC hrc hg hs hnb (fun o1 n1 e1 nF1 fr1 nx1 => ?_) (fun o1 n1 e1 x1 hx1 pl1 E1 T1 fr1 nx1 => ?_)
    · exact br_f (nI_pos (by omega)) (br_f (by decide) (hF o1 n1 e1 (fun z => nF1 z.2) (fun p0 p1 k r t c d hr => nx1 r hr (fun _ _ => nx0 r hr (fun _ _ t c d => k r t c d hr) p0) p1 t c d)))
    · have T0' := fr1 0 (by omega) (by omega) T0
      refine br_f (nI_pos (by omega)) (br_t (nI_pos' (by omega)) ?_)
      refine rb_xTrace (r := 0) (s := s 0) (g := g) (by omega) hH hw hx0 hC T0' s0.1 s0.2 E0 (fun p so0 f0 p0 tr0 ps0 pC0 => ?_)
      refine rb_xTrace (r := 1) (s := s 1) (g := g) (by omega) hH hw hx1 hC T1 s1.1 s1.2 E1 (fun q so1 f1 q0 tr1 ps1 pC1 => ?_)
      refine ⟨H + 2, rb_xConf36 (p := p) (q := q) hH hC (fun j hj => ⟨?_, pC0 j hj⟩) (fun j hj => ⟨?_, pC1 j hj⟩) (H + 1) 0 (H + 2) (by omega) (by omega) ?_⟩
      · rw [f1 j (by omega)]
        have := ps0 j hj
        rw [show 0 * 13 + j = j by omega] at this
        exact this
      · have := ps1 j hj
        rw [show 1 * 13 + j = 13 + j by omega] at this
        exact this
      · exact hT o1 n1 e1 so1 x0 x1 p q hx0 hx1 pl0 pl1 E0 E1 p0 q0 tr0 tr1 (fun p0 p1 k r t c d hr => nx1 r hr (fun _ _ => nx0 r hr (fun _ _ t c d => k r t c d hr) p0) p1 t c d)
end
section
variable {f_status f_bound : Int32} {a_walls a_placed a_dead a_start a_goal a_done a_rules a_path a_codes a_kept a_lone : Nat → Int32} {w h C H rc : Nat} {g s : Nat → Nat}
theorem rb_yConf {post : Int32 → SY → Prop} (eC : w * h = C) (hC : C ≤ 15) (hH : H ≤ 12) (hw : 1 ≤ w) (hw5 : w ≤ 5) (hrc : rc ≤ 8) (hg : ∀ r, r < 2 → g r < C ∧ a_goal r = nI (g r)) (hs : ∀ r, r < 2 → s r < C ∧ a_start r = nI (s r))
    (hF : ∀ a_dead a_path a_codes a_lone, ¬ (rb_Fe a_walls a_placed a_rules rc w C H s g 0 ∧ rb_Fe a_walls a_placed a_rules rc w C H s g 1) → post (-1) (nI w, nI h, nI H, nI rc, f_status, f_bound, a_walls, a_placed, a_dead, a_start, a_goal, a_done, a_rules, a_path, a_codes, a_kept, a_lone))
    (hT : ∀ a_dead a_path a_codes a_lone d0 d1 cs0 cs1 ps0 ps1 pa0 pa1 co0 co1, a_placed 0 ≠ 0 → a_placed 1 ≠ 0 → d0 ≤ H → d1 ≤ H → rb_LF (rb_mv a_walls a_rules rc w C) (rb_Op a_walls a_rules rc C) g H 0 0 (s 0) d0 → (∀ u, u < d0 → ¬ rb_LF (rb_mv a_walls a_rules rc w C) (rb_Op a_walls a_rules rc C) g H 0 0 (s 0) u) →
      rb_LF (rb_mv a_walls a_rules rc w C) (rb_Op a_walls a_rules rc C) g H 1 0 (s 1) d1 → (∀ u, u < d1 → ¬ rb_LF (rb_mv a_walls a_rules rc w C) (rb_Op a_walls a_rules rc C) g H 1 0 (s 1) u) →
      rb_RN (rb_sY (rb_mv a_walls a_rules rc w C) g 1 d0 d0) H C (s 0, s 1) cs0 ps0 pa0 co0 → rb_RN (rb_sY (rb_mv a_walls a_rules rc w C) g 2 d1 d1) H C (s 0, s 1) cs1 ps1 pa1 co1 → post (nI (rb_cf (fun j => (ps0 j).1) (fun j => (ps1 j).2) H (H + 1) 0)) (nI w, nI h, nI H, nI rc, f_status, f_bound, a_walls, a_placed, a_dead, a_start, a_goal, a_done, a_rules, a_path, a_codes, a_kept, a_lone)) :
    wpY_soloConflict post (nI w, nI h, nI H, nI rc, f_status, f_bound, a_walls, a_placed, a_dead, a_start, a_goal, a_done, a_rules, a_path, a_codes, a_kept, a_lone) := by
  unfold wpY_soloConflict
  by_cases pl0 : a_placed 0 = 0
  · exact rb_ySoloU (r := 0) (by omega) pl0 (br_f (by decide) (hF _ _ _ _ fun z => z.1.1 pl0))
  refine rb_ySolo (r := 0) (s := s) (g := g) eC hC hH hw hw5 hrc (by omega) pl0 hg hs (fun d0 cs0 ps0 dead0 path0 codes0 hd0 L0 m0 r0 => ?_) (fun dead0 path0 codes0 hno => ?_)
  · refine br_t (nI_pos' (by omega)) ⟨H + 2, ?_⟩
    refine rb_yConf12 (p := fun j => (ps0 j).1) hH (fun j hj => (r0.2.2.1 j hj).1) (fun a_lone hl => ?_) (H + 2) 0 a_lone (Nat.zero_le _) (by omega) (fun j hj => absurd hj (Nat.not_lt_zero j))
    by_cases pl1 : a_placed 1 = 0
    · exact rb_ySoloU (r := 1) (by omega) pl1 (br_f (by decide) (hF _ _ _ _ fun z => z.2.1 pl1))
    refine rb_ySolo (r := 1) (s := s) (g := g) eC hC hH hw hw5 hrc (by omega) pl1 hg hs (fun d1 cs1 ps1 dead1 path1 codes1 hd1 L1 m1 r1 => ?_) (fun dead1 path1 codes1 hno => ?_)
    · refine br_t (nI_pos' (by omega)) ⟨H + 2, ?_⟩
      refine rb_yConf50 (p := fun j => (ps0 j).1) (q := fun j => (ps1 j).2) hH hC (fun j hj => ⟨hl j hj, (r0.2.2.1 j hj).2.2.1⟩) (fun j hj => ⟨(r1.2.2.1 j hj).2.1, (r1.2.2.1 j hj).2.2.2⟩) (H + 1) 0 (H + 2) (by omega) (by omega) ?_
      exact hT dead1 path1 codes1 a_lone d0 d1 cs0 cs1 ps0 ps1 _ _ _ _ pl0 pl1 hd0 hd1 L0 m0 L1 m1 r0 r1
    · exact br_f (by decide) (hF _ _ _ _ fun z => by
        obtain ⟨u, hu, hL⟩ := z.2.2
        exact hno u hu hL)
  · exact br_f (by decide) (hF _ _ _ _ fun z => by
      obtain ⟨u, hu, hL⟩ := z.1.2
      exact hno u hu hL)
end
theorem i_vc_soloConflict {k : Nat} {u : SX} {v : SY} (I : i_Rel k u v) (hk : k + 5 ≤ 2563) : wpX_soloConflict (fun r u' => wpY_soloConflict (fun r' v' => r' = r ∧ i_Rel (k + 5) u' v') v) u := by
  refine rb_el (P := fun u v => wpX_soloConflict (fun r u' => wpY_soloConflict (fun r' v' => r' = r ∧ i_Rel (k + 5) u' v') v) u) ?_ I
  intro f_never f_status f_bound f_leastTotal a_neighbour a_walls a_placed a_starts a_goals a_rules a_open a_next a_earliest a_solo a_cost a_plan a_since a_done b_dead b_done b_path b_codes b_kept b_lone w h C H rc s g hB hS
  have hB' := hB
  obtain ⟨eC, hw, hw5, hC, hH1, hH, hrc, hg, hs, hnb, hne⟩ := hB'
  have M := rb_isMV (walls := a_walls) (rules := a_rules) (rc := rc) (w := w) (C := C) hw
  refine rb_xConf (s := s) (g := g) hH hw hC hrc hg hs hnb (fun o n e hno nx => ?_) (fun o n e so x0 x1 p q hx0 hx1 pl0 pl1 E0 E1 p0 q0 t0 t1 nx => ?_)
  · have S' := rb_SS_next (a_next' := n) hS nx
    exact rb_yConf (s := s) (g := g) eC hC hH hw hw5 hrc hg hs (fun b_dead b_path b_codes b_lone _ => ⟨rfl, rb_mk_Rel hB S'⟩) (fun b_dead b_path b_codes b_lone d0 d1 cs0 cs1 ps0 ps1 pa0 pa1 co0 co1 q0 q1 hd0 hd1 L0 _ L1 _ _ _ => absurd ⟨⟨q0, d0, hd0, L0⟩, ⟨q1, d1, hd1, L1⟩⟩ hno)
  · have S' := rb_SS_next (a_next' := n) hS nx
    have L0 := (E0.2 x0 (Nat.zero_le _) hx0).mp (Nat.le_refl _)
    have L1 := (E1.2 x1 (Nat.zero_le _) hx1).mp (Nat.le_refl _)
    refine rb_yConf (s := s) (g := g) eC hC hH hw hw5 hrc hg hs (fun b_dead b_path b_codes b_lone hno => absurd ⟨⟨pl0, x0, hx0, L0⟩, ⟨pl1, x1, hx1, L1⟩⟩ hno) (fun b_dead b_path b_codes b_lone d0 d1 cs0 cs1 ps0 ps1 pa0 pa1 co0 co1 _ _ hd0 hd1 K0 m0 K1 m1 r0 r1 => ⟨?_, rb_mk_Rel hB S'⟩)
    have e0 := rb_E_min hx0 E0 hd0 K0 m0
    have e1 := rb_E_min hx1 E1 hd1 K1 m1
    subst e0 e1
    have a0 := rb_same0 M t0 r0 p0 (by rw [p0]; exact K0)
    have a1 := rb_same1 M t1 r1 q0 (by rw [q0]; exact K1)
    rw [rb_cf_ext (p' := fun j => (ps0 j).1) (q' := fun j => (ps1 j).2) a0 a1 (H + 1) 0 (by omega)]
end
section
/-! what is owed: the search -/
section
variable {f_never f_status f_bound f_leastTotal : Int32} {a_neighbour a_walls a_placed a_starts a_goals a_rules a_open a_next a_earliest a_solo a_cost a_plan a_since a_done : Nat → Int32} {w C H rc : Nat} {g s : Nat → Nat}
theorem rb_x41 {post : Int32 → SX → Prop} {p : Nat} (hp : p < 2 ^ 31) (hJ : ∀ lim, ((lim = p ∧ p ≤ 32) ∨ (lim = 32 ∧ 32 ≤ p)) → ∃ n51 : Nat, wX_search_51 post (nI lim) n51 0 f_never (nI C) (nI H) (nI rc) f_status f_bound f_leastTotal a_neighbour a_walls a_placed a_starts a_goals a_rules a_open a_next a_earliest a_solo a_cost a_plan a_since a_done) : wX_search_41 post (nI p) f_never (nI C) (nI H) (nI rc) f_status f_bound f_leastTotal a_neighbour a_walls a_placed a_starts a_goals a_rules a_open a_next a_earliest a_solo a_cost a_plan a_since a_done := by
  unfold wX_search_41
  exact rb_xSmaller (b := 32) hp (by omega) (fun m h1 h2 h3 => hJ m (by omega))
theorem rb_x41e {post : Int32 → SX → Prop} {p : Nat} (hp : p < 2 ^ 31) (h0 : 0 < p) (hst : f_status ≠ 1) (hJ : post f_status (f_never, nI C, nI H, nI rc, f_status, f_bound, f_leastTotal, a_neighbour, a_walls, a_placed, a_starts, a_goals, a_rules, a_open, a_next, a_earliest, a_solo, a_cost, a_plan, a_since, a_done)) : wX_search_41 post (nI p) f_never (nI C) (nI H) (nI rc) f_status f_bound f_leastTotal a_neighbour a_walls a_placed a_starts a_goals a_rules a_open a_next a_earliest a_solo a_cost a_plan a_since a_done :=
  rb_x41 hp (fun lim hl => ⟨1, pk_le lim 0 (fun z => by omega) (fun _ => br_f hst hJ)⟩)
end
section
variable {f_status f_bound : Int32} {a_walls a_placed a_dead a_start a_goal a_done a_rules a_path a_codes a_kept a_lone : Nat → Int32} {w h C H rc : Nat} {g s : Nat → Nat}
theorem rb_y86e {post : Int32 → SY → Prop} {p : Nat} (hp : p < 2 ^ 31) (h0 : 0 < p) (hst : f_status ≠ 1) (hJ : post f_status (nI w, nI h, nI H, nI rc, f_status, f_bound, a_walls, a_placed, a_dead, a_start, a_goal, a_done, a_rules, a_path, a_codes, a_kept, a_lone)) : ∃ n86 : Nat, wY_search_86 post (nI p) n86 0 (nI w) (nI h) (nI H) (nI rc) f_status f_bound a_walls a_placed a_dead a_start a_goal a_done a_rules a_path a_codes a_kept a_lone :=
  ⟨1, pk_le p 0 (fun z => by omega) (fun _ => br_f (by decide) (br_f hst hJ))⟩
theorem rb_yBegin {post : Int32 → SY → Prop} {p : Nat} (eC : w * h = C) (hC : C ≤ 15) (hH : H ≤ 12) (hw : 1 ≤ w) (hw5 : w ≤ 5) (hrc : rc ≤ 8) (hp : p < 2 ^ 31) (h0 : 0 < p) (hg : ∀ r, r < 2 → g r < C ∧ a_goal r = nI (g r)) (hs : ∀ r, r < 2 → s r < C ∧ a_start r = nI (s r)) (pl0 : a_placed 0 ≠ 0) (pl1 : a_placed 1 ≠ 0)
    (hI : ∀ r a_dead a_path a_codes, r < 2 → (∀ u, u ≤ H → ¬ rb_LF (rb_mv a_walls a_rules rc w C) (rb_Op a_walls a_rules rc C) g H r 0 (s r) u) → ∃ n86 : Nat, wY_search_86 post (nI p) n86 0 (nI w) (nI h) (nI H) (nI rc) 3 (-1) a_walls a_placed a_dead a_start a_goal a_done a_rules a_path a_codes a_kept a_lone)
    (hS : ∀ d0 d1 a_dead a_path a_codes, d0 ≤ H → d1 ≤ H → rb_LF (rb_mv a_walls a_rules rc w C) (rb_Op a_walls a_rules rc C) g H 0 0 (s 0) d0 → (∀ u, u < d0 → ¬ rb_LF (rb_mv a_walls a_rules rc w C) (rb_Op a_walls a_rules rc C) g H 0 0 (s 0) u) →
      rb_LF (rb_mv a_walls a_rules rc w C) (rb_Op a_walls a_rules rc C) g H 1 0 (s 1) d1 → (∀ u, u < d1 → ¬ rb_LF (rb_mv a_walls a_rules rc w C) (rb_Op a_walls a_rules rc C) g H 1 0 (s 1) u) → ∃ n86 : Nat, wY_search_86 post (nI p) n86 0 (nI w) (nI h) (nI H) (nI rc) 1 (nI (d0 + d1)) a_walls a_placed a_dead a_start a_goal a_done a_rules a_path a_codes a_kept a_lone) :
    wpY_search post (nI w, nI h, nI H, nI rc, 0, f_bound, a_walls, a_placed, a_dead, a_start, a_goal, a_done, a_rules, a_path, a_codes, a_kept, a_lone) (nI p) := by
  unfold wpY_search
  refine pk_lt 0 p (fun _ => br_f pl0 (br_f pl1 (br_t rfl ?_))) (fun z => by omega)
  refine rb_ySolo (r := 0) (s := s) (g := g) eC hC hH hw hw5 hrc (by omega) pl0 hg hs (fun d0 cs0 ps0 dead0 path0 codes0 hd0 L0 m0 r0 => ?_) (fun dead0 path0 codes0 hno0 => ?_)
  · refine rb_ySolo (r := 1) (s := s) (g := g) eC hC hH hw hw5 hrc (by omega) pl1 hg hs (fun d1 cs1 ps1 dead1 path1 codes1 hd1 L1 m1 r1 => ?_) (fun dead1 path1 codes1 hno1 => ?_)
    · refine br_f (nI_pos (by omega)) (br_t (nI_pos' (by omega)) ?_)
      show wY_search_65 post (nI p) (nI d0 + nI d1) _ _ _ _ _ _ _ _ _ _ _ _ _ _ _ _ _
      rw [nI_add]
      exact br_t (nI_pos' (by omega)) (hS d0 d1 dead1 path1 codes1 hd0 hd1 L0 m0 L1 m1)
    · exact br_f (nI_pos (by omega)) (br_f (by decide) (br_f (by decide) (hI 1 dead1 path1 codes1 (by omega) hno1)))
  · refine rb_ySolo (r := 1) (s := s) (g := g) eC hC hH hw hw5 hrc (by omega) pl1 hg hs (fun d1 cs1 ps1 dead1 path1 codes1 hd1 L1 m1 r1 => ?_) (fun dead1 path1 codes1 hno1 => ?_)
    · exact br_t rb_neg1 (br_f (by decide) (hI 0 dead1 path1 codes1 (by omega) hno0))
    · exact br_t rb_neg1 (br_f (by decide) (hI 0 dead1 path1 codes1 (by omega) hno0))
end
section
variable {k : Nat} {f_never f_status f_bound f_leastTotal : Int32} {a_neighbour a_walls a_placed a_starts a_goals a_rules a_open a_next a_earliest a_solo a_cost a_plan a_since a_done b_dead b_done b_path b_codes b_kept b_lone : Nat → Int32} {w h C H rc : Nat} {s g : Nat → Nat}
/-- both sides from a search that has begun -/
theorem rb_fin {vY : SY} {v1 : Int32} {p B L : Nat} (hB : rb_BS a_neighbour a_placed a_starts a_goals w h C H rc s g) (hp : p < 2 ^ 31) (h0 : 0 < p) (pl0 : a_placed 0 ≠ 0) (pl1 : a_placed 1 ≠ 0) (hL1 : L ≤ 1000) (hBL : B ≤ L) (hB2 : B ≤ 2 * H)
    (hL : ∀ y, y < 1000 → (L ≤ y ↔ rb_KS (rb_mv a_walls a_rules rc w C) (rb_Op a_walls a_rules rc C) g H 0 (s 0) (s 1) False False y))
    (hn : ∀ r t c d, r < 2 → t < H → c < C → d < 5 → rb_NT (rb_mv a_walls a_rules rc w C) a_next r t c d)
    (hct : ∀ t a b f, t ≤ H → a < C → b < C → f < 4 → rb_CT (rb_mv a_walls a_rules rc w C) (rb_Op a_walls a_rules rc C) g H a_cost t a b f)
    (o0 : rb_Op a_walls a_rules rc C 0 0 (s 0)) (o1 : rb_Op a_walls a_rules rc C 1 0 (s 1))
    (hY : ∀ (post : Int32 → SY → Prop) (K : Nat), ((K = p ∧ p ≤ 32) ∨ (K = 32 ∧ 32 ≤ p)) →
      (L ≤ 2 * H → L < B + K → ∀ kt b_dead b_path b_codes b_kept b_done, (∀ i, i < H → b_kept i = nI (kt i)) → rb_lm H (rb_UB (rb_mv a_walls a_rules rc w C) g H (s 0) (s 1) L) kt → b_done 0 = 0 → b_done 1 = 0 → post 2 (nI w, nI h, nI H, nI rc, 2, nI L, a_walls, a_placed, b_dead, a_starts, a_goals, b_done, a_rules, b_path, b_codes, b_kept, b_lone)) →
      (2 * H < L → 2 * H < B + K → ∀ b_dead b_path b_codes b_kept b_done, post 3 (nI w, nI h, nI H, nI rc, 3, (-1), a_walls, a_placed, b_dead, a_starts, a_goals, b_done, a_rules, b_path, b_codes, b_kept, b_lone)) →
      (B + K ≤ L → B + K ≤ 2 * H → ∀ b_dead b_path b_codes b_kept b_done, post 1 (nI w, nI h, nI H, nI rc, 1, nI (B + K), a_walls, a_placed, b_dead, a_starts, a_goals, b_done, a_rules, b_path, b_codes, b_kept, b_lone)) → wpY_search post vY v1) :
    wX_search_41 (fun r u' => wpY_search (fun r' v' => r' = r ∧ i_Rel (k + 5) u' v') vY v1) (nI p) f_never (nI C) (nI H) (nI rc) 1 (nI B) (nI L) a_neighbour a_walls a_placed a_starts a_goals a_rules a_open a_next a_earliest a_solo a_cost a_plan a_since a_done := by
  have hB' := hB
  obtain ⟨eC, hw, hw5, hC, hH1, hH, hrc, hg, hs, hnb, hne⟩ := hB'
  have M := rb_isMV (walls := a_walls) (rules := a_rules) (rc := rc) (w := w) (C := C) hw
  refine rb_x41 hp (fun K hK => ⟨K + 1, ?_⟩)
  refine rb_xSearch51 (s := s) (g := g) hw hC hH (by omega) hg hs hn hct hL1 hL (K + 1) 0 K B (by omega) (by omega) hBL hB2 (fun c1 c2 pc pd cs a_plan a_since a_done kp d0 d1 => ?_) (fun c1 c2 => ?_) (fun c1 c2 => ?_)
  · refine hY _ K hK (fun _ _ kt b_dead b_path b_codes b_kept b_done k1 k2 k3 k4 => ⟨rfl, ?_⟩) (fun z1 => by omega) (fun z1 z2 => by omega)
    obtain ⟨q1, q2, q3, q4, q5, q6⟩ := kp
    have lm := rb_X_lm M q1 q2 q3 q4 q5
    have e := rb_lm_uniq lm k2
    refine rb_mk_Rel hB (Or.inr (Or.inr (Or.inl ⟨rfl, cs, pc, pd, 0, 0, fun i hi => ⟨?_, (q3.2 i hi).1⟩, q1, q2, fun i hi => ⟨(q3.2 i hi).2.1.1, (q3.2 i hi).2.2.1.1⟩, q6, Nat.zero_le _, Nat.zero_le _, d0, d1, k3, k4⟩)))
    rw [k1 i hi, e i hi]
  · exact hY _ K hK (fun z1 => by omega) (fun _ _ b_dead b_path b_codes b_kept b_done => ⟨rfl, rb_mk_Rel hB (Or.inr (Or.inr (Or.inr rfl)))⟩) (fun z1 z2 => by omega)
  · exact hY _ K hK (fun z1 z2 => by omega) (fun z1 z2 => by omega) (fun _ _ b_dead b_path b_codes b_kept b_done => ⟨rfl, rb_mk_Rel hB (Or.inr (Or.inl ⟨rfl, pl0, pl1, B + K, L, rfl, rfl, hL1, c1, c2, hL, hn, hct, o0, o1⟩))⟩)
end
theorem i_vc_search {k : Nat} {u : SX} {v : SY} (I : i_Rel k u v) (hk : k + 5 ≤ 2563) (v1 : Int32) : wpX_search (fun r u' => wpY_search (fun r' v' => r' = r ∧ i_Rel (k + 5) u' v') v v1) u v1 := by
  refine rb_el (P := fun u v => wpX_search (fun r u' => wpY_search (fun r' v' => r' = r ∧ i_Rel (k + 5) u' v') v v1) u v1) ?_ I
  intro f_never f_status f_bound f_leastTotal a_neighbour a_walls a_placed a_starts a_goals a_rules a_open a_next a_earliest a_solo a_cost a_plan a_since a_done b_dead b_done b_path b_codes b_kept b_lone w h C H rc s g hB hS
  have hB' := hB
  obtain ⟨eC, hw, hw5, hC, hH1, hH, hrc, hg, hs, hnb, hne⟩ := hB'
  have R : i_Rel (k + 5) (f_never, nI C, nI H, nI rc, f_status, f_bound, f_leastTotal, a_neighbour, a_walls, a_placed, a_starts, a_goals, a_rules, a_open, a_next, a_earliest, a_solo, a_cost, a_plan, a_since, a_done) (nI w, nI h, nI H, nI rc, f_status, f_bound, a_walls, a_placed, b_dead, a_starts, a_goals, b_done, a_rules, b_path, b_codes, b_kept, b_lone) := rb_mk_Rel hB hS
  unfold wpX_search
  by_cases hv : 0 < v1
  rotate_left
  · refine br_f hv ?_
    unfold wpY_search
    exact br_f hv ⟨rfl, R⟩
  obtain ⟨p, hp, rfl⟩ := nI_of (x := v1) (fun z => absurd (Int32.lt_trans hv z) (by decide))
  have h0 : 0 < p := (nI_ltI (a := 0) (by omega) hp).mp hv
  refine br_t hv ?_
  by_cases pl0 : a_placed 0 = 0
  · refine br_t pl0 ?_
    unfold wpY_search
    exact br_t hv (br_t pl0 ⟨rfl, R⟩)
  refine br_f pl0 ?_
  by_cases pl1 : a_placed 1 = 0
  · refine br_t pl1 ?_
    unfold wpY_search
    exact br_t hv (br_f pl0 (br_t pl1 ⟨rfl, R⟩))
  refine br_f pl1 ?_
  have hsne := hne pl0 pl1
  by_cases st0 : f_status = 0
  · subst st0
    have hb : f_bound = -1 := by
      rcases hS with z | ⟨z, _⟩ | ⟨z, _⟩ | z
      · exact z.2
      · exact absurd z (by decide)
      · exact absurd z (by decide)
      · exact absurd z (by decide)
    subst hb
    refine br_t rfl ?_
    refine rb_xBegin (s := s) (g := g) hw hC hH hrc hg hs (fun r hr => rb_pl2 hr pl0 pl1) hnb (fun o n e r hr hE => ?_) (fun o n e co x0 x1 L hx0 hx1 E0 E1 hnt hct hK => ?_)
    · refine rb_x41e hp h0 (by decide) ?_
      refine rb_yBegin (s := s) (g := g) eC hC hH hw hw5 hrc hp h0 hg hs pl0 pl1 (fun r b_dead b_path b_codes _ _ => rb_y86e hp h0 (by decide) ⟨rfl, rb_mk_Rel hB (Or.inr (Or.inr (Or.inr rfl)))⟩) (fun d0 d1 b_dead b_path b_codes hd0 hd1 L0 _ L1 _ => ?_)
      exfalso
      have h2 : r = 0 ∨ r = 1 := by omega
      rcases h2 with rfl | rfl
      · exact rb_E_no (by omega) hE hd0 L0
      · exact rb_E_no (by omega) hE hd1 L1
    · have L0 := (E0.2 x0 (Nat.zero_le _) hx0).mp (Nat.le_refl _)
      have L1 := (E1.2 x1 (Nat.zero_le _) hx1).mp (Nat.le_refl _)
      have hL1 : L ≤ 1000 := by rcases hK.1 with z | z <;> omega
      have hBL : x0 + x1 ≤ L := by
        by_cases z : L < 1000
        · obtain ⟨u0, u1, _, a1, _, a2, _, _, a3, J⟩ := (hK.2 L z).mp (Nat.le_refl L)
          have b0 := (E0.2 u0 (Nat.zero_le _) a1).mpr (rb_JF_L0 J)
          have b1 := (E1.2 u1 (Nat.zero_le _) a2).mpr (rb_JF_L1 J)
          omega
        · omega
      refine rb_fin (b_lone := b_lone) (B := x0 + x1) (L := L) (s := s) (g := g) hB hp h0 pl0 pl1 hL1 hBL (by omega) hK.2 hnt hct L0.1 L1.1 (fun post K hK2 yF yI yS => ?_)
      refine rb_yBegin (s := s) (g := g) eC hC hH hw hw5 hrc hp h0 hg hs pl0 pl1 (fun r b_dead b_path b_codes hr hno => ?_) (fun d0 d1 b_dead b_path b_codes hd0 hd1 M0 m0 M1 m1 => ?_)
      · exfalso
        have h2 : r = 0 ∨ r = 1 := by omega
        rcases h2 with rfl | rfl
        · exact hno x0 hx0 L0
        · exact hno x1 hx1 L1
      · have e0 := rb_E_min hx0 E0 hd0 M0 m0
        have e1 := rb_E_min hx1 E1 hd1 M1 m1
        subst e0 e1
        exact ⟨K + 1, rb_ySearch86 (s := s) (g := g) eC hC hH hH1 hw hw5 hrc hp hg hs L0.1 L1.1 hsne hK.2 (K + 1) 0 K (d0 + d1) b_dead b_path b_codes b_kept b_done (by omega) (by omega) hBL (by omega) yF yI yS⟩
  refine br_f st0 ?_
  by_cases st1 : f_status = 1
  · subst st1
    have sr : rb_SR f_bound f_leastTotal a_walls a_placed a_rules a_next a_cost w C H rc s g := by
      rcases hS with z | ⟨_, z⟩ | ⟨z, _⟩ | z
      · exact absurd z.1 (by decide)
      · exact z
      · exact absurd z (by decide)
      · exact absurd z (by decide)
    obtain ⟨_, _, B, L, rfl, rfl, k3, k4, k5, k6, k7, k8, k9, k10⟩ := sr
    refine rb_fin (b_lone := b_lone) (B := B) (L := L) (s := s) (g := g) hB hp h0 pl0 pl1 k3 k4 k5 k6 k7 k8 k9 k10 (fun post K hK2 yF yI yS => ?_)
    unfold wpY_search
    exact br_t hv (br_f pl0 (br_f pl1 (br_f (by decide) ⟨K + 1, rb_ySearch86 (s := s) (g := g) eC hC hH hH1 hw hw5 hrc hp hg hs k9 k10 hsne k6 (K + 1) 0 K B b_dead b_path b_codes b_kept b_done (by omega) (by omega) k4 k5 yF yI yS⟩)))
  · refine rb_x41e hp h0 st1 ?_
    unfold wpY_search
    exact br_t hv (br_f pl0 (br_f pl1 (br_f st0 (rb_y86e hp h0 st1 ⟨rfl, R⟩))))
end
