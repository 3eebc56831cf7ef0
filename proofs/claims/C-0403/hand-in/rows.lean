section
theorem pk_us {f : Nat → Int32} {k : Nat} {x : Int32} : upd f k x k = x := if_pos rfl
theorem pk_un {f : Nat → Int32} {k j : Nat} {x : Int32} (h : j ≠ k) : upd f k x j = f j := if_neg h
theorem pk_uLs {f : Nat → Int64} {k : Nat} {x : Int64} : vp_updL f k x k = x := if_pos rfl
theorem pk_uLn {f : Nat → Int64} {k j : Nat} {x : Int64} (h : j ≠ k) : vp_updL f k x j = f j := if_neg h
theorem pk_sub {a b : Nat} (h : b ≤ a) : nI a - nI b = nI (a - b) := by
  obtain ⟨c, rfl⟩ : ∃ c, a = c + b := ⟨a - b, by omega⟩
  rw [← nI_add, Int32.add_sub_cancel, Nat.add_sub_cancel]
theorem pk_m1 (n : Nat) : nI (n + 1) + (-1) = nI n := by
  rw [← nI_1, Int32.add_assoc, show (1 : Int32) + (-1) = 0 from rfl, Int32.add_zero]
theorem pk_mul (a b : Nat) : nI a * nI b = nI (a * b) := (Int32.ofNat_mul a b).symm
theorem pk_div {a d : Nat} (ha : a < 2 ^ 31) (h0 : 0 < d) (hd : d < 2 ^ 31) : nI a / nI d = nI (a / d) := by
  apply Int32.toInt_inj.mp
  rw [lg_idiv_nonneg (by rw [nI_toInt ha]; omega) (by rw [nI_toInt hd]; omega), nI_toInt ha, nI_toInt hd, nI_toInt (Nat.lt_of_le_of_lt (Nat.div_le_self a d) ha)]
  first | rfl | exact (Int.natCast_ediv _ _).symm
theorem pk_rem {a d : Nat} (ha : a < 2 ^ 31) (h0 : 0 < d) (hd : d < 2 ^ 31) : nI a - nI a / nI d * nI d = nI (a % d) := by
  rw [pk_div ha h0 hd, pk_mul, pk_sub (Nat.div_mul_le_self a d)]
  exact congrArg nI (by have := Nat.div_add_mod' a d; omega)
theorem pk_sub_toInt {a b : Nat} (ha : a < 2 ^ 30) (hb : b < 2 ^ 30) : (nI a - nI b).toInt = (a : Int) - b := by
  rw [Int32.toInt_sub, nI_toInt (by omega), nI_toInt (by omega)]
  exact Int.bmod_eq_of_le (by omega) (by omega)
theorem pk_sneg {a b : Nat} (hb : b < 2 ^ 30) (h : a < b) : nI a - nI b < 0 := by
  rw [Int32.lt_iff_toInt_lt, pk_sub_toInt (by omega) hb, show (0 : Int32).toInt = 0 from by decide]
  omega
theorem pk_ix (x : Int32) {n : Nat} (hn : n < 2 ^ 31) : x < 0 ∨ nI n ≤ x ∨ ∃ j : Nat, j < n ∧ x = nI j := by
  by_cases h : x < 0
  · exact Or.inl h
  · obtain ⟨j, hj, rfl⟩ := nI_of h
    by_cases h2 : j < n
    · exact Or.inr (Or.inr ⟨j, h2, rfl⟩)
    · exact Or.inr (Or.inl (nI_le (by omega) hj))
theorem pk_le {x y : Int32} {A B : Prop} (a b : Nat) (f : a ≤ b → A) (g : b < a → B) (hx : x = nI a := by rfl) (hy : y = nI b := by rfl) (ha : a < 2 ^ 31 := by omega) (hb : b < 2 ^ 31 := by omega) : (x ≤ y → A) ∧ (¬ x ≤ y → B) := by
  subst hx hy
  rw [nI_leI ha hb]
  exact ⟨f, fun z => g (by omega)⟩
theorem pk_lt {x y : Int32} {A B : Prop} (a b : Nat) (f : a < b → A) (g : b ≤ a → B) (hx : x = nI a := by rfl) (hy : y = nI b := by rfl) (ha : a < 2 ^ 31 := by omega) (hb : b < 2 ^ 31 := by omega) : (x < y → A) ∧ (¬ x < y → B) := by
  subst hx hy
  rw [nI_ltI ha hb]
  exact ⟨f, fun z => g (by omega)⟩
theorem pk_eq {x y : Int32} {A B : Prop} (a b : Nat) (f : a = b → A) (g : a ≠ b → B) (hx : x = nI a := by rfl) (hy : y = nI b := by rfl) (ha : a < 2 ^ 31 := by omega) (hb : b < 2 ^ 31 := by omega) : (x = y → A) ∧ (¬ x = y → B) := by
  subst hx hy
  rw [nI_eq ha hb]
  exact ⟨f, g⟩
theorem pk_in {x : Int32} (n N : Nat) (h : n < N) (hx : x = nI n := by rfl) (hN : N < 2 ^ 31 := by omega) : vp_in x N := by
  subst hx
  exact vp_in_nI h hN
theorem pk_cl {x : Int32} (n : Nat) (hx : x = nI n := by rfl) (h : n < 2 ^ 31 := by omega) : x.toNatClampNeg = n := by
  subst hx
  exact nI_clamp h
theorem pk_loop {σ : Type} (W : Nat → Nat → σ → Prop) (I : Nat → σ → Prop) (e i0 : Nat) (s : σ) (hi : i0 ≤ e) (h0 : I i0 s) (hx : ∀ n s, I e s → W (n + 1) e s)
    (hs : ∀ n i s, i < e → I i s → (∀ s', I (i + 1) s' → W n (i + 1) s') → W (n + 1) i s) : ∃ n, W n i0 s :=
  ⟨e + 1, loop_i W I e hx hs (e + 1) i0 s hi (by omega) h0⟩
theorem pk_loopD {σ : Type} (W : Nat → Nat → σ → Prop) (I : Nat → σ → Prop) (hx : ∀ n s, I 0 s → W (n + 1) 0 s)
    (hs : ∀ n i s, I (i + 1) s → (∀ s', I i s' → W n i s') → W (n + 1) (i + 1) s) : ∀ (e : Nat) (s : σ), I e s → W (e + 1) e s := by
  intro e
  induction e with
  | zero => exact fun s h => hx 0 s h
  | succ e ih => exact fun s h => hs (e + 1) e s h (fun s' h' => ih s' h')
theorem pk_least (P : Nat → Prop) (h : ∃ k, P k) : ∃ k, P k ∧ ∀ j, j < k → ¬ P j := by
  obtain ⟨k, hk⟩ := h
  induction k using Nat.strongRecOn with
  | ind k ih =>
    by_cases e : ∃ j, j < k ∧ P j
    · obtain ⟨j, hj, pj⟩ := e
      exact ih j hj pj
    · exact ⟨k, hk, fun j hj pj => e ⟨j, hj, pj⟩⟩
/-! counting below a bound, least elements -/
noncomputable def fc_b (p : Prop) : Nat := @ite Nat p (Classical.propDecidable p) 1 0
theorem fc_bt {p : Prop} (h : p) : fc_b p = 1 := if_pos h
theorem fc_bf {p : Prop} (h : ¬ p) : fc_b p = 0 := if_neg h
theorem fc_bi {p q : Prop} (h : p ↔ q) : fc_b p = fc_b q := by
  have e : p = q := propext h
  rw [e]
/-- how many numbers below n have P -/
noncomputable def fc_n (P : Nat → Prop) : Nat → Nat
  | 0 => 0
  | n + 1 => fc_n P n + fc_b (P n)
theorem fc_c {P Q : Nat → Prop} : ∀ n, (∀ i, i < n → (P i ↔ Q i)) → fc_n P n = fc_n Q n := by
  intro n
  induction n with
  | zero => intro _; rfl
  | succ n ih =>
    intro h
    show fc_n P n + fc_b (P n) = fc_n Q n + fc_b (Q n)
    rw [ih (fun i hi => h i (by omega)), fc_bi (h n (by omega))]
theorem fc_le (P : Nat → Prop) : ∀ n, fc_n P n ≤ n := by
  intro n
  induction n with
  | zero => exact Nat.le_refl 0
  | succ n ih =>
    show fc_n P n + fc_b (P n) ≤ n + 1
    by_cases h : P n
    · rw [fc_bt h]; omega
    · rw [fc_bf h]; omega
theorem fc_mono {P Q : Nat → Prop} : ∀ n, (∀ i, i < n → P i → Q i) → fc_n P n ≤ fc_n Q n := by
  intro n
  induction n with
  | zero => intro _; exact Nat.le_refl 0
  | succ n ih =>
    intro h
    show fc_n P n + fc_b (P n) ≤ fc_n Q n + fc_b (Q n)
    have h1 := ih (fun i hi => h i (by omega))
    by_cases hp : P n
    · rw [fc_bt hp, fc_bt (h n (by omega) hp)]; omega
    · rw [fc_bf hp]; omega
theorem fc_z {P : Nat → Prop} : ∀ n, (∀ i, i < n → ¬ P i) → fc_n P n = 0 := by
  intro n
  induction n with
  | zero => intro _; rfl
  | succ n ih =>
    intro h
    show fc_n P n + fc_b (P n) = 0
    rw [ih (fun i hi => h i (by omega)), fc_bf (h n (by omega))]
theorem fc_pos {P : Nat → Prop} : ∀ n, 0 < fc_n P n → ∃ i, i < n ∧ P i := by
  intro n h
  by_cases z : ∃ i, i < n ∧ P i
  · exact z
  · have := fc_z (P := P) n (fun i hi hp => z ⟨i, hi, hp⟩)
    omega
/-- taking one element out -/
theorem fc_out {P : Nat → Prop} {k : Nat} (hk : P k) : ∀ n, k < n → fc_n P n = fc_n (fun i => P i ∧ i ≠ k) n + 1 := by
  intro n
  induction n with
  | zero => intro h; omega
  | succ n ih =>
    intro h
    show fc_n P n + fc_b (P n) = fc_n (fun i => P i ∧ i ≠ k) n + fc_b (P n ∧ n ≠ k) + 1
    by_cases e : n = k
    · subst e
      rw [fc_bt hk, fc_bf (fun z => z.2 rfl), fc_c (P := P) (Q := fun i => P i ∧ i ≠ n) n (fun i hi => ⟨fun z => ⟨z, by omega⟩, fun z => z.1⟩)]
    · rw [ih (by omega), fc_bi (p := P n ∧ n ≠ k) (q := P n) ⟨fun z => z.1, fun z => ⟨z, e⟩⟩]
      omega
theorem fc_in {P Q : Nat → Prop} {k n : Nat} (hk : k < n) (hn : ¬ P k) (h : ∀ i, i < n → (Q i ↔ P i ∨ i = k)) : fc_n Q n = fc_n P n + 1 := by
  rw [fc_out (P := Q) (k := k) ((h k hk).mpr (Or.inr rfl)) n hk]
  rw [fc_c (P := fun i => Q i ∧ i ≠ k) (Q := P) n]
  intro i hi
  constructor
  · intro z
    rcases (h i hi).mp z.1 with z1 | z1
    · exact z1
    · exact absurd z1 z.2
  · intro z
    exact ⟨(h i hi).mpr (Or.inl z), fun e => hn (e ▸ z)⟩
/-- an injection -/
theorem fc_inj {P : Nat → Prop} (f : Nat → Nat) {m : Nat} : ∀ n, ∀ Q : Nat → Prop, (∀ i, i < n → P i → f i < m ∧ Q (f i)) → (∀ i j, i < n → j < n → P i → P j → f i = f j → i = j) → fc_n P n ≤ fc_n Q m := by
  intro n
  induction n with
  | zero => intro Q _ _; exact Nat.zero_le _
  | succ n ih =>
    intro Q h1 h2
    show fc_n P n + fc_b (P n) ≤ fc_n Q m
    by_cases hp : P n
    · have hq := h1 n (by omega) hp
      rw [fc_bt hp, fc_out (P := Q) (k := f n) hq.2 m hq.1]
      have := ih (fun i => Q i ∧ i ≠ f n) (fun i hi hpi => ⟨(h1 i (by omega) hpi).1, (h1 i (by omega) hpi).2, fun e => by
        have := h2 i n (by omega) (by omega) hpi hp e
        omega⟩) (fun i j hi hj => h2 i j (by omega) (by omega))
      omega
    · rw [fc_bf hp]
      exact ih Q (fun i hi => h1 i (by omega)) (fun i j hi hj => h2 i j (by omega) (by omega))
theorem fc_all {n : Nat} : fc_n (fun _ => True) n = n := by
  induction n with
  | zero => rfl
  | succ n ih =>
    show fc_n (fun _ => True) n + fc_b True = n + 1
    rw [ih, fc_bt trivial]
theorem fc_injN {P : Nat → Prop} (f : Nat → Nat) {m n : Nat} (h1 : ∀ i, i < n → P i → f i < m) (h2 : ∀ i j, i < n → j < n → P i → P j → f i = f j → i = j) : fc_n P n ≤ m := by
  have := fc_inj (P := P) f (m := m) n (fun _ => True) (fun i hi hp => ⟨h1 i hi hp, trivial⟩) h2
  rw [fc_all] at this
  exact this
/-- a least element of a total, transitive relation -/
theorem mn_ex {P : Nat → Prop} {R : Nat → Nat → Prop} (ht : ∀ i j, P i → P j → R i j ∨ R j i) (hr : ∀ i j k, P i → P j → P k → R i j → R j k → R i k) : ∀ n, (∃ i, i < n ∧ P i) → ∃ i, i < n ∧ P i ∧ ∀ j, j < n → P j → R i j := by
  intro n
  induction n with
  | zero => intro ⟨i, hi, _⟩; omega
  | succ n ih =>
    intro ⟨i, hi, hp⟩
    by_cases z : ∃ i, i < n ∧ P i
    · obtain ⟨m, hm, pm, hmm⟩ := ih z
      by_cases pn : P n
      · rcases ht m n pm pn with h | h
        · refine ⟨m, by omega, pm, fun j hj pj => ?_⟩
          by_cases e : j = n
          · subst e; exact h
          · exact hmm j (by omega) pj
        · refine ⟨n, by omega, pn, fun j hj pj => ?_⟩
          by_cases e : j = n
          · subst e
            rcases ht j j pj pj with h' | h'
            · exact h'
            · exact h'
          · exact hr n m j pn pm pj h (hmm j (by omega) pj)
      · refine ⟨m, by omega, pm, fun j hj pj => ?_⟩
        by_cases e : j = n
        · subst e; exact absurd pj pn
        · exact hmm j (by omega) pj
    · have e : i = n := by
        by_cases e : i = n
        · exact e
        · exact absurd ⟨i, by omega, hp⟩ z
      subst e
      refine ⟨i, hi, hp, fun j hj pj => ?_⟩
      by_cases e : j = i
      · subst e
        rcases ht j j pj pj with h' | h'
        · exact h'
        · exact h'
      · exact absurd ⟨j, by omega, pj⟩ z
end
section
/-! hull theory: an alternating form with the three-term relation, facets of a finite set -/
def hu_Ax (χ : Nat → Nat → Nat → Nat → Int) : Prop :=
  (∀ a b c d, χ b a c d = -χ a b c d) ∧ (∀ a b c d, χ a c b d = -χ a b c d) ∧ (∀ a b c d, χ a b d c = -χ a b c d) ∧
  (∀ u v a b c d, χ u v a b * χ u v c d - χ u v a c * χ u v b d + χ u v a d * χ u v b c = 0)
def hu_F (χ : Nat → Nat → Nat → Nat → Int) (S : Nat → Prop) (a b c : Nat) : Prop :=
  S a ∧ S b ∧ S c ∧ a ≠ b ∧ b ≠ c ∧ a ≠ c ∧ ∀ d, S d → d ≠ a → d ≠ b → d ≠ c → χ a b c d < 0
def hu_WF (χ : Nat → Nat → Nat → Nat → Int) (S : Nat → Prop) : Prop :=
  ∀ a b c, S a → S b → S c → a ≠ b → b ≠ c → a ≠ c → (∀ d, S d → d ≠ a → d ≠ b → d ≠ c → χ a b c d ≤ 0) → hu_F χ S a b c
theorem sg_np {k x : Int} (hk : k < 0) (h : k * x ≤ 0) : 0 ≤ x := by
  by_cases z : 0 ≤ x
  · exact z
  · have := Int.mul_pos_of_neg_of_neg hk (by omega : x < 0)
    omega
theorem sg_pn {k x : Int} (hk : 0 < k) (h : k * x < 0) : x < 0 := by
  by_cases z : x < 0
  · exact z
  · have := Int.mul_nonneg (Int.le_of_lt hk) (by omega : 0 ≤ x)
    omega
theorem sg_pN {k x : Int} (hk : 0 < k) (h : k * x ≤ 0) : x ≤ 0 := by
  by_cases z : x ≤ 0
  · exact z
  · have := Int.mul_pos hk (by omega : 0 < x)
    omega
theorem sg_pP {k x : Int} (hk : 0 < k) (h : 0 < k * x) : 0 < x := by
  by_cases z : 0 < x
  · exact z
  · have := Int.mul_nonpos_of_nonneg_of_nonpos (Int.le_of_lt hk) (by omega : x ≤ 0)
    omega
theorem sg_pp {k x : Int} (hk : 0 < k) (h : 0 ≤ k * x) : 0 ≤ x := by
  by_cases z : 0 ≤ x
  · exact z
  · have := Int.mul_neg_of_pos_of_neg hk (by omega : x < 0)
    omega
theorem sg_a {x y : Int} (hx : x < 0) (hy : 0 ≤ y) : x * y ≤ 0 := Int.mul_nonpos_of_nonpos_of_nonneg (Int.le_of_lt hx) hy
section
variable {χ : Nat → Nat → Nat → Nat → Int} {S : Nat → Prop}
theorem hu_r3 (A : hu_Ax χ) (a b c d : Nat) : χ b c a d = χ a b c d := by
  have h1 := A.1 a b c d
  have h2 := A.2.1 b a c d
  omega
theorem hu_rot (A : hu_Ax χ) {a b c : Nat} (h : hu_F χ S a b c) : hu_F χ S b c a := by
  obtain ⟨ha, hb, hc, ab, bc, ac, hd⟩ := h
  refine ⟨hb, hc, ha, bc, fun e => ac e.symm, fun e => ab e.symm, fun d sd d1 d2 d3 => ?_⟩
  rw [hu_r3 A]
  exact hd d sd d3 d1 d2
theorem hu_uniq (A : hu_Ax χ) {u v w z : Nat} (h : hu_F χ S u v w) (g : hu_F χ S u v z) : w = z := by
  by_cases e : w = z
  · exact e
  · obtain ⟨hu, hv, hw, uv, vw, uw, hd⟩ := h
    obtain ⟨_, _, gw, _, vz, uz, gd⟩ := g
    have h1 := hd z gw (fun e' => uz e'.symm) (fun e' => vz e'.symm) (fun e' => e e'.symm)
    have h2 := gd w hw (fun e' => uw e'.symm) (fun e' => vw e'.symm) e
    have h3 := A.2.2.1 u v w z
    omega
/-- the order of directions around an edge, inside a half-plane seen from w -/
theorem hu_tr (A : hu_Ax χ) {u v w i j k : Nat} (hi : χ u v w i < 0) (hj : χ u v w j < 0) (hk : χ u v w k < 0)
    (h1 : 0 ≤ χ u v i j) (h2 : 0 ≤ χ u v j k) : 0 ≤ χ u v i k := by
  have g := A.2.2.2 u v w j i k
  have s := A.2.2.1 u v i j
  rw [s] at g
  have p1 := sg_a hi h2
  have p2 := sg_a hk h1
  rw [Int.mul_neg] at g
  exact sg_np hj (by omega)
theorem hu_rev (A : hu_Ax χ) (W : hu_WF χ S) (hS : ∀ d, S d → d < 25) {u v w e : Nat} (h : hu_F χ S u v w)
    (se : S e) (e1 : e ≠ u) (e2 : e ≠ v) (e3 : e ≠ w) : ∃ z, hu_F χ S v u z := by
  obtain ⟨hu, hv, hw, uv, vw, uw, hd⟩ := h
  obtain ⟨m, _, ⟨sm, m1, m2, m3⟩, hm⟩ := mn_ex (P := fun d => S d ∧ d ≠ u ∧ d ≠ v ∧ d ≠ w) (R := fun i j => 0 ≤ χ u v i j)
    (fun i j _ _ => by have := A.2.2.1 u v i j; omega)
    (fun i j k pi pj pk h1 h2 => hu_tr A (hd i pi.1 pi.2.1 pi.2.2.1 pi.2.2.2) (hd j pj.1 pj.2.1 pj.2.2.1 pj.2.2.2) (hd k pk.1 pk.2.1 pk.2.2.1 pk.2.2.2) h1 h2)
    25 ⟨e, hS e se, se, e1, e2, e3⟩
  refine ⟨m, W v u m hv hu sm (fun z => uv z.symm) (fun z => m1 z.symm) (fun z => m2 z.symm) (fun d sd d1 d2 d3 => ?_)⟩
  rw [A.1 u v m d]
  by_cases z : d = w
  · subst z
    have h1 := hd m sm m1 m2 m3
    have h2 := A.2.2.1 u v d m
    omega
  · have := hm d (hS d sd) ⟨sd, d2, d1, z⟩
    omega
/-- a rim edge gives a facet with the new point -/
theorem hu_new (A : hu_Ax χ) {u v w z p : Nat} (np : ¬ S p) (h : hu_F χ S u v w) (g : hu_F χ S v u z) (wz : w ≠ z)
    (c1 : 0 < χ u v w p) (c2 : χ v u z p < 0) : hu_F χ (fun d => S d ∨ d = p) u v p := by
  obtain ⟨hu, hv, hw, uv, vw, uw, hd⟩ := h
  obtain ⟨_, _, gz, _, uz, vz, gd⟩ := g
  refine ⟨Or.inl hu, Or.inl hv, Or.inr rfl, uv, fun e => np (e ▸ hv), fun e => np (e ▸ hu), fun d sd d1 d2 d3 => ?_⟩
  have sd' : S d := sd.resolve_right d3
  by_cases dw : d = w
  · subst dw
    have := A.2.2.1 u v d p
    omega
  by_cases dz : d = z
  · subst dz
    have h1 := A.2.2.1 u v d p
    have h2 := A.1 u v d p
    omega
  have gp := A.2.2.2 u v z w p d
  have q1 : χ u v w z < 0 := hd z gz (fun e => uz e.symm) (fun e => vz e.symm) (fun e => wz e.symm)
  have q2 : χ u v z w = -χ u v w z := A.2.2.1 u v w z
  have q3 : χ u v w d < 0 := hd d sd' d1 d2 dw
  have q4 : χ v u z d < 0 := gd d sd' d2 d1 dz
  have q5 := A.1 u v z d
  have q6 := A.1 u v z p
  have m1 := Int.mul_neg_of_pos_of_neg (show 0 < χ u v z p by omega) q3
  have m2 := Int.mul_pos (show 0 < χ u v z d by omega) c1
  exact sg_pn (show 0 < χ u v z w by omega) (by omega)
/-- a facet with the new point stands over a rim edge -/
theorem hu_back (A : hu_Ax χ) (W : hu_WF χ S) (hS : ∀ d, S d → d < 25) {u v p e : Nat} (h : hu_F χ (fun d => S d ∨ d = p) u v p)
    (np : ¬ S p) (se : S e) (e1 : e ≠ u) (e2 : e ≠ v) :
    ∃ w z, hu_F χ S u v w ∧ 0 < χ u v w p ∧ hu_F χ S v u z ∧ χ v u z p < 0 := by
  obtain ⟨hu, hv, _, uv, vp, up, hd⟩ := h
  have su : S u := hu.resolve_right up
  have sv : S v := hv.resolve_right vp
  have hd' : ∀ d, (S d ∧ d ≠ u ∧ d ≠ v) → χ u v p d < 0 := fun d pd => hd d (Or.inl pd.1) pd.2.1 pd.2.2 (fun z => np (z ▸ pd.1))
  obtain ⟨z, _, ⟨sz, z1, z2⟩, hz⟩ := mn_ex (P := fun d => S d ∧ d ≠ u ∧ d ≠ v) (R := fun i j => 0 ≤ χ u v i j)
    (fun i j _ _ => by have := A.2.2.1 u v i j; omega)
    (fun i j k pi pj pk h1 h2 => hu_tr A (hd' i pi) (hd' j pj) (hd' k pk) h1 h2)
    25 ⟨e, hS e se, se, e1, e2⟩
  obtain ⟨w, _, ⟨sw, w1, w2⟩, hw⟩ := mn_ex (P := fun d => S d ∧ d ≠ u ∧ d ≠ v) (R := fun i j => 0 ≤ χ u v j i)
    (fun i j _ _ => by have := A.2.2.1 u v i j; omega)
    (fun i j k pi pj pk h1 h2 => hu_tr A (hd' k pk) (hd' j pj) (hd' i pi) h2 h1)
    25 ⟨e, hS e se, se, e1, e2⟩
  refine ⟨w, z, ?_, ?_, ?_, ?_⟩
  · refine W u v w su sv sw uv (fun e' => w2 e'.symm) (fun e' => w1 e'.symm) (fun d sd d1 d2 d3 => ?_)
    have h1 := hw d (hS d sd) ⟨sd, d1, d2⟩
    have h2 := A.2.2.1 u v d w
    omega
  · have h1 := hd' w ⟨sw, w1, w2⟩
    have h2 := A.2.2.1 u v p w
    omega
  · refine W v u z sv su sz (fun e' => uv e'.symm) (fun e' => z1 e'.symm) (fun e' => z2 e'.symm) (fun d sd d1 d2 d3 => ?_)
    have h1 := hz d (hS d sd) ⟨sd, d2, d1⟩
    have h2 := A.1 u v z d
    omega
  · have h1 := hd' z ⟨sz, z1, z2⟩
    have h2 := A.2.2.1 u v p z
    have h3 := A.1 u v z p
    omega
/-- a facet is never level with a new point -/
theorem hu_ne (W2 : ∀ p, ¬ S p → hu_WF χ (fun d => S d ∨ d = p) ) {a b c p : Nat} (h : hu_F χ S a b c) (np : ¬ S p) : χ a b c p ≠ 0 := by
  intro e
  obtain ⟨ha, hb, hc, ab, bc, ac, hd⟩ := h
  have := W2 p np a b c (Or.inl ha) (Or.inl hb) (Or.inl hc) ab bc ac (fun d sd d1 d2 d3 => by
    rcases sd with sd | sd
    · exact Int.le_of_lt (hd d sd d1 d2 d3)
    · subst sd; omega)
  have := this.2.2.2.2.2.2 p (Or.inr rfl) (fun z => np (z ▸ ha)) (fun z => np (z ▸ hb)) (fun z => np (z ▸ hc))
  omega
/-- the functional that sorts the points, for counting -/
def hu_Fn (χ : Nat → Nat → Nat → Nat → Int) (s : Nat → Nat → Int) : Prop :=
  (∀ a b, s b a = -s a b) ∧ ∀ v a a' b b', χ v a' b b' * s v a - χ v a b b' * s v a' + χ v a a' b' * s v b - χ v a a' b * s v b' = 0
theorem hu_mid1 (A : hu_Ax χ) {s : Nat → Nat → Int} (Z : hu_Fn χ s) {v a b c d : Nat} (h : hu_F χ S v a b) (g : hu_F χ S v c d)
    (ha : 0 < s v a) (hb : s v b < 0) (hc : 0 < s v c) (hd : s v d < 0) : a = c := by
  by_cases e : a = c
  · exact e
  exfalso
  have bd : b ≠ d := by
    intro z
    subst z
    exact e (hu_uniq A (hu_rot A (hu_rot A h)) (hu_rot A (hu_rot A g)))
  have ad : a ≠ d := fun z => by subst z; omega
  have cb : c ≠ b := fun z => by subst z; omega
  obtain ⟨sv, sa, sb, va, ab, vb, h7⟩ := h
  obtain ⟨_, sc, sd, vc, cd, vd, g7⟩ := g
  have k1 := h7 c sc (fun z => vc z.symm) (fun z => e z.symm) cb
  have k2 := h7 d sd (fun z => vd z.symm) (fun z => ad z.symm) (fun z => bd z.symm)
  have k3 := g7 a sa (fun z => va z.symm) e ad
  have k4 := g7 b sb (fun z => vb z.symm) (fun z => cb z.symm) bd
  have r := Z.2 v a c b d
  have e1 := A.2.2.1 v c d b
  have e2 := A.2.2.1 v a b c
  have e3 := A.2.2.1 v c d a
  have e4 := A.2.1 v c a d
  have m1 := Int.mul_pos (show 0 < χ v c b d by omega) ha
  have m2 := Int.mul_neg_of_neg_of_pos k2 hc
  have m3 := Int.mul_pos_of_neg_of_neg (show χ v a c d < 0 by omega) hb
  have m4 := Int.mul_neg_of_pos_of_neg (show 0 < χ v a c b by omega) hd
  omega
theorem hu_mid2 (A : hu_Ax χ) {s : Nat → Nat → Int} (Z : hu_Fn χ s) {v a b c d : Nat} (h : hu_F χ S v a b) (g : hu_F χ S v c d)
    (ha : s v a < 0) (hb : 0 < s v b) (hc : s v c < 0) (hd : 0 < s v d) : a = c := by
  refine hu_mid1 (s := fun i j => -s i j) A ⟨fun i j => ?_, fun v a a' b b' => ?_⟩ h g (by omega) (by omega) (by omega) (by omega)
  · have := Z.1 i j
    dsimp only
    omega
  · have r := Z.2 v a a' b b'
    dsimp only
    rw [Int.mul_neg, Int.mul_neg, Int.mul_neg, Int.mul_neg]
    omega
theorem hu_lab {s : Nat → Nat → Int} (Z : hu_Fn χ s) (hS : ∀ d, S d → d < 25) (hz : ∀ a b, S a → S b → a ≠ b → s a b ≠ 0) (hg : ∀ a, S a → a ≠ 24 → 0 < s a 24)
    {a b c : Nat} (h : hu_F χ S a b c) : ∃ v x y, ((v = a ∧ x = b ∧ y = c) ∨ (v = b ∧ x = c ∧ y = a) ∨ (v = c ∧ x = a ∧ y = b)) ∧ v < 24 ∧
      ((0 < s v x ∧ s v y < 0) ∨ (s v x < 0 ∧ 0 < s v y)) := by
  obtain ⟨sa, sb, sc, ab, bc, ac, _⟩ := h
  have za := hz a b sa sb ab
  have zb := hz b c sb sc bc
  have zc := hz a c sa sc ac
  have wa := Z.1 a b
  have wb := Z.1 b c
  have wc := Z.1 a c
  have la := hS a sa
  have lb := hS b sb
  have lc := hS c sc
  by_cases ea : a = 24
  · subst ea
    have gb := hg b sb (fun z => ab z.symm)
    have gc := hg c sc (fun z => ac z.symm)
    by_cases q : 0 < s b c
    · exact ⟨c, 24, b, Or.inr (Or.inr ⟨rfl, rfl, rfl⟩), by omega, Or.inl ⟨gc, by omega⟩⟩
    · exact ⟨b, c, 24, Or.inr (Or.inl ⟨rfl, rfl, rfl⟩), by omega, Or.inr ⟨by omega, gb⟩⟩
  by_cases eb : b = 24
  · subst eb
    have ga := hg a sa ab
    have gc := hg c sc (fun z => bc z.symm)
    by_cases q : 0 < s a c
    · exact ⟨c, a, 24, Or.inr (Or.inr ⟨rfl, rfl, rfl⟩), by omega, Or.inr ⟨by omega, gc⟩⟩
    · exact ⟨a, 24, c, Or.inl ⟨rfl, rfl, rfl⟩, by omega, Or.inl ⟨ga, by omega⟩⟩
  by_cases ec : c = 24
  · subst ec
    have ga := hg a sa ac
    have gb := hg b sb bc
    by_cases q : 0 < s a b
    · exact ⟨b, 24, a, Or.inr (Or.inl ⟨rfl, rfl, rfl⟩), by omega, Or.inl ⟨gb, by omega⟩⟩
    · exact ⟨a, b, 24, Or.inl ⟨rfl, rfl, rfl⟩, by omega, Or.inr ⟨by omega, ga⟩⟩
  by_cases q1 : 0 < s a b
  · by_cases q2 : 0 < s b c
    · exact ⟨b, c, a, Or.inr (Or.inl ⟨rfl, rfl, rfl⟩), by omega, Or.inl ⟨q2, by omega⟩⟩
    · by_cases q3 : 0 < s a c
      · exact ⟨c, a, b, Or.inr (Or.inr ⟨rfl, rfl, rfl⟩), by omega, Or.inr ⟨by omega, by omega⟩⟩
      · exact ⟨a, b, c, Or.inl ⟨rfl, rfl, rfl⟩, by omega, Or.inl ⟨q1, by omega⟩⟩
  · by_cases q2 : 0 < s b c
    · by_cases q3 : 0 < s a c
      · exact ⟨a, b, c, Or.inl ⟨rfl, rfl, rfl⟩, by omega, Or.inr ⟨by omega, q3⟩⟩
      · exact ⟨c, a, b, Or.inr (Or.inr ⟨rfl, rfl, rfl⟩), by omega, Or.inl ⟨by omega, by omega⟩⟩
    · exact ⟨b, c, a, Or.inr (Or.inl ⟨rfl, rfl, rfl⟩), by omega, Or.inr ⟨by omega, by omega⟩⟩
end
end
section
/-! determinants of four vectors -/
def ge_det (A B C E : Nat → Int) (a b c d : Nat) : Int :=
  (A a * B b - B a * A b) * (C c * E d - E c * C d) - (A a * C b - C a * A b) * (B c * E d - E c * B d) + (A a * E b - E a * A b) * (B c * C d - C c * B d)
  + (B a * C b - C a * B b) * (A c * E d - E c * A d) - (B a * E b - E a * B b) * (A c * C d - C c * A d) + (C a * E b - E a * C b) * (A c * B d - B c * A d)
section
variable (A B C E : Nat → Int)
theorem ge_d12 (a b c d : Nat) : ge_det A B C E b a c d = -ge_det A B C E a b c d := by
  unfold ge_det
  generalize A a = a0; generalize B a = a1; generalize C a = a2; generalize E a = a3
  generalize A b = b0; generalize B b = b1; generalize C b = b2; generalize E b = b3
  generalize A c = c0; generalize B c = c1; generalize C c = c2; generalize E c = c3
  generalize A d = d0; generalize B d = d1; generalize C d = d2; generalize E d = d3
  grind
theorem ge_d23 (a b c d : Nat) : ge_det A B C E a c b d = -ge_det A B C E a b c d := by
  unfold ge_det
  generalize A a = a0; generalize B a = a1; generalize C a = a2; generalize E a = a3
  generalize A b = b0; generalize B b = b1; generalize C b = b2; generalize E b = b3
  generalize A c = c0; generalize B c = c1; generalize C c = c2; generalize E c = c3
  generalize A d = d0; generalize B d = d1; generalize C d = d2; generalize E d = d3
  grind
theorem ge_d34 (a b c d : Nat) : ge_det A B C E a b d c = -ge_det A B C E a b c d := by
  unfold ge_det
  generalize A a = a0; generalize B a = a1; generalize C a = a2; generalize E a = a3
  generalize A b = b0; generalize B b = b1; generalize C b = b2; generalize E b = b3
  generalize A c = c0; generalize B c = c1; generalize C c = c2; generalize E c = c3
  generalize A d = d0; generalize B d = d1; generalize C d = d2; generalize E d = d3
  grind
theorem ge_cA (u v a b c : Nat) : ge_det A B C E v a b c * A u - ge_det A B C E u a b c * A v + ge_det A B C E u v b c * A a - ge_det A B C E u v a c * A b + ge_det A B C E u v a b * A c = 0 := by
  unfold ge_det
  generalize A a = a0; generalize B a = a1; generalize C a = a2; generalize E a = a3
  generalize A b = b0; generalize B b = b1; generalize C b = b2; generalize E b = b3
  generalize A c = c0; generalize B c = c1; generalize C c = c2; generalize E c = c3
  generalize A u = u0; generalize B u = u1; generalize C u = u2; generalize E u = u3
  generalize A v = v0; generalize B v = v1; generalize C v = v2; generalize E v = v3
  grind
theorem ge_cB (u v a b c : Nat) : ge_det A B C E v a b c * B u - ge_det A B C E u a b c * B v + ge_det A B C E u v b c * B a - ge_det A B C E u v a c * B b + ge_det A B C E u v a b * B c = 0 := by
  unfold ge_det
  generalize A a = a0; generalize B a = a1; generalize C a = a2; generalize E a = a3
  generalize A b = b0; generalize B b = b1; generalize C b = b2; generalize E b = b3
  generalize A c = c0; generalize B c = c1; generalize C c = c2; generalize E c = c3
  generalize A u = u0; generalize B u = u1; generalize C u = u2; generalize E u = u3
  generalize A v = v0; generalize B v = v1; generalize C v = v2; generalize E v = v3
  grind
theorem ge_cC (u v a b c : Nat) : ge_det A B C E v a b c * C u - ge_det A B C E u a b c * C v + ge_det A B C E u v b c * C a - ge_det A B C E u v a c * C b + ge_det A B C E u v a b * C c = 0 := by
  unfold ge_det
  generalize A a = a0; generalize B a = a1; generalize C a = a2; generalize E a = a3
  generalize A b = b0; generalize B b = b1; generalize C b = b2; generalize E b = b3
  generalize A c = c0; generalize B c = c1; generalize C c = c2; generalize E c = c3
  generalize A u = u0; generalize B u = u1; generalize C u = u2; generalize E u = u3
  generalize A v = v0; generalize B v = v1; generalize C v = v2; generalize E v = v3
  grind
theorem ge_cE (u v a b c : Nat) : ge_det A B C E v a b c * E u - ge_det A B C E u a b c * E v + ge_det A B C E u v b c * E a - ge_det A B C E u v a c * E b + ge_det A B C E u v a b * E c = 0 := by
  unfold ge_det
  generalize A a = a0; generalize B a = a1; generalize C a = a2; generalize E a = a3
  generalize A b = b0; generalize B b = b1; generalize C b = b2; generalize E b = b3
  generalize A c = c0; generalize B c = c1; generalize C c = c2; generalize E c = c3
  generalize A u = u0; generalize B u = u1; generalize C u = u2; generalize E u = u3
  generalize A v = v0; generalize B v = v1; generalize C v = v2; generalize E v = v3
  grind
/-- a determinant is linear in its third vector -/
theorem ge_lin (u v d : Nat) : ∃ k0 k1 k2 k3 : Int, ∀ x, ge_det A B C E u v x d = A x * k0 + B x * k1 + C x * k2 + E x * k3 := by
  refine ⟨(B u * C v - C u * B v) * E d - (B u * E v - E u * B v) * C d + (C u * E v - E u * C v) * B d,
    -(A u * C v - C u * A v) * E d + (A u * E v - E u * A v) * C d - (C u * E v - E u * C v) * A d,
    (A u * B v - B u * A v) * E d - (A u * E v - E u * A v) * B d + (B u * E v - E u * B v) * A d,
    -(A u * B v - B u * A v) * C d + (A u * C v - C u * A v) * B d - (B u * C v - C u * B v) * A d, fun x => ?_⟩
  unfold ge_det
  generalize A x = a0; generalize B x = a1; generalize C x = a2; generalize E x = a3
  generalize A d = d0; generalize B d = d1; generalize C d = d2; generalize E d = d3
  generalize A u = u0; generalize B u = u1; generalize C u = u2; generalize E u = u3
  generalize A v = v0; generalize B v = v1; generalize C v = v2; generalize E v = v3
  grind
theorem ge_dz1 (u v d : Nat) : ge_det A B C E u v u d = 0 := by
  have h1 := ge_d12 A B C E u v u d
  have h2 := ge_d23 A B C E v u u d
  omega
theorem ge_dz2 (u v d : Nat) : ge_det A B C E u v v d = 0 := by
  have h2 := ge_d23 A B C E u v v d
  omega
theorem ge_comb {X Y P Q R u0 u1 u2 u3 v0 v1 v2 v3 a0 a1 a2 a3 b0 b1 b2 b3 c0 c1 c2 c3 k0 k1 k2 k3 : Int}
    (hu : u0 * k0 + u1 * k1 + u2 * k2 + u3 * k3 = 0) (hv : v0 * k0 + v1 * k1 + v2 * k2 + v3 * k3 = 0)
    (e0 : X * u0 - Y * v0 + P * a0 - Q * b0 + R * c0 = 0) (e1 : X * u1 - Y * v1 + P * a1 - Q * b1 + R * c1 = 0)
    (e2 : X * u2 - Y * v2 + P * a2 - Q * b2 + R * c2 = 0) (e3 : X * u3 - Y * v3 + P * a3 - Q * b3 + R * c3 = 0) :
    P * (a0 * k0 + a1 * k1 + a2 * k2 + a3 * k3) - Q * (b0 * k0 + b1 * k1 + b2 * k2 + b3 * k3) + R * (c0 * k0 + c1 * k1 + c2 * k2 + c3 * k3) = 0 := by
  have f0 : (X * u0 - Y * v0 + P * a0 - Q * b0 + R * c0) * k0 = 0 := by rw [e0, Int.zero_mul]
  have f1 : (X * u1 - Y * v1 + P * a1 - Q * b1 + R * c1) * k1 = 0 := by rw [e1, Int.zero_mul]
  have f2 : (X * u2 - Y * v2 + P * a2 - Q * b2 + R * c2) * k2 = 0 := by rw [e2, Int.zero_mul]
  have f3 : (X * u3 - Y * v3 + P * a3 - Q * b3 + R * c3) * k3 = 0 := by rw [e3, Int.zero_mul]
  have g1 : X * (u0 * k0 + u1 * k1 + u2 * k2 + u3 * k3) = 0 := by rw [hu, Int.mul_zero]
  have g2 : Y * (v0 * k0 + v1 * k1 + v2 * k2 + v3 * k3) = 0 := by rw [hv, Int.mul_zero]
  grind
theorem ge_gp (u v a b c d : Nat) : ge_det A B C E u v a b * ge_det A B C E u v c d - ge_det A B C E u v a c * ge_det A B C E u v b d + ge_det A B C E u v a d * ge_det A B C E u v b c = 0 := by
  obtain ⟨k0, k1, k2, k3, hk⟩ := ge_lin A B C E u v d
  have zu := ge_dz1 A B C E u v d
  have zv := ge_dz2 A B C E u v d
  rw [hk] at zu zv
  have := ge_comb zu zv (ge_cA A B C E u v a b c) (ge_cB A B C E u v a b c) (ge_cC A B C E u v a b c) (ge_cE A B C E u v a b c)
  rw [← hk, ← hk, ← hk] at this
  rw [Int.mul_comm (ge_det A B C E u v a d)]
  omega
theorem ge_ax : hu_Ax (ge_det A B C E) := ⟨ge_d12 A B C E, ge_d23 A B C E, ge_d34 A B C E, ge_gp A B C E⟩
theorem ge_fn (f : Nat → Int) (l0 l1 l2 l3 : Int) (hf : ∀ i, f i = l0 * A i + l1 * B i + l2 * C i + l3 * E i) :
    hu_Fn (ge_det A B C E) (fun v x => f x * A v - f v * A x) := by
  constructor
  · intro a b
    grind
  · intro v a c b d
    dsimp only
    have e0 := ge_cA A B C E v a c b d
    have e1 := ge_cB A B C E v a c b d
    have e2 := ge_cC A B C E v a c b d
    have e3 := ge_cE A B C E v a c b d
    generalize ge_det A B C E a c b d = X at e0 e1 e2 e3
    generalize ge_det A B C E v c b d = Y at e0 e1 e2 e3 ⊢
    generalize ge_det A B C E v a b d = P at e0 e1 e2 e3 ⊢
    generalize ge_det A B C E v a c d = Q at e0 e1 e2 e3 ⊢
    generalize ge_det A B C E v a c b = R at e0 e1 e2 e3 ⊢
    have ef : X * f v - Y * f a + P * f c - Q * f b + R * f d = 0 := by
      rw [hf v, hf a, hf c, hf b, hf d]
      have f0 : (X * A v - Y * A a + P * A c - Q * A b + R * A d) * l0 = 0 := by rw [e0, Int.zero_mul]
      have f1 : (X * B v - Y * B a + P * B c - Q * B b + R * B d) * l1 = 0 := by rw [e1, Int.zero_mul]
      have f2 : (X * C v - Y * C a + P * C c - Q * C b + R * C d) * l2 = 0 := by rw [e2, Int.zero_mul]
      have f3 : (X * E v - Y * E a + P * E c - Q * E b + R * E d) * l3 = 0 := by rw [e3, Int.zero_mul]
      clear hf e0 e1 e2 e3
      grind
    have g1 : (X * f v - Y * f a + P * f c - Q * f b + R * f d) * A v = 0 := by rw [ef, Int.zero_mul]
    have g2 : (X * A v - Y * A a + P * A c - Q * A b + R * A d) * f v = 0 := by rw [e0, Int.zero_mul]
    clear hf e0 e1 e2 e3 ef
    grind
end
end
section
/-! points: turn, dot, incircle -/
def ge_T (x y : Nat → Int) (a b c : Nat) : Int := (x b - x a) * (y c - y a) - (y b - y a) * (x c - x a)
def ge_D (x y : Nat → Int) (a b c : Nat) : Int := (x a - x c) * (x b - x c) + (y a - y c) * (y b - y c)
def ge_S (x y : Nat → Int) (a b : Nat) : Int := (x a - x b) * (x a - x b) + (y a - y b) * (y a - y b)
def ge_ic (x y : Nat → Int) (a b c d : Nat) : Int :=
  ((x a - x d) * (x a - x d) + (y a - y d) * (y a - y d)) * ((x b - x d) * (y c - y d) - (y b - y d) * (x c - x d))
  - ((x b - x d) * (x b - x d) + (y b - y d) * (y b - y d)) * ((x a - x d) * (y c - y d) - (y a - y d) * (x c - x d))
  + ((x c - x d) * (x c - x d) + (y c - y d) * (y c - y d)) * ((x a - x d) * (y b - y d) - (y a - y d) * (x b - x d))
def ge_H (x y f : Nat → Int) (a b c d : Nat) : Int := f a * ge_T x y b c d - f b * ge_T x y a c d + f c * ge_T x y a b d - f d * ge_T x y a b c
section
variable (x y : Nat → Int)
theorem ge_icD (a b c d : Nat) : ge_ic x y a b c d = ge_D x y a b c * ge_T x y a b d - ge_D x y a b d * ge_T x y a b c := by
  unfold ge_ic ge_D ge_T
  generalize x a = xa; generalize y a = ya; generalize x b = xb; generalize y b = yb
  generalize x c = xc; generalize y c = yc; generalize x d = xd; generalize y d = yd
  grind
theorem ge_icH (a b c d : Nat) : ge_ic x y a b c d = ge_H x y (fun i => x i * x i + y i * y i) a b c d := by
  unfold ge_ic ge_H ge_T
  dsimp only
  generalize x a = xa; generalize y a = ya; generalize x b = xb; generalize y b = yb
  generalize x c = xc; generalize y c = yc; generalize x d = xd; generalize y d = yd
  grind
theorem ge_T12 (a b c : Nat) : ge_T x y b a c = -ge_T x y a b c := by
  unfold ge_T
  generalize x a = xa; generalize y a = ya; generalize x b = xb; generalize y b = yb
  generalize x c = xc; generalize y c = yc
  grind
theorem ge_T23 (a b c : Nat) : ge_T x y a c b = -ge_T x y a b c := by
  unfold ge_T
  generalize x a = xa; generalize y a = ya; generalize x b = xb; generalize y b = yb
  generalize x c = xc; generalize y c = yc
  grind
theorem ge_Tr (a b c : Nat) : ge_T x y b c a = ge_T x y a b c := by
  rw [ge_T23, ge_T12]
  omega
theorem ge_D12 (a b c : Nat) : ge_D x y b a c = ge_D x y a b c := by
  unfold ge_D
  generalize x a = xa; generalize y a = ya; generalize x b = xb; generalize y b = yb
  generalize x c = xc; generalize y c = yc
  grind
theorem ge_ic12 (a b c d : Nat) : ge_ic x y b a c d = -ge_ic x y a b c d := by
  unfold ge_ic
  generalize x a = xa; generalize y a = ya; generalize x b = xb; generalize y b = yb
  generalize x c = xc; generalize y c = yc; generalize x d = xd; generalize y d = yd
  grind
theorem ge_ic23 (a b c d : Nat) : ge_ic x y a c b d = -ge_ic x y a b c d := by
  unfold ge_ic
  generalize x a = xa; generalize y a = ya; generalize x b = xb; generalize y b = yb
  generalize x c = xc; generalize y c = yc; generalize x d = xd; generalize y d = yd
  grind
theorem ge_ic34 (a b c d : Nat) : ge_ic x y a b d c = -ge_ic x y a b c d := by
  rw [ge_icD, ge_icD]
  grind
theorem ge_icr (a b c d : Nat) : ge_ic x y b c a d = ge_ic x y a b c d := by
  rw [ge_ic23, ge_ic12]
  omega
theorem ge_S2 (a b c : Nat) : ge_S x y c a + ge_S x y c b - ge_S x y a b = 2 * ge_D x y a b c := by
  unfold ge_S ge_D
  generalize x a = xa; generalize y a = ya; generalize x b = xb; generalize y b = yb
  generalize x c = xc; generalize y c = yc
  grind
theorem ge_Sc (a b : Nat) : ge_S x y b a = ge_S x y a b := by
  unfold ge_S
  generalize x a = xa; generalize y a = ya; generalize x b = xb; generalize y b = yb
  grind
theorem ge_sq (p : Int) : 0 ≤ p * p := by
  by_cases h : 0 ≤ p
  · exact Int.mul_nonneg h h
  · exact Int.le_of_lt (Int.mul_pos_of_neg_of_neg (by omega) (by omega))
theorem ge_sqp {p : Int} (h : p ≠ 0) : 0 < p * p := by
  by_cases h : 0 < p
  · exact Int.mul_pos h h
  · exact Int.mul_pos_of_neg_of_neg (by omega) (by omega)
theorem ge_sq2 {p q : Int} (h : p ≠ 0 ∨ q ≠ 0) : 0 < p * p + q * q := by
  have h1 := ge_sq p
  have h2 := ge_sq q
  rcases h with h | h
  · have := ge_sqp h; omega
  · have := ge_sqp h; omega
/-- the product of bounded numbers -/
theorem ge_mb {p q k l : Int} (h1 : -k ≤ p) (h2 : p ≤ k) (h3 : -l ≤ q) (h4 : q ≤ l) : -(k * l) ≤ p * q ∧ p * q ≤ k * l := by
  have m1 := Int.mul_nonneg (show 0 ≤ k - p by omega) (show 0 ≤ l + q by omega)
  have m2 := Int.mul_nonneg (show 0 ≤ k + p by omega) (show 0 ≤ l - q by omega)
  have m3 := Int.mul_nonneg (show 0 ≤ k - p by omega) (show 0 ≤ l - q by omega)
  have m4 := Int.mul_nonneg (show 0 ≤ k + p by omega) (show 0 ≤ l + q by omega)
  simp only [Int.sub_mul, Int.mul_sub, Int.add_mul, Int.mul_add] at m1 m2 m3 m4
  omega
end
/-- the coordinates are within the grid -/
def ge_Bd (x y : Nat → Int) : Prop := ∀ i, i < 24 → (0 ≤ x i ∧ x i ≤ 127) ∧ (0 ≤ y i ∧ y i ≤ 127)
section
variable {x y : Nat → Int}
theorem ge_Tb (B : ge_Bd x y) {a b c : Nat} (ha : a < 24) (hb : b < 24) (hc : c < 24) : -32258 ≤ ge_T x y a b c ∧ ge_T x y a b c ≤ 32258 := by
  have h1 := B a ha
  have h2 := B b hb
  have h3 := B c hc
  have m1 := ge_mb (p := x b - x a) (q := y c - y a) (k := 127) (l := 127) (by omega) (by omega) (by omega) (by omega)
  have m2 := ge_mb (p := y b - y a) (q := x c - x a) (k := 127) (l := 127) (by omega) (by omega) (by omega) (by omega)
  unfold ge_T
  omega
theorem ge_Sb (B : ge_Bd x y) {a b : Nat} (ha : a < 24) (hb : b < 24) : 0 ≤ ge_S x y a b ∧ ge_S x y a b ≤ 32258 := by
  have h1 := B a ha
  have h2 := B b hb
  have m1 := ge_mb (p := x a - x b) (q := x a - x b) (k := 127) (l := 127) (by omega) (by omega) (by omega) (by omega)
  have m2 := ge_mb (p := y a - y b) (q := y a - y b) (k := 127) (l := 127) (by omega) (by omega) (by omega) (by omega)
  have n1 := ge_sq (x a - x b)
  have n2 := ge_sq (y a - y b)
  unfold ge_S
  omega
theorem ge_qb (B : ge_Bd x y) {a : Nat} (ha : a < 24) : 0 ≤ x a * x a + y a * y a ∧ x a * x a + y a * y a ≤ 32258 := by
  have h1 := B a ha
  have m1 := ge_mb (p := x a) (q := x a) (k := 127) (l := 127) (by omega) (by omega) (by omega) (by omega)
  have m2 := ge_mb (p := y a) (q := y a) (k := 127) (l := 127) (by omega) (by omega) (by omega) (by omega)
  have n1 := ge_sq (x a)
  have n2 := ge_sq (y a)
  omega
theorem ge_Hb (B : ge_Bd x y) {f : Nat → Int} {W : Int} (hf : ∀ i, i < 24 → 0 ≤ f i ∧ f i ≤ W) {a b c d : Nat} (ha : a < 24) (hb : b < 24) (hc : c < 24) (hd : d < 24) :
    -(129032 * W) ≤ ge_H x y f a b c d ∧ ge_H x y f a b c d ≤ 129032 * W := by
  have ta := ge_Tb B hb hc hd
  have tb := ge_Tb B ha hc hd
  have tc := ge_Tb B ha hb hd
  have td := ge_Tb B ha hb hc
  have m1 := ge_mb (p := f a) (k := W) (l := 32258) (by have := hf a ha; omega) (by have := hf a ha; omega) ta.1 ta.2
  have m2 := ge_mb (p := f b) (k := W) (l := 32258) (by have := hf b hb; omega) (by have := hf b hb; omega) tb.1 tb.2
  have m3 := ge_mb (p := f c) (k := W) (l := 32258) (by have := hf c hc; omega) (by have := hf c hc; omega) tc.1 tc.2
  have m4 := ge_mb (p := f d) (k := W) (l := 32258) (by have := hf d hd; omega) (by have := hf d hd; omega) td.1 td.2
  unfold ge_H
  omega
/-- a large factor decides the sign -/
theorem ge_lex {M i r : Int} (h1 : -M < r) (h2 : r < M) (h0 : 0 < M) : (0 < M * i + r ↔ 0 < i ∨ (i = 0 ∧ 0 < r)) ∧ (M * i + r < 0 ↔ i < 0 ∨ (i = 0 ∧ r < 0)) := by
  rcases Int.lt_trichotomy i 0 with h | h | h
  · have := Int.mul_le_mul_of_nonneg_left (show i ≤ -1 by omega) (Int.le_of_lt h0)
    rw [Int.mul_neg, Int.mul_one] at this
    omega
  · subst h
    rw [Int.mul_zero]
    omega
  · have := Int.mul_le_mul_of_nonneg_left (show 1 ≤ i by omega) (Int.le_of_lt h0)
    rw [Int.mul_one] at this
    omega
/-- different points are apart -/
def ge_Ne (x y : Nat → Int) (U : Nat → Prop) : Prop := ∀ i j, U i → U j → i ≠ j → x i ≠ x j ∨ y i ≠ y j
theorem ge_Sp {U : Nat → Prop} (N : ge_Ne x y U) {a b : Nat} (ha : U a) (hb : U b) (ab : a ≠ b) : 0 < ge_S x y a b := by
  unfold ge_S
  exact ge_sq2 (by have := N a b ha hb ab; omega)
/-- on a line: three points, and what the height form becomes -/
theorem ge_col (f : Nat → Int) {a b c : Nat} (t : ge_T x y a b c = 0) (e : Nat) :
    ge_S x y a b * ge_H x y f a b c e = (f a * (((x c - x a) * (x b - x a) + (y c - y a) * (y b - y a)) - ge_S x y a b) - f b * ((x c - x a) * (x b - x a) + (y c - y a) * (y b - y a)) + f c * ge_S x y a b) * ge_T x y a b e := by
  have t1 : ge_S x y a b * ge_T x y a c e = ((x c - x a) * (x b - x a) + (y c - y a) * (y b - y a)) * ge_T x y a b e - ge_T x y a b c * ((x e - x a) * (x b - x a) + (y e - y a) * (y b - y a)) := by
    unfold ge_S ge_T
    generalize x a = xa; generalize y a = ya; generalize x b = xb; generalize y b = yb
    generalize x c = xc; generalize y c = yc; generalize x e = xd; generalize y e = yd
    grind
  have t2 : ge_T x y b c e = ge_T x y a c e - ge_T x y a b e + ge_T x y a b c := by
    unfold ge_T
    generalize x a = xa; generalize y a = ya; generalize x b = xb; generalize y b = yb
    generalize x c = xc; generalize y c = yc; generalize x e = xd; generalize y e = yd
    grind
  unfold ge_H
  rw [t2, t]
  rw [t, Int.zero_mul, Int.sub_zero] at t1
  generalize ((x c - x a) * (x b - x a) + (y c - y a) * (y b - y a)) = m at t1 ⊢
  generalize ge_S x y a b = L at t1 ⊢
  generalize ge_T x y a c e = P at t1 ⊢
  generalize ge_T x y a b e = Q at t1 ⊢
  have u1 : f a * (L * P) = f a * (m * Q) := by rw [t1]
  have u2 : f b * (L * P) = f b * (m * Q) := by rw [t1]
  clear t1 t2 t
  grind
theorem ge_colD {a b c : Nat} (t : ge_T x y a b c = 0) :
    ((x c - x a) * (x b - x a) + (y c - y a) * (y b - y a)) * (((x c - x a) * (x b - x a) + (y c - y a) * (y b - y a)) - ge_S x y a b) = ge_S x y a b * ge_D x y a b c := by
  have t1 : ((x c - x a) * (x b - x a) + (y c - y a) * (y b - y a)) * (((x c - x a) * (x b - x a) + (y c - y a) * (y b - y a)) - ge_S x y a b) = ge_S x y a b * ge_D x y a b c - ge_T x y a b c * ge_T x y a b c := by
    unfold ge_S ge_T ge_D
    generalize x a = xa; generalize y a = ya; generalize x b = xb; generalize y b = yb
    generalize x c = xc; generalize y c = yc
    grind
  rw [t1, t]
  omega
theorem ge_colq {a b c : Nat} (t : ge_T x y a b c = 0) :
    (x a * x a + y a * y a) * (((x c - x a) * (x b - x a) + (y c - y a) * (y b - y a)) - ge_S x y a b) - (x b * x b + y b * y b) * ((x c - x a) * (x b - x a) + (y c - y a) * (y b - y a)) + (x c * x c + y c * y c) * ge_S x y a b
    = ge_S x y a b * ge_D x y a b c := by
  have t1 : (x a * x a + y a * y a) * (((x c - x a) * (x b - x a) + (y c - y a) * (y b - y a)) - ge_S x y a b) - (x b * x b + y b * y b) * ((x c - x a) * (x b - x a) + (y c - y a) * (y b - y a)) + (x c * x c + y c * y c) * ge_S x y a b
    = ge_S x y a b * ge_D x y a b c + ge_T x y a b c * (2 * (y a * (x b - x a) - x a * (y b - y a))) := by
    unfold ge_S ge_T ge_D
    generalize x a = xa; generalize y a = ya; generalize x b = xb; generalize y b = yb
    generalize x c = xc; generalize y c = yc
    grind
  rw [t1, t]
  omega
/-- three distinct points of a line: the middle dot isn't zero -/
theorem ge_colne {a b c : Nat} (t : ge_T x y a b c = 0) (ac : x a ≠ x c ∨ y a ≠ y c) (bc : x b ≠ x c ∨ y b ≠ y c) (ab : x a ≠ x b ∨ y a ≠ y b) : ge_D x y a b c ≠ 0 := by
  intro h
  have e : ge_S x y c a * ge_S x y c b = ge_D x y a b c * ge_D x y a b c + ge_T x y a b c * ge_T x y a b c := by
    unfold ge_S ge_T ge_D
    generalize x a = xa; generalize y a = ya; generalize x b = xb; generalize y b = yb
    generalize x c = xc; generalize y c = yc
    grind
  rw [h, t] at e
  have h1 : 0 < ge_S x y c a := ge_sq2 (by omega)
  have h2 : 0 < ge_S x y c b := ge_sq2 (by omega)
  have := Int.mul_pos h1 h2
  omega
/-- three points on the line through a and b are on one line -/
theorem ge_col3 {a b p q r : Nat} (ab : x a ≠ x b ∨ y a ≠ y b) (hp : ge_T x y a b p = 0) (hq : ge_T x y a b q = 0) (hr : ge_T x y a b r = 0) : ge_T x y p q r = 0 := by
  have e1 : (x b - x a) * ge_T x y p q r = (x q - x p) * (ge_T x y a b r - ge_T x y a b p) - (x r - x p) * (ge_T x y a b q - ge_T x y a b p) := by
    unfold ge_T
    generalize x a = xa; generalize y a = ya; generalize x b = xb; generalize y b = yb
    generalize x p = xp; generalize y p = yp; generalize x q = xq; generalize y q = yq; generalize x r = xr; generalize y r = yr
    grind
  have e2 : (y b - y a) * ge_T x y p q r = (y q - y p) * (ge_T x y a b r - ge_T x y a b p) - (y r - y p) * (ge_T x y a b q - ge_T x y a b p) := by
    unfold ge_T
    generalize x a = xa; generalize y a = ya; generalize x b = xb; generalize y b = yb
    generalize x p = xp; generalize y p = yp; generalize x q = xq; generalize y q = yq; generalize x r = xr; generalize y r = yr
    grind
  rw [hp, hq, hr] at e1 e2
  rw [Int.sub_self, Int.mul_zero, Int.mul_zero, Int.sub_self] at e1 e2
  rcases Int.mul_eq_zero.mp e1 with h | h
  · rcases Int.mul_eq_zero.mp e2 with g | g
    · exfalso; omega
    · exact g
  · exact h
end
end
section
/-! the form of a weighted set of points with the ghost 24 -/
def ch_h (x y w : Nat → Int) (M : Int) (i : Nat) : Int := M * (x i * x i + y i * y i) + w i
def ch_A (i : Nat) : Int := if i = 24 then -3 else 1
def ch_B (x : Nat → Int) (s1 s2 s3 i : Nat) : Int := if i = 24 then -(x s1 + x s2 + x s3) else x i
def ch_E (h : Nat → Int) (N : Int) (s1 s2 s3 i : Nat) : Int := if i = 24 then h s1 + h s2 + h s3 - N else -h i
def ch_M (W : Int) : Int := 129032 * W + 1
def ch_N (W : Int) : Int := 387096 * ((129032 * W + 1) * 4294967296 + W) + 1
def ch_X (x y w : Nat → Int) (W : Int) (s1 s2 s3 : Nat) : Nat → Nat → Nat → Nat → Int :=
  ge_det ch_A (ch_B x s1 s2 s3) (ch_B y s1 s2 s3) (ch_E (ch_h x y w (ch_M W)) (ch_N W) s1 s2 s3)
def ch_W (w : Nat → Int) (W : Int) : Prop := 0 ≤ W ∧ ∀ i, i < 24 → 0 ≤ w i ∧ w i ≤ W
def ch_Gen (x y w : Nat → Int) (U : Nat → Prop) : Prop := ∀ a b c d, U a → U b → U c → U d → a ≠ b → a ≠ c → a ≠ d → b ≠ c → b ≠ d → c ≠ d →
  ge_T x y a b c ≠ 0 → ge_ic x y a b c d = 0 → ge_H x y w a b c d ≠ 0
section
variable {x y w : Nat → Int} {W : Int} {s1 s2 s3 : Nat}
theorem ch_ax : hu_Ax (ch_X x y w W s1 s2 s3) := ge_ax _ _ _ _
theorem ch_realH {a b c d : Nat} (ha : a < 24) (hb : b < 24) (hc : c < 24) (hd : d < 24) : ch_X x y w W s1 s2 s3 a b c d = ge_H x y (ch_h x y w (ch_M W)) a b c d := by
  unfold ch_X ge_det ch_A ch_B ch_E
  rw [if_neg (show ¬ a = 24 by omega), if_neg (show ¬ a = 24 by omega), if_neg (show ¬ a = 24 by omega), if_neg (show ¬ a = 24 by omega),
    if_neg (show ¬ b = 24 by omega), if_neg (show ¬ b = 24 by omega), if_neg (show ¬ b = 24 by omega), if_neg (show ¬ b = 24 by omega),
    if_neg (show ¬ c = 24 by omega), if_neg (show ¬ c = 24 by omega), if_neg (show ¬ c = 24 by omega), if_neg (show ¬ c = 24 by omega),
    if_neg (show ¬ d = 24 by omega), if_neg (show ¬ d = 24 by omega), if_neg (show ¬ d = 24 by omega), if_neg (show ¬ d = 24 by omega)]
  unfold ge_H ge_T
  generalize ch_h x y w (ch_M W) a = fa; generalize ch_h x y w (ch_M W) b = fb; generalize ch_h x y w (ch_M W) c = fc; generalize ch_h x y w (ch_M W) d = fd
  generalize x a = xa; generalize y a = ya; generalize x b = xb; generalize y b = yb
  generalize x c = xc; generalize y c = yc; generalize x d = xd; generalize y d = yd
  grind
theorem ch_hH (M : Int) (a b c d : Nat) : ge_H x y (ch_h x y w M) a b c d = M * ge_ic x y a b c d + ge_H x y w a b c d := by
  rw [ge_icH]
  unfold ge_H ch_h
  generalize ge_T x y b c d = t1; generalize ge_T x y a c d = t2; generalize ge_T x y a b d = t3; generalize ge_T x y a b c = t4
  grind
theorem ch_ghost {a b c : Nat} (ha : a < 24) (hb : b < 24) (hc : c < 24) (h1 : s1 < 24) (h2 : s2 < 24) (h3 : s3 < 24) :
    ch_X x y w W s1 s2 s3 a b c 24 = -(ch_X x y w W s1 s2 s3 a b c s1 + ch_X x y w W s1 s2 s3 a b c s2 + ch_X x y w W s1 s2 s3 a b c s3) - ch_N W * ge_T x y a b c := by
  rw [ch_realH ha hb hc h1, ch_realH ha hb hc h2, ch_realH ha hb hc h3]
  unfold ch_X ge_det ch_A ch_B ch_E
  rw [if_neg (show ¬ a = 24 by omega), if_neg (show ¬ a = 24 by omega), if_neg (show ¬ a = 24 by omega), if_neg (show ¬ a = 24 by omega),
    if_neg (show ¬ b = 24 by omega), if_neg (show ¬ b = 24 by omega), if_neg (show ¬ b = 24 by omega), if_neg (show ¬ b = 24 by omega),
    if_neg (show ¬ c = 24 by omega), if_neg (show ¬ c = 24 by omega), if_neg (show ¬ c = 24 by omega), if_neg (show ¬ c = 24 by omega),
    if_pos rfl, if_pos rfl, if_pos rfl, if_pos rfl]
  unfold ge_H ge_T
  generalize ch_h x y w (ch_M W) a = fa; generalize ch_h x y w (ch_M W) b = fb; generalize ch_h x y w (ch_M W) c = fc
  generalize ch_h x y w (ch_M W) s1 = f1; generalize ch_h x y w (ch_M W) s2 = f2; generalize ch_h x y w (ch_M W) s3 = f3
  generalize ch_N W = N
  generalize x a = xa; generalize y a = ya; generalize x b = xb; generalize y b = yb
  generalize x c = xc; generalize y c = yc
  generalize x s1 = x1; generalize y s1 = y1; generalize x s2 = x2; generalize y s2 = y2; generalize x s3 = x3; generalize y s3 = y3
  grind
/-- signs among points -/
theorem ch_sg (B : ge_Bd x y) (hw : ch_W w W) {a b c d : Nat} (ha : a < 24) (hb : b < 24) (hc : c < 24) (hd : d < 24) :
    (0 < ch_X x y w W s1 s2 s3 a b c d ↔ 0 < ge_ic x y a b c d ∨ (ge_ic x y a b c d = 0 ∧ 0 < ge_H x y w a b c d)) ∧
    (ch_X x y w W s1 s2 s3 a b c d < 0 ↔ ge_ic x y a b c d < 0 ∨ (ge_ic x y a b c d = 0 ∧ ge_H x y w a b c d < 0)) := by
  rw [ch_realH ha hb hc hd, ch_hH]
  have hb := ge_Hb B hw.2 ha hb hc hd
  have h0 := hw.1
  exact ge_lex (by unfold ch_M; omega) (by unfold ch_M; omega) (by unfold ch_M; omega)
theorem ch_hb (B : ge_Bd x y) (hw : ch_W w W) : ∀ i, i < 24 → 0 ≤ ch_h x y w (ch_M W) i ∧ ch_h x y w (ch_M W) i ≤ (129032 * W + 1) * 4294967296 + W := by
  intro i hi
  have q := ge_qb B hi
  have h1 := hw.2 i hi
  have h0 := hw.1
  unfold ch_h ch_M
  have m1 := Int.mul_nonneg (show 0 ≤ 129032 * W + 1 by omega) q.1
  have m2 := Int.mul_le_mul_of_nonneg_left (show x i * x i + y i * y i ≤ 4294967296 by omega) (show 0 ≤ 129032 * W + 1 by omega)
  omega
/-- signs of the ghost -/
theorem ch_gh (B : ge_Bd x y) (hw : ch_W w W) {a b c : Nat} (ha : a < 24) (hb : b < 24) (hc : c < 24) (h1 : s1 < 24) (h2 : s2 < 24) (h3 : s3 < 24) :
    (0 < ge_T x y a b c → ch_X x y w W s1 s2 s3 a b c 24 < 0) ∧ (ge_T x y a b c < 0 → 0 < ch_X x y w W s1 s2 s3 a b c 24) ∧
    (ge_T x y a b c = 0 → ch_X x y w W s1 s2 s3 a b c 24 = -(ch_X x y w W s1 s2 s3 a b c s1 + ch_X x y w W s1 s2 s3 a b c s2 + ch_X x y w W s1 s2 s3 a b c s3)) := by
  rw [ch_ghost ha hb hc h1 h2 h3]
  have b1 := ge_Hb B (ch_hb B hw) ha hb hc h1
  have b2 := ge_Hb B (ch_hb B hw) ha hb hc h2
  have b3 := ge_Hb B (ch_hb B hw) ha hb hc h3
  rw [← ch_realH (s1 := s1) (s2 := s2) (s3 := s3) ha hb hc h1] at b1
  rw [← ch_realH (s1 := s1) (s2 := s2) (s3 := s3) ha hb hc h2] at b2
  rw [← ch_realH (s1 := s1) (s2 := s2) (s3 := s3) ha hb hc h3] at b3
  generalize ch_X x y w W s1 s2 s3 a b c s1 = X1 at *
  generalize ch_X x y w W s1 s2 s3 a b c s2 = X2 at *
  generalize ch_X x y w W s1 s2 s3 a b c s3 = X3 at *
  have h0 := hw.1
  have eN : ch_N W = 387096 * ((129032 * W + 1) * 4294967296 + W) + 1 := rfl
  have l := ge_lex (M := ch_N W) (i := ge_T x y a b c) (r := X1 + X2 + X3) (by omega) (by omega) (by omega)
  refine ⟨fun t => ?_, fun t => ?_, fun t => ?_⟩
  · have := l.1.mpr (Or.inl t); omega
  · have := l.2.mpr (Or.inl t); omega
  · rw [t, Int.mul_zero]; omega
/-- three points of a line -/
theorem ch_cl (B : ge_Bd x y) (hw : ch_W w W) {a b c : Nat} (ha : a < 24) (hb : b < 24) (hc : c < 24) (t : ge_T x y a b c = 0)
    (ac : x a ≠ x c ∨ y a ≠ y c) (bc : x b ≠ x c ∨ y b ≠ y c) (ab : x a ≠ x b ∨ y a ≠ y b) :
    ∃ k : Int, ((0 < k ∧ 0 < ge_D x y a b c) ∨ (k < 0 ∧ ge_D x y a b c < 0)) ∧ ∀ e, e < 24 → ge_S x y a b * ch_X x y w W s1 s2 s3 a b c e = k * ge_T x y a b e := by
  refine ⟨ch_h x y w (ch_M W) a * (((x c - x a) * (x b - x a) + (y c - y a) * (y b - y a)) - ge_S x y a b) - ch_h x y w (ch_M W) b * ((x c - x a) * (x b - x a) + (y c - y a) * (y b - y a)) + ch_h x y w (ch_M W) c * ge_S x y a b, ?_, fun e he => ?_⟩
  rotate_left
  · rw [ch_realH ha hb hc he]
    exact ge_col _ t e
  · have sp : 0 < ge_S x y a b := ge_sq2 (by omega)
    have dn := ge_colne t ac bc ab
    have cq := ge_colq t
    have sb := ge_Sb B ha hb
    have pa := B a ha
    have pb := B b hb
    have pc := B c hc
    have m1 := ge_mb (p := x c - x a) (q := x b - x a) (k := 127) (l := 127) (by omega) (by omega) (by omega) (by omega)
    have m2 := ge_mb (p := y c - y a) (q := y b - y a) (k := 127) (l := 127) (by omega) (by omega) (by omega) (by omega)
    have n1 := ge_mb (p := x c - x b) (q := x b - x a) (k := 127) (l := 127) (by omega) (by omega) (by omega) (by omega)
    have n2 := ge_mb (p := y c - y b) (q := y b - y a) (k := 127) (l := 127) (by omega) (by omega) (by omega) (by omega)
    have em : ((x c - x a) * (x b - x a) + (y c - y a) * (y b - y a)) - ge_S x y a b = (x c - x b) * (x b - x a) + (y c - y b) * (y b - y a) := by
      unfold ge_S
      generalize x a = xa; generalize y a = ya; generalize x b = xb; generalize y b = yb
      generalize x c = xc; generalize y c = yc
      grind
    have wa := hw.2 a ha
    have wb := hw.2 b hb
    have wc := hw.2 c hc
    have k1 := ge_mb (p := w a) (q := ((x c - x a) * (x b - x a) + (y c - y a) * (y b - y a)) - ge_S x y a b) (k := W) (l := 32258) (by omega) (by omega) (by omega) (by omega)
    have k2 := ge_mb (p := w b) (q := (x c - x a) * (x b - x a) + (y c - y a) * (y b - y a)) (k := W) (l := 32258) (by omega) (by omega) (by omega) (by omega)
    have k3 := ge_mb (p := w c) (q := ge_S x y a b) (k := W) (l := 32258) (by omega) (by omega) (by omega) (by omega)
    have h0 := hw.1
    have ee : ch_h x y w (ch_M W) a * (((x c - x a) * (x b - x a) + (y c - y a) * (y b - y a)) - ge_S x y a b) - ch_h x y w (ch_M W) b * ((x c - x a) * (x b - x a) + (y c - y a) * (y b - y a)) + ch_h x y w (ch_M W) c * ge_S x y a b
        = ch_M W * (ge_S x y a b * ge_D x y a b c) + (w a * (((x c - x a) * (x b - x a) + (y c - y a) * (y b - y a)) - ge_S x y a b) - w b * ((x c - x a) * (x b - x a) + (y c - y a) * (y b - y a)) + w c * ge_S x y a b) := by
      rw [← cq]
      unfold ch_h
      generalize ((x c - x a) * (x b - x a) + (y c - y a) * (y b - y a)) - ge_S x y a b = m1
      generalize (x c - x a) * (x b - x a) + (y c - y a) * (y b - y a) = m2
      generalize ge_S x y a b = m3
      generalize x a * x a + y a * y a = q1; generalize x b * x b + y b * y b = q2; generalize x c * x c + y c * y c = q3
      grind
    rw [ee]
    generalize hr : w a * (((x c - x a) * (x b - x a) + (y c - y a) * (y b - y a)) - ge_S x y a b) - w b * ((x c - x a) * (x b - x a) + (y c - y a) * (y b - y a)) + w c * ge_S x y a b = r
    have l := ge_lex (M := ch_M W) (i := ge_S x y a b * ge_D x y a b c) (r := r) (by unfold ch_M; omega) (by unfold ch_M; omega) (by unfold ch_M; omega)
    by_cases dp : 0 < ge_D x y a b c
    · exact Or.inl ⟨l.1.mpr (Or.inl (Int.mul_pos sp dp)), dp⟩
    · have dn' : ge_D x y a b c < 0 := by omega
      exact Or.inr ⟨l.2.mpr (Or.inl (Int.mul_neg_of_pos_of_neg sp dn')), dn'⟩
end
end
section
/-! facets of a set of points with the ghost -/
/-- what a set of points holds: on the grid, apart, three of them not on a line, weights -/
def ch_Pre (x y w : Nat → Int) (W : Int) (s1 s2 s3 : Nat) (U : Nat → Prop) : Prop :=
  ge_Bd x y ∧ ge_Ne x y U ∧ (∀ i, U i → i < 24) ∧ ch_W w W ∧ ch_Gen x y w U ∧ (U s1 ∧ U s2 ∧ U s3 ∧ ge_T x y s1 s2 s3 ≠ 0)
section
variable {x y w : Nat → Int} {W : Int} {s1 s2 s3 : Nat} {U : Nat → Prop}
theorem ch_z1 (a b c : Nat) : ch_X x y w W s1 s2 s3 a b c a = 0 := by
  have A : hu_Ax (ch_X x y w W s1 s2 s3) := ch_ax
  have h1 := A.2.2.1 a b a c
  have h2 := A.2.1 a a b c
  have h3 := A.1 a a b c
  omega
theorem ch_z2 (a b c : Nat) : ch_X x y w W s1 s2 s3 a b c b = 0 := by
  have A : hu_Ax (ch_X x y w W s1 s2 s3) := ch_ax
  have h1 := A.2.2.1 a b b c
  have h2 := A.2.1 a b b c
  omega
theorem ch_z3 (a b c : Nat) : ch_X x y w W s1 s2 s3 a b c c = 0 := by
  have A : hu_Ax (ch_X x y w W s1 s2 s3) := ch_ax
  have h1 := A.2.2.1 a b c c
  omega
theorem ch_all {a b c : Nat} (h : ∀ d, (U d ∨ d = 24) → d ≠ a → d ≠ b → d ≠ c → ch_X x y w W s1 s2 s3 a b c d ≤ 0) : ∀ d, (U d ∨ d = 24) → ch_X x y w W s1 s2 s3 a b c d ≤ 0 := by
  intro d sd
  by_cases d1 : d = a
  · subst d1; rw [ch_z1]; exact Int.le_refl 0
  by_cases d2 : d = b
  · subst d2; rw [ch_z2]; exact Int.le_refl 0
  by_cases d3 : d = c
  · subst d3; rw [ch_z3]; exact Int.le_refl 0
  exact h d sd d1 d2 d3
/-- three points of a line are no facet, not even a weak one -/
theorem ch_nocol (P : ch_Pre x y w W s1 s2 s3 U) {a b c : Nat} (ha : U a) (hb : U b) (hc : U c) (ab : a ≠ b) (bc : b ≠ c) (ac : a ≠ c)
    (t : ge_T x y a b c = 0) (h : ∀ d, (U d ∨ d = 24) → d ≠ a → d ≠ b → d ≠ c → ch_X x y w W s1 s2 s3 a b c d ≤ 0) : False := by
  obtain ⟨B, N, L, hw, G, u1, u2, u3, ts⟩ := P
  have h' := ch_all h
  obtain ⟨k, hk, he⟩ := ch_cl (s1 := s1) (s2 := s2) (s3 := s3) B hw (L a ha) (L b hb) (L c hc) t (N a c ha hc ac) (N b c hb hc bc) (N a b ha hb ab)
  have g := (ch_gh (s1 := s1) (s2 := s2) (s3 := s3) B hw (L a ha) (L b hb) (L c hc) (L _ u1) (L _ u2) (L _ u3)).2.2 t
  have g1 := h' s1 (Or.inl u1)
  have g2 := h' s2 (Or.inl u2)
  have g3 := h' s3 (Or.inl u3)
  have g4 := h' 24 (Or.inr rfl)
  have e1 := he s1 (L _ u1)
  have e2 := he s2 (L _ u2)
  have e3 := he s3 (L _ u3)
  rw [show ch_X x y w W s1 s2 s3 a b c s1 = 0 by omega, Int.mul_zero] at e1
  rw [show ch_X x y w W s1 s2 s3 a b c s2 = 0 by omega, Int.mul_zero] at e2
  rw [show ch_X x y w W s1 s2 s3 a b c s3 = 0 by omega, Int.mul_zero] at e3
  have k0 : k ≠ 0 := by omega
  have f1 := (Int.mul_eq_zero.mp e1.symm).resolve_left k0
  have f2 := (Int.mul_eq_zero.mp e2.symm).resolve_left k0
  have f3 := (Int.mul_eq_zero.mp e3.symm).resolve_left k0
  exact ts (ge_col3 (N a b ha hb ab) f1 f2 f3)
/-- a hull edge: three signs at the ghost -/
theorem ch_edge (P : ch_Pre x y w W s1 s2 s3 U) {a b : Nat} (ha : U a) (hb : U b) (ab : a ≠ b) (h : ∀ d, U d → ge_T x y a b d ≤ 0)
    {p : Nat} (hp : p < 24) (ap : x a ≠ x p ∨ y a ≠ y p) (bp : x b ≠ x p ∨ y b ≠ y p) :
    (0 < ch_X x y w W s1 s2 s3 a b 24 p ↔ 0 < ge_T x y a b p ∨ (ge_T x y a b p = 0 ∧ ge_D x y a b p < 0)) ∧
    (ch_X x y w W s1 s2 s3 a b 24 p < 0 ↔ ge_T x y a b p < 0 ∨ (ge_T x y a b p = 0 ∧ 0 < ge_D x y a b p)) := by
  obtain ⟨B, N, L, hw, G, u1, u2, u3, ts⟩ := P
  have A : hu_Ax (ch_X x y w W s1 s2 s3) := ch_ax
  have e := A.2.2.1 a b p 24
  have g := ch_gh (s1 := s1) (s2 := s2) (s3 := s3) B hw (L a ha) (L b hb) hp (L _ u1) (L _ u2) (L _ u3)
  rcases Int.lt_trichotomy (ge_T x y a b p) 0 with t | t | t
  · have := g.2.1 t
    omega
  · obtain ⟨k, hk, he⟩ := ch_cl (s1 := s1) (s2 := s2) (s3 := s3) B hw (L a ha) (L b hb) hp t ap bp (N a b ha hb ab)
    have g0 := g.2.2 t
    have e1 := he s1 (L _ u1)
    have e2 := he s2 (L _ u2)
    have e3 := he s3 (L _ u3)
    have t1 := h s1 u1
    have t2 := h s2 u2
    have t3 := h s3 u3
    have sp : 0 < ge_S x y a b := ge_Sp N ha hb ab
    have tn : ge_T x y a b s1 + ge_T x y a b s2 + ge_T x y a b s3 < 0 := by
      by_cases z : ge_T x y a b s1 + ge_T x y a b s2 + ge_T x y a b s3 < 0
      · exact z
      · exact absurd (ge_col3 (N a b ha hb ab) (show ge_T x y a b s1 = 0 by omega) (show ge_T x y a b s2 = 0 by omega) (show ge_T x y a b s3 = 0 by omega)) ts
    have es : ge_S x y a b * ch_X x y w W s1 s2 s3 a b 24 p = k * (ge_T x y a b s1 + ge_T x y a b s2 + ge_T x y a b s3) := by
      rw [e, g0, Int.neg_neg, Int.mul_add, Int.mul_add, e1, e2, e3, Int.mul_add, Int.mul_add]
    rcases hk with ⟨k1, d1⟩ | ⟨k1, d1⟩
    · have m := Int.mul_neg_of_pos_of_neg k1 tn
      have := sg_pn sp (by rw [es]; exact m)
      omega
    · have m := Int.mul_pos_of_neg_of_neg k1 tn
      have := sg_pP sp (by rw [es]; exact m)
      omega
  · have := g.1 t
    omega
theorem ch_edgeT (P : ch_Pre x y w W s1 s2 s3 U) {a b : Nat} (ha : U a) (hb : U b)
    (h : ∀ d, U d → d ≠ a → d ≠ b → ch_X x y w W s1 s2 s3 a b 24 d ≤ 0) : ∀ d, U d → ge_T x y a b d ≤ 0 := by
  intro d ud
  obtain ⟨B, N, L, hw, G, u1, u2, u3, ts⟩ := P
  by_cases d1 : d = a
  · subst d1
    have h1 := ge_T23 x y d b d
    have h2 := ge_T12 x y d d b
    omega
  by_cases d2 : d = b
  · subst d2
    have h1 := ge_T23 x y a d d
    omega
  have A : hu_Ax (ch_X x y w W s1 s2 s3) := ch_ax
  have e := A.2.2.1 a b d 24
  have g := ch_gh (s1 := s1) (s2 := s2) (s3 := s3) B hw (L a ha) (L b hb) (L d ud) (L _ u1) (L _ u2) (L _ u3)
  have h1 := h d ud d1 d2
  by_cases t : ge_T x y a b d ≤ 0
  · exact t
  · have := g.1 (by omega)
    omega
theorem ch_wf3 (P : ch_Pre x y w W s1 s2 s3 U) {a b c : Nat} (ha : U a) (hb : U b) (hc : U c) (ab : a ≠ b) (bc : b ≠ c) (ac : a ≠ c)
    (h : ∀ d, (U d ∨ d = 24) → d ≠ a → d ≠ b → d ≠ c → ch_X x y w W s1 s2 s3 a b c d ≤ 0) : hu_F (ch_X x y w W s1 s2 s3) (fun d => U d ∨ d = 24) a b c := by
  refine ⟨Or.inl ha, Or.inl hb, Or.inl hc, ab, bc, ac, fun d sd d1 d2 d3 => ?_⟩
  have h1 := h d sd d1 d2 d3
  by_cases z : ch_X x y w W s1 s2 s3 a b c d < 0
  · exact z
  exfalso
  by_cases t : ge_T x y a b c = 0
  · exact ch_nocol P ha hb hc ab bc ac t h
  obtain ⟨B, N, L, hw, G, u1, u2, u3, ts⟩ := P
  rcases sd with sd | sd
  · have g := ch_sg (s1 := s1) (s2 := s2) (s3 := s3) B hw (L a ha) (L b hb) (L c hc) (L d sd)
    have i0 : ge_ic x y a b c d = 0 := by omega
    have := G a b c d ha hb hc sd ab ac (fun e => d1 e.symm) bc (fun e => d2 e.symm) (fun e => d3 e.symm) t i0
    omega
  · subst sd
    have g := ch_gh (s1 := s1) (s2 := s2) (s3 := s3) B hw (L a ha) (L b hb) (L c hc) (L _ u1) (L _ u2) (L _ u3)
    by_cases t' : 0 < ge_T x y a b c
    · have := g.1 t'
      omega
    · have := g.2.1 (by omega)
      omega
theorem ch_wfg (P : ch_Pre x y w W s1 s2 s3 U) {a b : Nat} (ha : U a) (hb : U b) (ab : a ≠ b)
    (h : ∀ d, (U d ∨ d = 24) → d ≠ a → d ≠ b → d ≠ 24 → ch_X x y w W s1 s2 s3 a b 24 d ≤ 0) : hu_F (ch_X x y w W s1 s2 s3) (fun d => U d ∨ d = 24) a b 24 := by
  have L := P.2.2.1
  have la := L a ha
  have lb := L b hb
  have hT := ch_edgeT P ha hb (fun d ud d1 d2 => h d (Or.inl ud) d1 d2 (by have := L d ud; omega))
  refine ⟨Or.inl ha, Or.inl hb, Or.inr rfl, ab, by omega, by omega, fun d sd d1 d2 d3 => ?_⟩
  have h1 := h d sd d1 d2 d3
  have ud : U d := sd.resolve_right d3
  have g := ch_edge P ha hb ab hT (L d ud) (P.2.1 a d ha ud (fun e => d1 e.symm)) (P.2.1 b d hb ud (fun e => d2 e.symm))
  by_cases z : ch_X x y w W s1 s2 s3 a b 24 d < 0
  · exact z
  have t := hT d ud
  have dn : ge_T x y a b d = 0 → ge_D x y a b d ≠ 0 := fun t => ge_colne t (P.2.1 a d ha ud (fun e => d1 e.symm)) (P.2.1 b d hb ud (fun e => d2 e.symm)) (P.2.1 a b ha hb ab)
  omega
theorem ch_wf (P : ch_Pre x y w W s1 s2 s3 U) : hu_WF (ch_X x y w W s1 s2 s3) (fun d => U d ∨ d = 24) := by
  intro a b c sa sb sc ab bc ac h
  have A : hu_Ax (ch_X x y w W s1 s2 s3) := ch_ax
  have L := P.2.2.1
  by_cases c24 : c = 24
  · subst c24
    exact ch_wfg P (sa.resolve_right ac) (sb.resolve_right bc) ab h
  by_cases a24 : a = 24
  · subst a24
    have := ch_wfg P (sb.resolve_right (fun e => ab e.symm)) (sc.resolve_right c24) bc (fun d sd d1 d2 d3 => by
      rw [hu_r3 A]; exact h d sd d3 d1 d2)
    exact hu_rot A (hu_rot A this)
  by_cases b24 : b = 24
  · subst b24
    have := ch_wfg P (sc.resolve_right c24) (sa.resolve_right a24) (fun e => ac e.symm) (fun d sd d1 d2 d3 => by
      rw [hu_r3 A, hu_r3 A]; exact h d sd d2 d3 d1)
    exact hu_rot A this
  exact ch_wf3 P (sa.resolve_right a24) (sb.resolve_right b24) (sc.resolve_right c24) ab bc ac h
/-- a facet of points turns left -/
theorem fa_T (P : ch_Pre x y w W s1 s2 s3 U) {a b c : Nat} (F : hu_F (ch_X x y w W s1 s2 s3) (fun d => U d ∨ d = 24) a b c) (ha : a ≠ 24) (hb : b ≠ 24) (hc : c ≠ 24) : 0 < ge_T x y a b c := by
  obtain ⟨sa, sb, sc, ab, bc, ac, h⟩ := F
  have ua := sa.resolve_right ha
  have ub := sb.resolve_right hb
  have uc := sc.resolve_right hc
  by_cases t : ge_T x y a b c = 0
  · exact (ch_nocol P ua ub uc ab bc ac t (fun d sd d1 d2 d3 => Int.le_of_lt (h d sd d1 d2 d3))).elim
  obtain ⟨B, N, L, hw, G, u1, u2, u3, ts⟩ := P
  have g := ch_gh (s1 := s1) (s2 := s2) (s3 := s3) B hw (L a ua) (L b ub) (L c uc) (L _ u1) (L _ u2) (L _ u3)
  have h1 := h 24 (Or.inr rfl) (fun e => ha e.symm) (fun e => hb e.symm) (fun e => hc e.symm)
  by_cases t' : 0 < ge_T x y a b c
  · exact t'
  · have := g.2.1 (by omega)
    omega
/-- no point is inside a facet's circle -/
theorem fa_le (P : ch_Pre x y w W s1 s2 s3 U) {a b c : Nat} (F : hu_F (ch_X x y w W s1 s2 s3) (fun d => U d ∨ d = 24) a b c) (ha : a ≠ 24) (hb : b ≠ 24) (hc : c ≠ 24)
    {d : Nat} (ud : U d) (d1 : d ≠ a) (d2 : d ≠ b) (d3 : d ≠ c) : ge_ic x y a b c d ≤ 0 := by
  obtain ⟨sa, sb, sc, ab, bc, ac, h⟩ := F
  obtain ⟨B, N, L, hw, G, u1, u2, u3, ts⟩ := P
  have g := ch_sg (s1 := s1) (s2 := s2) (s3 := s3) B hw (L a (sa.resolve_right ha)) (L b (sb.resolve_right hb)) (L c (sc.resolve_right hc)) (L d ud)
  have := g.2.mp (h d (Or.inl ud) d1 d2 d3)
  omega
/-- a strictly empty circle is a facet's -/
theorem fa_mk (P : ch_Pre x y w W s1 s2 s3 U) {a b c : Nat} (ha : U a) (hb : U b) (hc : U c) (ab : a ≠ b) (bc : b ≠ c) (ac : a ≠ c) (t : 0 < ge_T x y a b c)
    (h : ∀ d, U d → d ≠ a → d ≠ b → d ≠ c → ch_X x y w W s1 s2 s3 a b c d ≤ 0) : hu_F (ch_X x y w W s1 s2 s3) (fun d => U d ∨ d = 24) a b c := by
  refine ch_wf3 P ha hb hc ab bc ac (fun d sd d1 d2 d3 => ?_)
  rcases sd with sd | sd
  · exact h d sd d1 d2 d3
  · subst sd
    obtain ⟨B, N, L, hw, G, u1, u2, u3, ts⟩ := P
    exact Int.le_of_lt ((ch_gh (s1 := s1) (s2 := s2) (s3 := s3) B hw (L a ha) (L b hb) (L c hc) (L _ u1) (L _ u2) (L _ u3)).1 t)
theorem fa_lt (P : ch_Pre x y w W s1 s2 s3 U) {a b c d : Nat} (ha : U a) (hb : U b) (hc : U c) (hd : U d) (h : ge_ic x y a b c d < 0) : ch_X x y w W s1 s2 s3 a b c d < 0 := by
  obtain ⟨B, N, L, hw, G, u1, u2, u3, ts⟩ := P
  exact (ch_sg (s1 := s1) (s2 := s2) (s3 := s3) B hw (L a ha) (L b hb) (L c hc) (L d hd)).2.mpr (Or.inl h)
/-- ghost facets are hull edges -/
theorem fa_gh (P : ch_Pre x y w W s1 s2 s3 U) {a b : Nat} : hu_F (ch_X x y w W s1 s2 s3) (fun d => U d ∨ d = 24) a b 24 ↔
    U a ∧ U b ∧ a ≠ b ∧ ∀ d, U d → d ≠ a → d ≠ b → ge_T x y a b d < 0 ∨ (ge_T x y a b d = 0 ∧ 0 < ge_D x y a b d) := by
  have L := P.2.2.1
  constructor
  · intro ⟨sa, sb, sc, ab, bc, ac, h⟩
    have ua := sa.resolve_right ac
    have ub := sb.resolve_right bc
    refine ⟨ua, ub, ab, fun d ud d1 d2 => ?_⟩
    have hT := ch_edgeT P ua ub (fun d ud d1 d2 => Int.le_of_lt (h d (Or.inl ud) d1 d2 (by have := L d ud; omega)))
    have g := ch_edge P ua ub ab hT (L d ud) (P.2.1 a d ua ud (fun e => d1 e.symm)) (P.2.1 b d ub ud (fun e => d2 e.symm))
    exact g.2.mp (h d (Or.inl ud) d1 d2 (by have := L d ud; omega))
  · intro ⟨ua, ub, ab, h⟩
    have hT : ∀ d, U d → ge_T x y a b d ≤ 0 := by
      intro d ud
      by_cases d1 : d = a
      · subst d1
        have h1 := ge_T23 x y d b d
        have h2 := ge_T12 x y d d b
        omega
      by_cases d2 : d = b
      · subst d2
        have h1 := ge_T23 x y a d d
        omega
      have := h d ud d1 d2
      omega
    refine ch_wfg P ua ub ab (fun d sd d1 d2 d3 => ?_)
    have ud := sd.resolve_right d3
    have g := ch_edge P ua ub ab hT (L d ud) (P.2.1 a d ua ud (fun e => d1 e.symm)) (P.2.1 b d ub ud (fun e => d2 e.symm))
    exact Int.le_of_lt (g.2.mpr (h d ud d1 d2))
/-- a ghost facet against a new point -/
theorem fa_cfg (P : ch_Pre x y w W s1 s2 s3 U) {a b p : Nat} (F : hu_F (ch_X x y w W s1 s2 s3) (fun d => U d ∨ d = 24) a b 24) (hp : p < 24)
    (ap : x a ≠ x p ∨ y a ≠ y p) (bp : x b ≠ x p ∨ y b ≠ y p) :
    (0 < ch_X x y w W s1 s2 s3 a b 24 p ↔ 0 < ge_T x y a b p ∨ (ge_T x y a b p = 0 ∧ ge_D x y a b p < 0)) := by
  obtain ⟨ua, ub, ab, h⟩ := (fa_gh P).mp F
  refine (ch_edge P ua ub ab (fun d ud => ?_) hp ap bp).1
  by_cases d1 : d = a
  · subst d1
    have h1 := ge_T23 x y d b d
    have h2 := ge_T12 x y d d b
    omega
  by_cases d2 : d = b
  · subst d2
    have h1 := ge_T23 x y a d d
    omega
  have := h d ud d1 d2
  omega
/-- a facet of points against a new point of great weight -/
theorem fa_cf (P : ch_Pre x y w W s1 s2 s3 U) {a b c p : Nat} (F : hu_F (ch_X x y w W s1 s2 s3) (fun d => U d ∨ d = 24) a b c) (ha : a ≠ 24) (hb : b ≠ 24) (hc : c ≠ 24) (hp : p < 24)
    {Z : Int} (z0 : 0 ≤ Z) (hz : ∀ i, i < 24 → i ≠ p → w i ≤ Z) (np : ¬ U p) (hp2 : 96774 * Z < w p) : (0 < ch_X x y w W s1 s2 s3 a b c p ↔ 0 < ge_ic x y a b c p) := by
  have t := fa_T P F ha hb hc
  obtain ⟨sa, sb, sc, ab, bc, ac, h⟩ := F
  obtain ⟨B, N, L, hw, G, u1, u2, u3, ts⟩ := P
  have ua := sa.resolve_right ha
  have ub := sb.resolve_right hb
  have uc := sc.resolve_right hc
  have la := L a ua
  have lb := L b ub
  have lc := L c uc
  have g := (ch_sg (s1 := s1) (s2 := s2) (s3 := s3) B hw la lb lc hp).1
  have ta := ge_Tb B lb lc hp
  have tb := ge_Tb B la lc hp
  have tc := ge_Tb B la lb hp
  have m1 := ge_mb (p := w a) (k := Z) (l := 32258) (by have := hw.2 a la; omega) (hz a la (fun e => np (e ▸ ua))) ta.1 ta.2
  have m2 := ge_mb (p := w b) (k := Z) (l := 32258) (by have := hw.2 b lb; omega) (hz b lb (fun e => np (e ▸ ub))) tb.1 tb.2
  have m3 := ge_mb (p := w c) (k := Z) (l := 32258) (by have := hw.2 c lc; omega) (hz c lc (fun e => np (e ▸ uc))) tc.1 tc.2
  have m4 := Int.mul_le_mul_of_nonneg_left (show 1 ≤ ge_T x y a b c by omega) (show 0 ≤ w p by omega)
  have e : ge_H x y w a b c p = w a * ge_T x y b c p - w b * ge_T x y a c p + w c * ge_T x y a b p - w p * ge_T x y a b c := rfl
  rw [Int.mul_one] at m4
  omega
end
end
section
/-! the sorting functional; facets by signs; a new point -/
section
variable {x y w : Nat → Int} {W : Int} {s1 s2 s3 : Nat} {U : Nat → Prop}
def ch_f (x y w : Nat → Int) (W : Int) (s1 s2 s3 : Nat) (i : Nat) : Int :=
  0 * ch_A i + ch_M W * 16777216 * ch_B x s1 s2 s3 i + ch_M W * 65536 * ch_B y s1 s2 s3 i + (-1) * ch_E (ch_h x y w (ch_M W)) (ch_N W) s1 s2 s3 i
def ch_s (x y w : Nat → Int) (W : Int) (s1 s2 s3 : Nat) (v a : Nat) : Int := ch_f x y w W s1 s2 s3 a * ch_A v - ch_f x y w W s1 s2 s3 v * ch_A a
theorem ch_fn : hu_Fn (ch_X x y w W s1 s2 s3) (ch_s x y w W s1 s2 s3) :=
  ge_fn ch_A (ch_B x s1 s2 s3) (ch_B y s1 s2 s3) (ch_E (ch_h x y w (ch_M W)) (ch_N W) s1 s2 s3) (ch_f x y w W s1 s2 s3) 0 (ch_M W * 16777216) (ch_M W * 65536) (-1) (fun _ => rfl)
theorem ch_fr {i : Nat} (hi : i < 24) : ch_f x y w W s1 s2 s3 i = ch_M W * (16777216 * x i + 65536 * y i + (x i * x i + y i * y i)) + w i := by
  unfold ch_f ch_A ch_B ch_E ch_h
  rw [if_neg (show ¬ i = 24 by omega), if_neg (show ¬ i = 24 by omega), if_neg (show ¬ i = 24 by omega), if_neg (show ¬ i = 24 by omega)]
  generalize ch_M W = M; generalize x i = a; generalize y i = b; generalize w i = c
  grind
theorem ch_fg : ch_f x y w W s1 s2 s3 24 = ch_N W - (ch_M W * (16777216 * x s1 + 65536 * y s1 + (x s1 * x s1 + y s1 * y s1)) + w s1) - (ch_M W * (16777216 * x s2 + 65536 * y s2 + (x s2 * x s2 + y s2 * y s2)) + w s2) - (ch_M W * (16777216 * x s3 + 65536 * y s3 + (x s3 * x s3 + y s3 * y s3)) + w s3) := by
  unfold ch_f ch_A ch_B ch_E ch_h
  rw [if_pos rfl, if_pos rfl, if_pos rfl, if_pos rfl]
  generalize ch_M W = M; generalize ch_N W = N
  generalize x s1 = a1; generalize y s1 = b1; generalize w s1 = c1
  generalize x s2 = a2; generalize y s2 = b2; generalize w s2 = c2
  generalize x s3 = a3; generalize y s3 = b3; generalize w s3 = c3
  grind
theorem ch_fb (B : ge_Bd x y) (hw : ch_W w W) {i : Nat} (hi : i < 24) : 0 ≤ ch_M W * (16777216 * x i + 65536 * y i + (x i * x i + y i * y i)) + w i ∧ ch_M W * (16777216 * x i + 65536 * y i + (x i * x i + y i * y i)) + w i ≤ (129032 * W + 1) * 4294967296 + W := by
  have q := ge_qb B hi
  have b := B i hi
  have h1 := hw.2 i hi
  have h0 := hw.1
  unfold ch_M
  have m1 := Int.mul_nonneg (show 0 ≤ 129032 * W + 1 by omega) (show 0 ≤ 16777216 * x i + 65536 * y i + (x i * x i + y i * y i) by omega)
  have m2 := Int.mul_le_mul_of_nonneg_left (show 16777216 * x i + 65536 * y i + (x i * x i + y i * y i) ≤ 4294967296 by omega) (show 0 ≤ 129032 * W + 1 by omega)
  omega
theorem ch_sr {a b : Nat} (ha : a < 24) (hb : b < 24) : ch_s x y w W s1 s2 s3 a b = ch_M W * (16777216 * (x b - x a) + 65536 * (y b - y a) + ((x b * x b + y b * y b) - (x a * x a + y a * y a))) + (w b - w a) := by
  unfold ch_s
  rw [ch_fr ha, ch_fr hb]
  unfold ch_A
  rw [if_neg (show ¬ a = 24 by omega), if_neg (show ¬ b = 24 by omega)]
  generalize ch_M W = M
  generalize x a = a1; generalize y a = b1; generalize w a = c1
  generalize x b = a2; generalize y b = b2; generalize w b = c2
  grind
theorem ch_sz (B : ge_Bd x y) (hw : ch_W w W) {a b : Nat} (ha : a < 24) (hb : b < 24) (n : x a ≠ x b ∨ y a ≠ y b) : ch_s x y w W s1 s2 s3 a b ≠ 0 := by
  rw [ch_sr ha hb]
  have wa := hw.2 a ha
  have wb := hw.2 b hb
  have qa := ge_qb B ha
  have qb := ge_qb B hb
  have pa := B a ha
  have pb := B b hb
  have h0 := hw.1
  have l := ge_lex (M := ch_M W) (i := 16777216 * (x b - x a) + 65536 * (y b - y a) + ((x b * x b + y b * y b) - (x a * x a + y a * y a))) (r := w b - w a) (by unfold ch_M; omega) (by unfold ch_M; omega) (by unfold ch_M; omega)
  omega
theorem ch_sg24 (B : ge_Bd x y) (hw : ch_W w W) {a : Nat} (ha : a < 24) (h1 : s1 < 24) (h2 : s2 < 24) (h3 : s3 < 24) : 0 < ch_s x y w W s1 s2 s3 a 24 := by
  unfold ch_s
  rw [ch_fg, ch_fr ha]
  unfold ch_A
  rw [if_neg (show ¬ a = 24 by omega), if_pos rfl]
  have b1 := ch_fb B hw h1
  have b2 := ch_fb B hw h2
  have b3 := ch_fb B hw h3
  have ba := ch_fb B hw ha
  have h0 := hw.1
  have eN : ch_N W = 387096 * ((129032 * W + 1) * 4294967296 + W) + 1 := rfl
  omega
theorem ch_lab (P : ch_Pre x y w W s1 s2 s3 U) {a b c : Nat} (F : hu_F (ch_X x y w W s1 s2 s3) (fun d => U d ∨ d = 24) a b c) :
    ∃ v i j, ((v = a ∧ i = b ∧ j = c) ∨ (v = b ∧ i = c ∧ j = a) ∨ (v = c ∧ i = a ∧ j = b)) ∧ v < 24 ∧
      ((0 < ch_s x y w W s1 s2 s3 v i ∧ ch_s x y w W s1 s2 s3 v j < 0) ∨ (ch_s x y w W s1 s2 s3 v i < 0 ∧ 0 < ch_s x y w W s1 s2 s3 v j)) := by
  obtain ⟨B, N, L, hw, G, u1, u2, u3, ts⟩ := P
  have g : ∀ a, (U a ∨ a = 24) → a ≠ 24 → 0 < ch_s x y w W s1 s2 s3 a 24 := fun a sa na => ch_sg24 B hw (L a (sa.resolve_right na)) (L _ u1) (L _ u2) (L _ u3)
  refine hu_lab ch_fn (fun d sd => ?_) (fun a b sa sb ab => ?_) g F
  · rcases sd with sd | sd
    · have := L d sd; omega
    · omega
  · by_cases ea : a = 24
    · subst ea
      have h1 := g b sb (fun e => ab e.symm)
      have h2 := (ch_fn (x := x) (y := y) (w := w) (W := W) (s1 := s1) (s2 := s2) (s3 := s3)).1 24 b
      omega
    · by_cases eb : b = 24
      · subst eb
        have h1 := g a sa ab
        omega
      · have ua := sa.resolve_right ea
        have ub := sb.resolve_right eb
        exact ch_sz B hw (L a ua) (L b ub) (N a b ua ub ab)
/-- facets by signs alone -/
def fa_R (x y w : Nat → Int) (U : Nat → Prop) (a b c : Nat) : Prop :=
  U a ∧ U b ∧ U c ∧ a ≠ b ∧ b ≠ c ∧ a ≠ c ∧ 0 < ge_T x y a b c ∧ ∀ d, U d → d ≠ a → d ≠ b → d ≠ c → ge_ic x y a b c d < 0 ∨ (ge_ic x y a b c d = 0 ∧ ge_H x y w a b c d < 0)
def fa_G (x y : Nat → Int) (U : Nat → Prop) (a b : Nat) : Prop :=
  U a ∧ U b ∧ a ≠ b ∧ ∀ d, U d → d ≠ a → d ≠ b → ge_T x y a b d < 0 ∨ (ge_T x y a b d = 0 ∧ 0 < ge_D x y a b d)
def fa_F (x y w : Nat → Int) (U : Nat → Prop) (a b c : Nat) : Prop :=
  (a ≠ 24 ∧ b ≠ 24 ∧ c ≠ 24 ∧ fa_R x y w U a b c) ∨ (c = 24 ∧ fa_G x y U a b) ∨ (a = 24 ∧ fa_G x y U b c) ∨ (b = 24 ∧ fa_G x y U c a)
theorem fa_iff (P : ch_Pre x y w W s1 s2 s3 U) {a b c : Nat} : hu_F (ch_X x y w W s1 s2 s3) (fun d => U d ∨ d = 24) a b c ↔ fa_F x y w U a b c := by
  have A : hu_Ax (ch_X x y w W s1 s2 s3) := ch_ax
  have L := P.2.2.1
  constructor
  · intro F
    by_cases c24 : c = 24
    · subst c24
      exact Or.inr (Or.inl ⟨rfl, (fa_gh P).mp F⟩)
    by_cases a24 : a = 24
    · subst a24
      exact Or.inr (Or.inr (Or.inl ⟨rfl, (fa_gh P).mp (hu_rot A F)⟩))
    by_cases b24 : b = 24
    · subst b24
      exact Or.inr (Or.inr (Or.inr ⟨rfl, (fa_gh P).mp (hu_rot A (hu_rot A F))⟩))
    refine Or.inl ⟨a24, b24, c24, ?_⟩
    have t := fa_T P F a24 b24 c24
    obtain ⟨sa, sb, sc, ab, bc, ac, h⟩ := F
    have ua := sa.resolve_right a24
    have ub := sb.resolve_right b24
    have uc := sc.resolve_right c24
    refine ⟨ua, ub, uc, ab, bc, ac, t, fun d ud d1 d2 d3 => ?_⟩
    exact (ch_sg P.1 P.2.2.2.1 (L a ua) (L b ub) (L c uc) (L d ud)).2.mp (h d (Or.inl ud) d1 d2 d3)
  · rintro (⟨a24, b24, c24, ua, ub, uc, ab, bc, ac, t, h⟩ | ⟨rfl, g⟩ | ⟨rfl, g⟩ | ⟨rfl, g⟩)
    · refine fa_mk P ua ub uc ab bc ac t (fun d ud d1 d2 d3 => Int.le_of_lt ?_)
      exact (ch_sg P.1 P.2.2.2.1 (L a ua) (L b ub) (L c uc) (L d ud)).2.mpr (h d ud d1 d2 d3)
    · exact (fa_gh P).mpr g
    · exact hu_rot A (hu_rot A ((fa_gh P).mpr g))
    · exact hu_rot A ((fa_gh P).mpr g)
theorem ge_Tcg {x' y' : Nat → Int} (hx : ∀ i, U i → x' i = x i) (hy : ∀ i, U i → y' i = y i) {a b c : Nat} (ha : U a) (hb : U b) (hc : U c) : ge_T x' y' a b c = ge_T x y a b c := by
  unfold ge_T
  rw [hx a ha, hx b hb, hx c hc, hy a ha, hy b hb, hy c hc]
theorem ge_Dcg {x' y' : Nat → Int} (hx : ∀ i, U i → x' i = x i) (hy : ∀ i, U i → y' i = y i) {a b c : Nat} (ha : U a) (hb : U b) (hc : U c) : ge_D x' y' a b c = ge_D x y a b c := by
  unfold ge_D
  rw [hx a ha, hx b hb, hx c hc, hy a ha, hy b hb, hy c hc]
theorem ge_icg {x' y' : Nat → Int} (hx : ∀ i, U i → x' i = x i) (hy : ∀ i, U i → y' i = y i) {a b c d : Nat} (ha : U a) (hb : U b) (hc : U c) (hd : U d) : ge_ic x' y' a b c d = ge_ic x y a b c d := by
  unfold ge_ic
  rw [hx a ha, hx b hb, hx c hc, hx d hd, hy a ha, hy b hb, hy c hc, hy d hd]
theorem ge_Hcg {x' y' w' : Nat → Int} (hx : ∀ i, U i → x' i = x i) (hy : ∀ i, U i → y' i = y i) (hw : ∀ i, U i → w' i = w i) {a b c d : Nat} (ha : U a) (hb : U b) (hc : U c) (hd : U d) : ge_H x' y' w' a b c d = ge_H x y w a b c d := by
  unfold ge_H
  rw [ge_Tcg hx hy ha hb hc, ge_Tcg hx hy ha hb hd, ge_Tcg hx hy ha hc hd, ge_Tcg hx hy hb hc hd, hw a ha, hw b hb, hw c hc, hw d hd]
theorem fa_Gcg {x' y' : Nat → Int} (hx : ∀ i, U i → x' i = x i) (hy : ∀ i, U i → y' i = y i) {a b : Nat} (h : fa_G x y U a b) : fa_G x' y' U a b := by
  obtain ⟨ha, hb, ab, h⟩ := h
  refine ⟨ha, hb, ab, fun d ud d1 d2 => ?_⟩
  rw [ge_Tcg hx hy ha hb ud, ge_Dcg hx hy ha hb ud]
  exact h d ud d1 d2
theorem fa_cg {x' y' w' : Nat → Int} (hx : ∀ i, U i → x' i = x i) (hy : ∀ i, U i → y' i = y i) (hw : ∀ i, U i → w' i = w i) {a b c : Nat} (h : fa_F x y w U a b c) : fa_F x' y' w' U a b c := by
  rcases h with ⟨h1, h2, h3, ha, hb, hc, ab, bc, ac, t, h⟩ | ⟨h1, h⟩ | ⟨h1, h⟩ | ⟨h1, h⟩
  · refine Or.inl ⟨h1, h2, h3, ha, hb, hc, ab, bc, ac, ?_, fun d ud d1 d2 d3 => ?_⟩
    · rw [ge_Tcg hx hy ha hb hc]; exact t
    · rw [ge_icg hx hy ha hb hc ud, ge_Hcg hx hy hw ha hb hc ud]; exact h d ud d1 d2 d3
  · exact Or.inr (Or.inl ⟨h1, fa_Gcg hx hy h⟩)
  · exact Or.inr (Or.inr (Or.inl ⟨h1, fa_Gcg hx hy h⟩))
  · exact Or.inr (Or.inr (Or.inr ⟨h1, fa_Gcg hx hy h⟩))
theorem ch_Pcg {x' y' w' : Nat → Int} {W' : Int} (hx : ∀ i, U i → x' i = x i) (hy : ∀ i, U i → y' i = y i) (hw : ∀ i, U i → w' i = w i) (B : ge_Bd x' y') (hW : ch_W w' W') (P : ch_Pre x y w W s1 s2 s3 U) : ch_Pre x' y' w' W' s1 s2 s3 U := by
  obtain ⟨_, N, L, _, G, u1, u2, u3, ts⟩ := P
  refine ⟨B, fun i j ui uj ij => ?_, L, hW, fun a b c d ua ub uc ud h1 h2 h3 h4 h5 h6 t i => ?_, u1, u2, u3, ?_⟩
  · rw [hx i ui, hx j uj, hy i ui, hy j uj]; exact N i j ui uj ij
  · rw [ge_Hcg hx hy hw ua ub uc ud]
    rw [ge_Tcg hx hy ua ub uc] at t
    rw [ge_icg hx hy ua ub uc ud] at i
    exact G a b c d ua ub uc ud h1 h2 h3 h4 h5 h6 t i
  · rw [ge_Tcg hx hy u1 u2 u3]; exact ts
/-- four points of a circle: no three on a line -/
theorem ge_circ {a b c d : Nat} (i : ge_ic x y a b c d = 0) (t : ge_T x y a b c ≠ 0) (ad : x a ≠ x d ∨ y a ≠ y d) (bd : x b ≠ x d ∨ y b ≠ y d) (ab : x a ≠ x b ∨ y a ≠ y b) : ge_T x y a b d ≠ 0 := by
  intro z
  rw [ge_icD, z, Int.mul_zero] at i
  have : ge_D x y a b d * ge_T x y a b c = 0 := by omega
  rcases Int.mul_eq_zero.mp this with h | h
  · exact ge_colne z ad bd ab h
  · exact t h
theorem ge_dom {Z A B C P t a b c : Int} (z0 : 0 ≤ Z) (ha : 0 ≤ A ∧ A ≤ Z) (hb : 0 ≤ B ∧ B ≤ Z) (hc : 0 ≤ C ∧ C ≤ Z) (hp : 96774 * Z < P) (ta : -32258 ≤ a ∧ a ≤ 32258) (tb : -32258 ≤ b ∧ b ≤ 32258) (tc : -32258 ≤ c ∧ c ≤ 32258) (t0 : t ≠ 0) :
    A * a + B * b + C * c + P * t ≠ 0 := by
  have m1 := ge_mb (p := A) (k := Z) (l := 32258) (by omega) (by omega) ta.1 ta.2
  have m2 := ge_mb (p := B) (k := Z) (l := 32258) (by omega) (by omega) tb.1 tb.2
  have m3 := ge_mb (p := C) (k := Z) (l := 32258) (by omega) (by omega) tc.1 tc.2
  have l := ge_lex (M := P) (i := t) (r := A * a + B * b + C * c) (by omega) (by omega) (by omega)
  omega
def ch_w (w : Nat → Int) (W : Int) (p : Nat) : Nat → Int := fun i => if i = p then 96774 * W + 1 else w i
/-- the weights with a new point -/
theorem ch_ext (P : ch_Pre x y w W s1 s2 s3 U) {p : Nat} (hp : p < 24) (np : ¬ U p) (ap : ∀ i, U i → x i ≠ x p ∨ y i ≠ y p) :
    ch_Pre x y (ch_w w W p) (96774 * W + 1) s1 s2 s3 U ∧ ch_Pre x y (ch_w w W p) (96774 * W + 1) s1 s2 s3 (fun d => U d ∨ d = p) := by
  have hwp : ch_w w W p p = 96774 * W + 1 := if_pos rfl
  have hwn : ∀ i, i ≠ p → ch_w w W p i = w i := fun i h => if_neg h
  have hw : ∀ i, U i → ch_w w W p i = w i := fun i ui => hwn i (fun e => np (e ▸ ui))
  have W0 := P.2.2.2.1.1
  have hW : ch_W (ch_w w W p) (96774 * W + 1) := by
    refine ⟨by omega, fun i hi => ?_⟩
    by_cases e : i = p
    · subst e; rw [hwp]; omega
    · rw [hwn i e]
      have := P.2.2.2.1.2 i hi
      omega
  refine ⟨ch_Pcg (fun _ _ => rfl) (fun _ _ => rfl) hw P.1 hW P, ?_⟩
  obtain ⟨B, N, L, hw0, G, u1, u2, u3, ts⟩ := P
  refine ⟨B, fun i j ui uj ij => ?_, fun i ui => ?_, hW, ?_, Or.inl u1, Or.inl u2, Or.inl u3, ts⟩
  · rcases ui with ui | ui
    · rcases uj with uj | uj
      · exact N i j ui uj ij
      · subst uj; exact ap i ui
    · rcases uj with uj | uj
      · subst ui
        have := ap j uj
        omega
      · exact absurd (ui.trans uj.symm) ij
  · rcases ui with ui | ui
    · exact L i ui
    · omega
  · intro a b c d ua ub uc ud ab ac ad bc bd cd t i
    have NN : ∀ i j, (U i ∨ i = p) → (U j ∨ j = p) → i ≠ j → x i ≠ x j ∨ y i ≠ y j := by
      intro i j ui uj ij
      rcases ui with ui | ui
      · rcases uj with uj | uj
        · exact N i j ui uj ij
        · subst uj; exact ap i ui
      · rcases uj with uj | uj
        · subst ui
          have := ap j uj
          omega
        · exact absurd (ui.trans uj.symm) ij
    have LL : ∀ i, (U i ∨ i = p) → i < 24 := by
      intro i ui
      rcases ui with ui | ui
      · exact L i ui
      · omega
    have la := LL a ua
    have lb := LL b ub
    have lc := LL c uc
    have ld := LL d ud
    have T1 := ge_Tb B lb lc ld
    have T2 := ge_Tb B la lc ld
    have T3 := ge_Tb B la lb ld
    have T4 := ge_Tb B la lb lc
    have t3 : ge_T x y a b d ≠ 0 := ge_circ i t (NN a d ua ud ad) (NN b d ub ud bd) (NN a b ua ub ab)
    have t2 : ge_T x y a c d ≠ 0 := by
      refine ge_circ (b := c) (c := b) ?_ ?_ (NN a d ua ud ad) (NN c d uc ud cd) (NN a c ua uc ac)
      · rw [ge_ic23]; omega
      · rw [ge_T23]; omega
    have t1 : ge_T x y b c d ≠ 0 := by
      refine ge_circ (c := a) ?_ ?_ (NN b d ub ud bd) (NN c d uc ud cd) (NN b c ub uc bc)
      · rw [ge_icr]; exact i
      · rw [ge_Tr]; exact t
    unfold ge_H
    by_cases pa : a = p
    · subst pa
      rw [hwp, hwn b (fun e => ab e.symm), hwn c (fun e => ac e.symm), hwn d (fun e => ad e.symm)]
      have := ge_dom (t := ge_T x y b c d) (a := -ge_T x y a c d) (b := ge_T x y a b d) (c := -ge_T x y a b c) W0 (hw0.2 b lb) (hw0.2 c lc) (hw0.2 d ld) (show 96774 * W < 96774 * W + 1 by omega) (by omega) (by omega) (by omega) t1
      rw [Int.mul_neg, Int.mul_neg] at this
      omega
    by_cases pb : b = p
    · subst pb
      rw [hwp, hwn a pa, hwn c (fun e => bc e.symm), hwn d (fun e => bd e.symm)]
      have := ge_dom (t := ge_T x y a c d) (a := -ge_T x y b c d) (b := -ge_T x y a b d) (c := ge_T x y a b c) W0 (hw0.2 a la) (hw0.2 c lc) (hw0.2 d ld) (show 96774 * W < 96774 * W + 1 by omega) (by omega) (by omega) (by omega) t2
      rw [Int.mul_neg, Int.mul_neg] at this
      omega
    by_cases pc : c = p
    · subst pc
      rw [hwp, hwn a pa, hwn b pb, hwn d (fun e => cd e.symm)]
      have := ge_dom (t := ge_T x y a b d) (a := ge_T x y b c d) (b := -ge_T x y a c d) (c := -ge_T x y a b c) W0 (hw0.2 a la) (hw0.2 b lb) (hw0.2 d ld) (show 96774 * W < 96774 * W + 1 by omega) (by omega) (by omega) (by omega) t3
      rw [Int.mul_neg, Int.mul_neg] at this
      omega
    by_cases pd : d = p
    · subst pd
      rw [hwp, hwn a pa, hwn b pb, hwn c pc]
      have := ge_dom (t := -ge_T x y a b c) (a := ge_T x y b c d) (b := -ge_T x y a c d) (c := ge_T x y a b d) W0 (hw0.2 a la) (hw0.2 b lb) (hw0.2 c lc) (show 96774 * W < 96774 * W + 1 by omega) (by omega) (by omega) (by omega) (by omega)
      rw [Int.mul_neg, Int.mul_neg] at this
      omega
    rw [hwn a pa, hwn b pb, hwn c pc, hwn d pd]
    exact G a b c d (ua.resolve_right pa) (ub.resolve_right pb) (uc.resolve_right pc) (ud.resolve_right pd) ab ac ad bc bd cd t i
end
end
section
/-! slots of triangles against a set of facets -/
def nx_ (e : Nat) : Nat := if e % 3 = 2 then e - 2 else e + 1
theorem nx_div (e : Nat) : nx_ e / 3 = e / 3 := by unfold nx_; split <;> omega
theorem nx_lt {e : Nat} (h : e < 216) : nx_ e < 216 := by unfold nx_; split <;> omega
theorem nx_0 (t : Nat) : nx_ (3 * t) = 3 * t + 1 := by unfold nx_; split <;> omega
theorem nx_1 (t : Nat) : nx_ (3 * t + 1) = 3 * t + 2 := by unfold nx_; split <;> omega
theorem nx_2 (t : Nat) : nx_ (3 * t + 2) = 3 * t := by unfold nx_; split <;> omega
theorem nx_cs (e : Nat) : ∃ t, e / 3 = t ∧ (e = 3 * t ∨ e = 3 * t + 1 ∨ e = 3 * t + 2) := ⟨e / 3, rfl, by omega⟩
theorem nx_3 (e : Nat) : nx_ (nx_ (nx_ e)) = e := by
  obtain ⟨t, _, h | h | h⟩ := nx_cs e
  · rw [h, nx_0, nx_1, nx_2]
  · rw [h, nx_1, nx_2, nx_0]
  · rw [h, nx_2, nx_0, nx_1]
def sl_Ok (al : Nat → Prop) (C A : Nat → Nat) (F : Nat → Nat → Nat → Prop) : Prop :=
  (∀ e, e < 216 → al (e / 3) → F (C e) (C (nx_ e)) (C (nx_ (nx_ e)))) ∧
  (∀ a b c, F a b c → ∃ e, e < 216 ∧ al (e / 3) ∧ C e = a ∧ C (nx_ e) = b ∧ C (nx_ (nx_ e)) = c) ∧
  (∀ e f, e < 216 → f < 216 → al (e / 3) → al (f / 3) → C e = C f → C (nx_ e) = C (nx_ f) → e = f) ∧
  (∀ e, e < 216 → al (e / 3) → A e < 72 ∧ al (A e) ∧ ∃ f, f < 216 ∧ f / 3 = A e ∧ C f = C (nx_ e) ∧ C (nx_ f) = C e)
/-- what a new point does to the facets -/
def sl_Hy (F1 F2 cf : Nat → Nat → Nat → Prop) (p : Nat) : Prop :=
  (∀ a b c, F1 a b c → F1 b c a) ∧ (∀ a b c, F2 a b c → F2 b c a) ∧
  (∀ a b c, F1 a b c → (a ≠ p ∧ b ≠ p ∧ c ≠ p) ∧ a < 25) ∧
  (∀ a b c, F1 a b c → (cf b c a ↔ cf a b c)) ∧
  (∀ u v w z, F2 u v w → F2 u v z → w = z) ∧
  (∀ u v w, F2 u v w → ∃ z, F2 v u z) ∧
  (∀ a b c, a ≠ p → b ≠ p → c ≠ p → (F2 a b c ↔ F1 a b c ∧ ¬ cf a b c)) ∧
  (∀ u v, F2 u v p ↔ ∃ w z, F1 u v w ∧ cf u v w ∧ F1 v u z ∧ ¬ cf v u z) ∧
  (∀ a b c, F2 a b c → a ≠ b ∧ b ≠ c ∧ a ≠ c)
/-- the slots in conflict -/
def sl_Bad (al bad : Nat → Prop) (C : Nat → Nat) (cf : Nat → Nat → Nat → Prop) : Prop :=
  ∀ t, t < 72 → (bad t ↔ al t ∧ cf (C (3 * t)) (C (3 * t + 1)) (C (3 * t + 2)))
def sl_Rim (al bad : Nat → Prop) (A : Nat → Nat) (e : Nat) : Prop := e < 216 ∧ al (e / 3) ∧ bad (e / 3) ∧ ¬ bad (A e)
section
variable {al bad : Nat → Prop} {C A : Nat → Nat} {F1 F2 cf : Nat → Nat → Nat → Prop} {p : Nat}
theorem sl_cfe (O : sl_Ok al C A F1) (H : sl_Hy F1 F2 cf p) {e : Nat} (he : e < 216) (ha : al (e / 3)) :
    cf (C e) (C (nx_ e)) (C (nx_ (nx_ e))) ↔ cf (C (3 * (e / 3))) (C (3 * (e / 3) + 1)) (C (3 * (e / 3) + 2)) := by
  obtain ⟨o1, o2, o3, o4⟩ := O
  obtain ⟨r1, r2, np, cr, un, rv, k1, k2, ds⟩ := H
  obtain ⟨t, ht, h | h | h⟩ := nx_cs e
  · rw [ht, h, nx_0, nx_1]
  · rw [ht] at ha ⊢
    have f := o1 (3 * t) (by omega) (by rw [show 3 * t / 3 = t by omega]; exact ha)
    rw [nx_0, nx_1] at f
    rw [h, nx_1, nx_2]
    exact cr _ _ _ f
  · rw [ht] at ha ⊢
    have f := o1 (3 * t) (by omega) (by rw [show 3 * t / 3 = t by omega]; exact ha)
    rw [nx_0, nx_1] at f
    rw [h, nx_2, nx_0]
    exact Iff.trans (cr _ _ _ (r1 _ _ _ f)) (cr _ _ _ f)
theorem sl_bade (O : sl_Ok al C A F1) (H : sl_Hy F1 F2 cf p) (B : sl_Bad al bad C cf) {e : Nat} (he : e < 216) (ha : al (e / 3)) :
    bad (e / 3) ↔ cf (C e) (C (nx_ e)) (C (nx_ (nx_ e))) := by
  rw [sl_cfe O H he ha, B (e / 3) (by omega)]
  exact ⟨fun h => h.2, fun h => ⟨ha, h⟩⟩
/-- a rim cell gives a new facet -/
theorem sl_rimF (O : sl_Ok al C A F1) (H : sl_Hy F1 F2 cf p) (B : sl_Bad al bad C cf) {e : Nat} (R : sl_Rim al bad A e) : F2 (C e) (C (nx_ e)) p := by
  obtain ⟨he, ha, hb, hn⟩ := R
  have hc := (sl_bade O H B he ha).mp hb
  obtain ⟨h4, h5, f, hf, f3, f1, f2⟩ := O.2.2.2 e he ha
  have fa : al (f / 3) := by rw [f3]; exact h5
  have nb : ¬ bad (f / 3) := by rw [f3]; exact hn
  have hf1 := O.1 f hf fa
  have nc := fun z => nb ((sl_bade O H B hf fa).mpr z)
  rw [f1, f2] at hf1 nc
  obtain ⟨r1, r2, np, cr, un, rv, k1, k2, ds⟩ := H
  exact (k2 _ _).mpr ⟨_, _, O.1 e he ha, hc, hf1, nc⟩
/-- a new facet gives a rim cell -/
theorem sl_rimB (O : sl_Ok al C A F1) (H : sl_Hy F1 F2 cf p) (B : sl_Bad al bad C cf) {u v : Nat} (h : F2 u v p) : ∃ e, sl_Rim al bad A e ∧ C e = u ∧ C (nx_ e) = v := by
  have H' := H
  obtain ⟨r1, r2, np, cr, un, rv, k1, k2, ds⟩ := H
  obtain ⟨w, z, g1, g2, g3, g4⟩ := (k2 u v).mp h
  obtain ⟨e, he, ea, e1, e2, e3⟩ := O.2.1 _ _ _ g1
  obtain ⟨f, hf, fa, f1, f2, f3⟩ := O.2.1 _ _ _ g3
  refine ⟨e, ⟨he, ea, ?_, ?_⟩, e1, e2⟩
  · refine (sl_bade O H' B he ea).mpr ?_
    rw [e1, e2, e3]; exact g2
  · obtain ⟨h4, h5, q, hq, q3, q1, q2⟩ := O.2.2.2 e he ea
    have qa : al (q / 3) := by rw [q3]; exact h5
    have qf : q = f := O.2.2.1 q f hq hf qa fa (by rw [q1, e2, f1]) (by rw [q2, e1, f2])
    subst qf
    rw [← q3]
    intro hb
    have := (sl_bade O H' B hf fa).mp hb
    rw [f1, f2, f3] at this
    exact g4 this
theorem sl_rimS (O : sl_Ok al C A F1) (H : sl_Hy F1 F2 cf p) (B : sl_Bad al bad C cf) {e f : Nat} (Re : sl_Rim al bad A e) (Rf : sl_Rim al bad A f) (h : C e = C f) : e = f := by
  have h1 := sl_rimF O H B Re
  have h2 := sl_rimF O H B Rf
  obtain ⟨r1, r2, np, cr, un, rv, k1, k2, ds⟩ := H
  have g1 := r2 _ _ _ (r2 _ _ _ h1)
  have g2 := r2 _ _ _ (r2 _ _ _ h2)
  rw [h] at g1
  exact O.2.2.1 e f Re.1 Rf.1 Re.2.1 Rf.2.1 h (un _ _ _ _ g1 g2)
theorem sl_rimE (O : sl_Ok al C A F1) (H : sl_Hy F1 F2 cf p) (B : sl_Bad al bad C cf) {e f : Nat} (Re : sl_Rim al bad A e) (Rf : sl_Rim al bad A f) (h : C (nx_ e) = C (nx_ f)) : e = f := by
  have h1 := sl_rimF O H B Re
  have h2 := sl_rimF O H B Rf
  have H' := H
  obtain ⟨r1, r2, np, cr, un, rv, k1, k2, ds⟩ := H
  have g1 := r2 _ _ _ h1
  have g2 := r2 _ _ _ h2
  rw [h] at g1
  exact sl_rimS O H' B Re Rf (un _ _ _ _ g1 g2)
theorem sl_rimP (O : sl_Ok al C A F1) (H : sl_Hy F1 F2 cf p) {e : Nat} (he : e < 216) (ha : al (e / 3)) : C e ≠ p ∧ C (nx_ e) ≠ p ∧ C (nx_ (nx_ e)) ≠ p ∧ C e < 25 ∧ C (nx_ e) < 25 := by
  have f := O.1 e he ha
  obtain ⟨r1, r2, np, cr, un, rv, k1, k2, ds⟩ := H
  have g := np _ _ _ f
  exact ⟨g.1.1, g.1.2.1, g.1.2.2, g.2, (np _ _ _ (r1 _ _ _ f)).2⟩
/-- the slots in the middle of the fan loop, before cell k -/
def sl_Mid (al bad : Nat → Prop) (C A : Nat → Nat) (p k : Nat) (al' : Nat → Prop) (C' A' : Nat → Nat) (sA eA : Nat → Int) (τ : Nat → Nat) : Prop :=
  (∀ e, sl_Rim al bad A e → e < k → τ e < 72 ∧ ¬ al (τ e)) ∧
  (∀ e f, sl_Rim al bad A e → sl_Rim al bad A f → e < k → f < k → τ e = τ f → e = f) ∧
  (∀ t, t < 72 → (al' t ↔ al t ∨ ∃ e, sl_Rim al bad A e ∧ e < k ∧ τ e = t)) ∧
  (∀ f, f < 216 → al (f / 3) → C' f = C f) ∧
  (∀ e, sl_Rim al bad A e → e < k → C' (3 * τ e) = C e ∧ C' (3 * τ e + 1) = C (nx_ e) ∧ C' (3 * τ e + 2) = p ∧ A' (3 * τ e) = A e) ∧
  (∀ f, f < 216 → al (f / 3) → (∀ e, sl_Rim al bad A e → e < k → f / 3 = A e → C f = C (nx_ e) → C (nx_ f) = C e → A' f = τ e) ∧
    ((∀ e, sl_Rim al bad A e → e < k → ¬ (f / 3 = A e ∧ C f = C (nx_ e) ∧ C (nx_ f) = C e)) → A' f = A f)) ∧
  (∀ v, v < 25 → (∀ e, sl_Rim al bad A e → e < k → C e = v → sA v = τ e) ∧ ((∀ e, sl_Rim al bad A e → e < k → C e ≠ v) → sA v = -1)) ∧
  (∀ v, v < 25 → (∀ e, sl_Rim al bad A e → e < k → C (nx_ e) = v → eA v = τ e) ∧ ((∀ e, sl_Rim al bad A e → e < k → C (nx_ e) ≠ v) → eA v = -1)) ∧
  fc_n al' 72 = fc_n al 72 + fc_n (fun e => sl_Rim al bad A e ∧ e < k) 216
variable {k : Nat} {al' : Nat → Prop} {C' A' : Nat → Nat} {sA eA : Nat → Int} {τ : Nat → Nat}
theorem sl_skip (M : sl_Mid al bad C A p k al' C' A' sA eA τ) (n : ¬ sl_Rim al bad A k) : sl_Mid al bad C A p (k + 1) al' C' A' sA eA τ := by
  have q : ∀ e, sl_Rim al bad A e → e < k + 1 → e < k := by
    intro e R h
    by_cases z : e = k
    · subst z; exact absurd R n
    · omega
  obtain ⟨m1, m2, m3, m4, m5, m6, m7, m8, m9⟩ := M
  refine ⟨fun e R h => m1 e R (q e R h), fun e f R1 R2 h1 h2 => m2 e f R1 R2 (q e R1 h1) (q f R2 h2), fun t ht => ?_, m4, fun e R h => m5 e R (q e R h), fun f hf fa => ?_, fun v hv => ?_, fun v hv => ?_, ?_⟩
  · rw [m3 t ht]
    constructor
    · rintro (h | ⟨e, R, h1, h2⟩)
      · exact Or.inl h
      · exact Or.inr ⟨e, R, by omega, h2⟩
    · rintro (h | ⟨e, R, h1, h2⟩)
      · exact Or.inl h
      · exact Or.inr ⟨e, R, q e R h1, h2⟩
  · exact ⟨fun e R h => (m6 f hf fa).1 e R (q e R h), fun h => (m6 f hf fa).2 (fun e R h' => h e R (by omega))⟩
  · exact ⟨fun e R h => (m7 v hv).1 e R (q e R h), fun h => (m7 v hv).2 (fun e R h' => h e R (by omega))⟩
  · exact ⟨fun e R h => (m8 v hv).1 e R (q e R h), fun h => (m8 v hv).2 (fun e R h' => h e R (by omega))⟩
  · rw [m9, fc_c (P := fun e => sl_Rim al bad A e ∧ e < k) (Q := fun e => sl_Rim al bad A e ∧ e < k + 1) 216]
    intro i hi
    exact ⟨fun h => ⟨h.1, by omega⟩, fun h => ⟨h.1, q i h.1 h.2⟩⟩
theorem sl_step (O : sl_Ok al C A F1) (H : sl_Hy F1 F2 cf p) (B : sl_Bad al bad C cf) (M : sl_Mid al bad C A p k al' C' A' sA eA τ) (R0 : sl_Rim al bad A k)
    {t : Nat} (ht : t < 72) (nt : ¬ al' t) {al2 : Nat → Prop} {C2 A2 : Nat → Nat} {sA2 eA2 : Nat → Int}
    (hal : ∀ i, i < 72 → (al2 i ↔ al' i ∨ i = t)) (hC0 : C2 (3 * t) = C k) (hC1 : C2 (3 * t + 1) = C (nx_ k)) (hC2 : C2 (3 * t + 2) = p)
    (hC : ∀ i, i / 3 ≠ t → C2 i = C' i) (hA0 : A2 (3 * t) = A k)
    (hA1 : ∀ i, i < 216 → i / 3 = A k → C2 i = C (nx_ k) → C2 (nx_ i) = C k → A2 i = t)
    (hA2 : ∀ i, i < 216 → i / 3 ≠ t → ¬ (i / 3 = A k ∧ C2 i = C (nx_ k) ∧ C2 (nx_ i) = C k) → A2 i = A' i)
    (hs : ∀ v, v < 25 → sA2 v = if v = C k then (t : Int) else sA v) (hE : ∀ v, v < 25 → eA2 v = if v = C (nx_ k) then (t : Int) else eA v) :
    sl_Mid al bad C A p (k + 1) al2 C2 A2 sA2 eA2 (fun e => if e = k then t else τ e) := by
  obtain ⟨m1, m2, m3, m4, m5, m6, m7, m8, m9⟩ := M
  have nal : ¬ al t := fun h => nt ((m3 t ht).mpr (Or.inl h))
  have tk : ∀ e, e ≠ k → (fun e => if e = k then t else τ e) e = τ e := fun e h => if_neg h
  have t0 : (fun e => if e = k then t else τ e) k = t := if_pos rfl
  have ntau : ∀ e, sl_Rim al bad A e → e < k → τ e ≠ t := fun e R h z => nt ((m3 t ht).mpr (Or.inr ⟨e, R, h, z⟩))
  have Ca : ∀ f, f < 216 → al (f / 3) → C2 f = C f := fun f hf fa => by
    rw [hC f (fun z => nal (z ▸ fa))]; exact m4 f hf fa
  have kl : k < 216 := R0.1
  have Aal := (O.2.2.2 k R0.1 R0.2.1)
  refine ⟨fun e R h => ?_, fun e f R1 R2 h1 h2 z => ?_, fun i hi => ?_, Ca, fun e R h => ?_, fun f hf fa => ?_, fun v hv => ?_, fun v hv => ?_, ?_⟩
  · by_cases ek : e = k
    · rw [ek, t0]; exact ⟨ht, nal⟩
    · rw [tk e ek]; exact m1 e R (by omega)
  · by_cases ek : e = k
    · by_cases fk : f = k
      · omega
      · rw [ek, t0, tk f fk] at z
        exact absurd z.symm (ntau f R2 (by omega))
    · by_cases fk : f = k
      · rw [fk, t0, tk e ek] at z
        exact absurd z (ntau e R1 (by omega))
      · rw [tk e ek, tk f fk] at z
        exact m2 e f R1 R2 (by omega) (by omega) z
  · rw [hal i hi, m3 i hi]
    constructor
    · rintro ((h | ⟨e, R, h1, h2⟩) | h)
      · exact Or.inl h
      · exact Or.inr ⟨e, R, by omega, by rw [tk e (by omega)]; exact h2⟩
      · exact Or.inr ⟨k, R0, by omega, by rw [t0]; exact h.symm⟩
    · rintro (h | ⟨e, R, h1, h2⟩)
      · exact Or.inl (Or.inl h)
      · by_cases ek : e = k
        · rw [ek, t0] at h2; exact Or.inr h2.symm
        · rw [tk e ek] at h2; exact Or.inl (Or.inr ⟨e, R, by omega, h2⟩)
  · by_cases ek : e = k
    · rw [ek, t0]; exact ⟨hC0, hC1, hC2, hA0⟩
    · rw [tk e ek]
      have g := m5 e R (by omega)
      have ne := ntau e R (by omega)
      have lt := (m1 e R (by omega)).1
      have na := (m1 e R (by omega)).2
      refine ⟨?_, ?_, ?_, ?_⟩
      · rw [hC _ (by omega)]; exact g.1
      · rw [hC _ (by omega)]; exact g.2.1
      · rw [hC _ (by omega)]; exact g.2.2.1
      · rw [hA2 _ (by omega) (by omega) (fun z => na (by
          have := z.1
          rw [show 3 * τ e / 3 = τ e by omega] at this
          rw [this]; exact Aal.2.1))]
        exact g.2.2.2
  · have nf : nx_ f < 216 := nx_lt hf
    have c1 := Ca f hf fa
    have c2 := Ca (nx_ f) nf (by rw [nx_div]; exact fa)
    have ft : f / 3 ≠ t := fun z => nal (z ▸ fa)
    refine ⟨fun e R h e1 e2 e3 => ?_, fun h => ?_⟩
    · by_cases ek : e = k
      · subst ek
        rw [t0]
        exact hA1 f hf e1 (by rw [c1]; exact e2) (by rw [c2]; exact e3)
      · rw [tk e ek, hA2 f hf ft ?_]
        · exact (m6 f hf fa).1 e R (by omega) e1 e2 e3
        · intro z
          have := z.2.1
          rw [c1, e2] at this
          exact ek (sl_rimE O H B R R0 this)
    · rw [hA2 f hf ft ?_]
      · exact (m6 f hf fa).2 (fun e R h' => h e R (by omega))
      · intro z
        refine h k R0 (by omega) ⟨z.1, ?_, ?_⟩
        · rw [← c1]; exact z.2.1
        · rw [← c2]; exact z.2.2
  · rw [hs v hv]
    refine ⟨fun e R h z => ?_, fun h => ?_⟩
    · by_cases ek : e = k
      · subst ek
        rw [if_pos z.symm, t0]
      · rw [tk e ek, if_neg (fun q => ek (sl_rimS O H B R R0 (by rw [z, q])))]
        exact (m7 v hv).1 e R (by omega) z
    · rw [if_neg (fun q => h k R0 (by omega) q.symm)]
      exact (m7 v hv).2 (fun e R h' => h e R (by omega))
  · rw [hE v hv]
    refine ⟨fun e R h z => ?_, fun h => ?_⟩
    · by_cases ek : e = k
      · subst ek
        rw [if_pos z.symm, t0]
      · rw [tk e ek, if_neg (fun q => ek (sl_rimE O H B R R0 (by rw [z, q])))]
        exact (m8 v hv).1 e R (by omega) z
    · rw [if_neg (fun q => h k R0 (by omega) q.symm)]
      exact (m8 v hv).2 (fun e R h' => h e R (by omega))
  · rw [fc_in (P := al') (Q := al2) (k := t) ht nt hal, m9,
      fc_in (P := fun e => sl_Rim al bad A e ∧ e < k) (Q := fun e => sl_Rim al bad A e ∧ e < k + 1) (k := k) kl (fun z => by omega) (fun i hi => ?_)]
    · omega
    · constructor
      · intro z
        by_cases ik : i = k
        · exact Or.inr ik
        · exact Or.inl ⟨z.1, by omega⟩
      · rintro (z | z)
        · exact ⟨z.1, by omega⟩
        · subst z; exact ⟨R0, by omega⟩
end
end
section
/-! the end of an insertion; how many slots are alive -/
section
variable {al bad : Nat → Prop} {C A : Nat → Nat} {F1 F2 cf : Nat → Nat → Nat → Prop} {p : Nat} {al' : Nat → Prop} {C' A' : Nat → Nat} {sA eA : Nat → Int} {τ : Nat → Nat}
theorem sl_start (O : sl_Ok al C A F1) (hs : ∀ v, v < 25 → sA v = -1) (hE : ∀ v, v < 25 → eA v = -1) : sl_Mid al bad C A p 0 al C A sA eA τ := by
  refine ⟨fun e R h => by omega, fun e f _ _ h => by omega, fun t ht => ⟨fun h => Or.inl h, ?_⟩, fun _ _ _ => rfl, fun e R h => by omega, fun f hf fa => ⟨fun e R h => by omega, fun _ => rfl⟩, fun v hv => ⟨fun e R h => by omega, fun _ => hs v hv⟩, fun v hv => ⟨fun e R h => by omega, fun _ => hE v hv⟩, ?_⟩
  · rintro (h | ⟨e, R, h1, h2⟩)
    · exact h
    · omega
  · rw [fc_z (P := fun e => sl_Rim al bad A e ∧ e < 0) 216 (fun i hi h => by omega)]
    omega
/-- two new slots have different starts, so the links around the new point don't meet -/
theorem sl_inj (O : sl_Ok al C A F1) (H : sl_Hy F1 F2 cf p) (B : sl_Bad al bad C cf) (M : sl_Mid al bad C A p 216 al' C' A' sA eA τ) :
    (∀ v, v < 25 → 0 ≤ sA v → ∃ e, sl_Rim al bad A e ∧ C e = v ∧ sA v = τ e) ∧ (∀ v, v < 25 → 0 ≤ eA v → ∃ e, sl_Rim al bad A e ∧ C (nx_ e) = v ∧ eA v = τ e) := by
  obtain ⟨m1, m2, m3, m4, m5, m6, m7, m8, m9⟩ := M
  constructor
  · intro v hv h
    by_cases z : ∃ e, sl_Rim al bad A e ∧ C e = v
    · obtain ⟨e, R, he⟩ := z
      exact ⟨e, R, he, (m7 v hv).1 e R R.1 he⟩
    · have := (m7 v hv).2 (fun e R _ he => z ⟨e, R, he⟩)
      omega
  · intro v hv h
    by_cases z : ∃ e, sl_Rim al bad A e ∧ C (nx_ e) = v
    · obtain ⟨e, R, he⟩ := z
      exact ⟨e, R, he, (m8 v hv).1 e R R.1 he⟩
    · have := (m8 v hv).2 (fun e R _ he => z ⟨e, R, he⟩)
      omega
/-- what closeFan does -/
def sl_Close (sA eA : Nat → Int) (A1 A2 : Nat → Nat) (n : Nat) : Prop :=
  (∀ v, v < n → 0 ≤ sA v → 0 ≤ eA v → A2 (3 * (eA v).toNat + 1) = (sA v).toNat ∧ A2 (3 * (sA v).toNat + 2) = (eA v).toNat) ∧
  (∀ f, (∀ v, v < n → 0 ≤ sA v → 0 ≤ eA v → f ≠ 3 * (eA v).toNat + 1 ∧ f ≠ 3 * (sA v).toNat + 2) → A2 f = A1 f)
theorem sl_end (O : sl_Ok al C A F1) (H : sl_Hy F1 F2 cf p) (B : sl_Bad al bad C cf) (M : sl_Mid al bad C A p 216 al' C' A' sA eA τ)
    {A2 : Nat → Nat} (K : sl_Close sA eA A' A2 25) {al2 : Nat → Prop} (hal : ∀ t, t < 72 → (al2 t ↔ al' t ∧ ¬ bad t)) : sl_Ok al2 C' A2 F2 := by
  have J := sl_inj O H B M
  obtain ⟨m1, m2, m3, m4, m5, m6, m7, m8, m9⟩ := M
  obtain ⟨kc1, kc2⟩ := K
  have bal : ∀ t, t < 72 → bad t → al t := fun t ht hb => ((B t ht).mp hb).1
  -- the two kinds of slots
  have hold : ∀ t, t < 72 → al2 t → (al t ∧ ¬ bad t) ∨ ∃ e, sl_Rim al bad A e ∧ τ e = t := by
    intro t ht h
    have h1 := (hal t ht).mp h
    rcases (m3 t ht).mp h1.1 with g | ⟨e, R, _, g⟩
    · exact Or.inl ⟨g, h1.2⟩
    · exact Or.inr ⟨e, R, g⟩
  have mkold : ∀ t, t < 72 → al t → ¬ bad t → al2 t := fun t ht h1 h2 => (hal t ht).mpr ⟨(m3 t ht).mpr (Or.inl h1), h2⟩
  have mknew : ∀ e, sl_Rim al bad A e → al2 (τ e) := by
    intro e R
    have g := m1 e R R.1
    exact (hal _ g.1).mpr ⟨(m3 _ g.1).mpr (Or.inr ⟨e, R, R.1, rfl⟩), fun hb => g.2 (bal _ g.1 hb)⟩
  -- corners and links of new slots
  have cn : ∀ e, sl_Rim al bad A e → C' (3 * τ e) = C e ∧ C' (3 * τ e + 1) = C (nx_ e) ∧ C' (3 * τ e + 2) = p ∧ A' (3 * τ e) = A e := fun e R => m5 e R R.1
  have oldA : ∀ f, f < 216 → al (f / 3) → A2 f = A' f := by
    intro f hf fa
    refine kc2 f (fun v hv h1 h2 => ?_)
    obtain ⟨e1, R1, _, q1⟩ := J.1 v hv h1
    obtain ⟨e2, R2, _, q2⟩ := J.2 v hv h2
    constructor
    · intro z
      rw [q2, Int.toNat_natCast] at z
      exact (m1 e2 R2 R2.1).2 (by rw [show τ e2 = f / 3 by omega]; exact fa)
    · intro z
      rw [q1, Int.toNat_natCast] at z
      exact (m1 e1 R1 R1.1).2 (by rw [show τ e1 = f / 3 by omega]; exact fa)
  have newA0 : ∀ e, sl_Rim al bad A e → A2 (3 * τ e) = A e := by
    intro e R
    rw [kc2 (3 * τ e) (fun v hv h1 h2 => by omega)]
    exact (cn e R).2.2.2
  have newA1 : ∀ e g, sl_Rim al bad A e → sl_Rim al bad A g → C g = C (nx_ e) → A2 (3 * τ e + 1) = τ g := by
    intro e g R Rg h
    have lv := (sl_rimP O H R.1 R.2.1).2.2.2.2
    have s1 := (m7 _ lv).1 g Rg Rg.1 h
    have s2 := (m8 _ lv).1 e R R.1 rfl
    have := (kc1 _ lv (by rw [s1]; exact Int.natCast_nonneg _) (by rw [s2]; exact Int.natCast_nonneg _)).1
    rw [s1, s2, Int.toNat_natCast, Int.toNat_natCast] at this
    exact this
  have newA2 : ∀ e g, sl_Rim al bad A e → sl_Rim al bad A g → C (nx_ g) = C e → A2 (3 * τ e + 2) = τ g := by
    intro e g R Rg h
    have lv := (sl_rimP O H R.1 R.2.1).2.2.2.1
    have s1 := (m7 _ lv).1 e R R.1 rfl
    have s2 := (m8 _ lv).1 g Rg Rg.1 h
    have := (kc1 _ lv (by rw [s1]; exact Int.natCast_nonneg _) (by rw [s2]; exact Int.natCast_nonneg _)).2
    rw [s1, s2, Int.toNat_natCast, Int.toNat_natCast] at this
    exact this
  have H' := H
  obtain ⟨r1, r2, np, cr, un, rv, k1, k2, ds⟩ := H
  -- a cell of an old slot: its facet
  have oldF : ∀ f, f < 216 → al (f / 3) → ¬ bad (f / 3) → F2 (C f) (C (nx_ f)) (C (nx_ (nx_ f))) := by
    intro f hf fa nb
    have g := sl_rimP O H' hf fa
    exact (k1 _ _ _ g.1 g.2.1 g.2.2.1).mpr ⟨O.1 f hf fa, fun z => nb ((sl_bade O H' B hf fa).mpr z)⟩
  have oldC : ∀ f, f < 216 → al (f / 3) → C' f = C f ∧ C' (nx_ f) = C (nx_ f) ∧ C' (nx_ (nx_ f)) = C (nx_ (nx_ f)) := by
    intro f hf fa
    refine ⟨m4 f hf fa, m4 _ (nx_lt hf) (by rw [nx_div]; exact fa), m4 _ (nx_lt (nx_lt hf)) (by rw [nx_div, nx_div]; exact fa)⟩
  have newF : ∀ f e, sl_Rim al bad A e → τ e = f / 3 → F2 (C' f) (C' (nx_ f)) (C' (nx_ (nx_ f))) := by
    intro f e R h
    have g := cn e R
    have q := sl_rimF O H' B R
    obtain ⟨t, ht, h' | h' | h'⟩ := nx_cs f
    · rw [h', nx_0, nx_1, ← ht, ← h, g.1, g.2.1, g.2.2.1]; exact q
    · rw [h', nx_1, nx_2, ← ht, ← h, g.1, g.2.1, g.2.2.1]; exact r2 _ _ _ q
    · rw [h', nx_2, nx_0, ← ht, ← h, g.1, g.2.1, g.2.2.1]; exact r2 _ _ _ (r2 _ _ _ q)
  have S1 : ∀ e, e < 216 → al2 (e / 3) → F2 (C' e) (C' (nx_ e)) (C' (nx_ (nx_ e))) := by
    intro f hf h
    rcases hold (f / 3) (by omega) h with ⟨g1, g2⟩ | ⟨e, R, g⟩
    · rw [(oldC f hf g1).1, (oldC f hf g1).2.1, (oldC f hf g1).2.2]
      exact oldF f hf g1 g2
    · exact newF f e R g
  -- the new point's place in a cell of a new slot
  have place : ∀ f e, sl_Rim al bad A e → τ e = f / 3 → (f = 3 * τ e ↔ C' (nx_ (nx_ f)) = p) ∧ (f = 3 * τ e + 1 ↔ C' (nx_ f) = p) ∧ (f = 3 * τ e + 2 ↔ C' f = p) := by
    intro f e R h
    have g := cn e R
    have q := sl_rimP O H' R.1 R.2.1
    obtain ⟨t, ht, h' | h' | h'⟩ := nx_cs f
    · have e1 : C' (nx_ (nx_ f)) = p := by rw [h', nx_0, nx_1, ← ht, ← h]; exact g.2.2.1
      have e2 : C' (nx_ f) = C (nx_ e) := by rw [h', nx_0, ← ht, ← h]; exact g.2.1
      have e3 : C' f = C e := by rw [h', ← ht, ← h]; exact g.1
      rw [e1, e2, e3]
      exact ⟨⟨fun _ => rfl, fun _ => by omega⟩, ⟨fun z => by omega, fun z => absurd z q.2.1⟩, ⟨fun z => by omega, fun z => absurd z q.1⟩⟩
    · have e1 : C' (nx_ (nx_ f)) = C e := by rw [h', nx_1, nx_2, ← ht, ← h]; exact g.1
      have e2 : C' (nx_ f) = p := by rw [h', nx_1, ← ht, ← h]; exact g.2.2.1
      have e3 : C' f = C (nx_ e) := by rw [h', ← ht, ← h]; exact g.2.1
      rw [e1, e2, e3]
      exact ⟨⟨fun z => by omega, fun z => absurd z q.1⟩, ⟨fun _ => rfl, fun _ => by omega⟩, ⟨fun z => by omega, fun z => absurd z q.2.1⟩⟩
    · have e1 : C' (nx_ (nx_ f)) = C (nx_ e) := by rw [h', nx_2, nx_0, ← ht, ← h]; exact g.2.1
      have e2 : C' (nx_ f) = C e := by rw [h', nx_2, ← ht, ← h]; exact g.1
      have e3 : C' f = p := by rw [h', ← ht, ← h]; exact g.2.2.1
      rw [e1, e2, e3]
      exact ⟨⟨fun z => by omega, fun z => absurd z q.2.1⟩, ⟨fun z => by omega, fun z => absurd z q.1⟩, ⟨fun _ => rfl, fun _ => by omega⟩⟩
  have S3 : ∀ e f, e < 216 → f < 216 → al2 (e / 3) → al2 (f / 3) → C' e = C' f → C' (nx_ e) = C' (nx_ f) → e = f := by
    intro e f he hf ae af h1 h2
    have u1 := S1 e he ae
    have u2 := S1 f hf af
    rw [h1, h2] at u1
    have h3 := un _ _ _ _ u1 u2
    rcases hold (e / 3) (by omega) ae with ⟨g1, g2⟩ | ⟨i, Ri, gi⟩
    · rcases hold (f / 3) (by omega) af with ⟨g3, g4⟩ | ⟨j, Rj, gj⟩
      · rw [(oldC e he g1).1, (oldC f hf g3).1] at h1
        rw [(oldC e he g1).2.1, (oldC f hf g3).2.1] at h2
        exact O.2.2.1 e f he hf g1 g3 h1 h2
      · exfalso
        have q := sl_rimP O H' he g1
        have pl := place f j Rj gj
        rw [← h1, ← h2, ← h3, (oldC e he g1).1, (oldC e he g1).2.1, (oldC e he g1).2.2] at pl
        have : f = 3 * τ j ∨ f = 3 * τ j + 1 ∨ f = 3 * τ j + 2 := by omega
        rcases this with z | z | z
        · exact q.2.2.1 (pl.1.mp z)
        · exact q.2.1 (pl.2.1.mp z)
        · exact q.1 (pl.2.2.mp z)
    · rcases hold (f / 3) (by omega) af with ⟨g3, g4⟩ | ⟨j, Rj, gj⟩
      · exfalso
        have q := sl_rimP O H' hf g3
        have pl := place e i Ri gi
        rw [h1, h2, h3, (oldC f hf g3).1, (oldC f hf g3).2.1, (oldC f hf g3).2.2] at pl
        have : e = 3 * τ i ∨ e = 3 * τ i + 1 ∨ e = 3 * τ i + 2 := by omega
        rcases this with z | z | z
        · exact q.2.2.1 (pl.1.mp z)
        · exact q.2.1 (pl.2.1.mp z)
        · exact q.1 (pl.2.2.mp z)
      · have pe := place e i Ri gi
        have pf := place f j Rj gj
        rw [h1, h2, h3] at pe
        have ci := cn i Ri
        have cj := cn j Rj
        have : e = 3 * τ i ∨ e = 3 * τ i + 1 ∨ e = 3 * τ i + 2 := by omega
        rcases this with z | z | z
        · have z' := pf.1.mpr (pe.1.mp z)
          rw [z, z', ci.1, cj.1] at h1
          have := sl_rimS O H' B Ri Rj h1
          subst this
          omega
        · have z' := pf.2.1.mpr (pe.2.1.mp z)
          rw [z, z', ci.2.1, cj.2.1] at h1
          have := sl_rimE O H' B Ri Rj h1
          subst this
          omega
        · have z' := pf.2.2.mpr (pe.2.2.mp z)
          rw [z, z', nx_2, nx_2, ci.1, cj.1] at h2
          have := sl_rimS O H' B Ri Rj h2
          subst this
          omega
  refine ⟨S1, ?_, S3, ?_⟩
  · intro a b c F
    have dd := ds _ _ _ F
    have rim : ∀ u v, F2 u v p → ∃ e, sl_Rim al bad A e ∧ C e = u ∧ C (nx_ e) = v := fun u v h => sl_rimB O H' B h
    by_cases cp : c = p
    · subst cp
      obtain ⟨e, R, e1, e2⟩ := rim a b F
      have g := cn e R
      have l := (m1 e R R.1).1
      refine ⟨3 * τ e, by omega, by rw [show 3 * τ e / 3 = τ e by omega]; exact mknew e R, ?_, ?_, ?_⟩
      · rw [g.1]; exact e1
      · rw [nx_0, g.2.1]; exact e2
      · rw [nx_0, nx_1]; exact g.2.2.1
    by_cases ap : a = p
    · subst ap
      obtain ⟨e, R, e1, e2⟩ := rim b c (r2 _ _ _ F)
      have g := cn e R
      have l := (m1 e R R.1).1
      refine ⟨3 * τ e + 2, by omega, by rw [show (3 * τ e + 2) / 3 = τ e by omega]; exact mknew e R, ?_, ?_, ?_⟩
      · exact g.2.2.1
      · rw [nx_2, g.1]; exact e1
      · rw [nx_2, nx_0, g.2.1]; exact e2
    by_cases bp : b = p
    · subst bp
      obtain ⟨e, R, e1, e2⟩ := rim c a (r2 _ _ _ (r2 _ _ _ F))
      have g := cn e R
      have l := (m1 e R R.1).1
      refine ⟨3 * τ e + 1, by omega, by rw [show (3 * τ e + 1) / 3 = τ e by omega]; exact mknew e R, ?_, ?_, ?_⟩
      · rw [g.2.1]; exact e2
      · rw [nx_1]; exact g.2.2.1
      · rw [nx_1, nx_2, g.1]; exact e1
    have F' := (k1 a b c ap bp cp).mp F
    obtain ⟨e, he, ea, e1, e2, e3⟩ := O.2.1 a b c F'.1
    have oc := oldC e he ea
    refine ⟨e, he, mkold _ (by omega) ea (fun z => ?_), ?_, ?_, ?_⟩
    · have := (sl_bade O H' B he ea).mp z
      rw [e1, e2, e3] at this
      exact F'.2 this
    · rw [oc.1]; exact e1
    · rw [oc.2.1]; exact e2
    · rw [oc.2.2]; exact e3
  · intro f hf af
    rcases hold (f / 3) (by omega) af with ⟨g1, g2⟩ | ⟨e, R, g⟩
    · rw [oldA f hf g1]
      obtain ⟨q1, q2, i, hi, i3, i1, i2⟩ := O.2.2.2 f hf g1
      have oc := oldC f hf g1
      have ia : al (i / 3) := by rw [i3]; exact q2
      by_cases z : ∃ e, sl_Rim al bad A e ∧ f / 3 = A e ∧ C f = C (nx_ e) ∧ C (nx_ f) = C e
      · obtain ⟨e, R, z1, z2, z3⟩ := z
        have ge := cn e R
        rw [(m6 f hf g1).1 e R R.1 z1 z2 z3]
        have l := (m1 e R R.1).1
        refine ⟨l, mknew e R, 3 * τ e, by omega, by omega, ?_, ?_⟩
        · rw [ge.1, oc.2.1]; exact z3.symm
        · rw [nx_0, ge.2.1, oc.1]; exact z2.symm
      · rw [(m6 f hf g1).2 (fun e R _ h => z ⟨e, R, h⟩)]
        have nb : ¬ bad (A f) := by
          intro hb
          obtain ⟨w1, w2, j, hj, j3, j1, j2⟩ := O.2.2.2 i hi ia
          have jf : j = f := O.2.2.1 j f hj hf (by rw [j3]; exact w2) g1 (by rw [j1, i2]) (by rw [j2, i1])
          subst jf
          refine z ⟨i, ⟨hi, ia, by rw [i3]; exact hb, by rw [← j3]; exact g2⟩, j3, i2.symm, i1.symm⟩
        have oi := oldC i hi ia
        refine ⟨q1, mkold _ q1 q2 nb, i, hi, i3, ?_, ?_⟩
        · rw [oi.1, oc.2.1]; exact i1
        · rw [oi.2.1, oc.1]; exact i2
    · have ge := cn e R
      have l := (m1 e R R.1).1
      have fx : f = 3 * τ e ∨ f = 3 * τ e + 1 ∨ f = 3 * τ e + 2 := by omega
      have FF := sl_rimF O H' B R
      rcases fx with z | z | z
      · rw [z, newA0 e R]
        obtain ⟨q1, q2, i, hi, i3, i1, i2⟩ := O.2.2.2 e R.1 R.2.1
        have ia : al (i / 3) := by rw [i3]; exact q2
        have oi := oldC i hi ia
        refine ⟨q1, mkold _ q1 q2 R.2.2.2, i, hi, i3, ?_, ?_⟩
        · rw [oi.1, nx_0, ge.2.1]; exact i1
        · rw [oi.2.1, ge.1]; exact i2
      · obtain ⟨y, hy⟩ := rv _ _ _ (r2 _ _ _ FF)
        obtain ⟨j, Rj, j1, j2⟩ := sl_rimB O H' B (r2 _ _ _ hy)
        have gj := cn j Rj
        have lj := (m1 j Rj Rj.1).1
        rw [z, newA1 e j R Rj j1]
        refine ⟨lj, mknew j Rj, 3 * τ j + 2, by omega, by omega, ?_, ?_⟩
        · rw [gj.2.2.1, nx_1, ge.2.2.1]
        · rw [nx_2, gj.1, ge.2.1]; exact j1
      · obtain ⟨y, hy⟩ := rv _ _ _ (r2 _ _ _ (r2 _ _ _ FF))
        obtain ⟨j, Rj, j1, j2⟩ := sl_rimB O H' B (r2 _ _ _ (r2 _ _ _ hy))
        have gj := cn j Rj
        have lj := (m1 j Rj Rj.1).1
        rw [z, newA2 e j R Rj j2]
        refine ⟨lj, mknew j Rj, 3 * τ j + 1, by omega, by omega, ?_, ?_⟩
        · rw [gj.2.1, nx_2, ge.1]; exact j2
        · rw [nx_1, gj.2.2.1, ge.2.2.1]
end
end
section
/-! a triangulation in slots: the relation, a new point, the first triangle -/
def tr_Ok (x y : Nat → Int) (U al : Nat → Prop) (C A : Nat → Nat) : Prop :=
  ∃ (w : Nat → Int) (W : Int) (s1 s2 s3 : Nat), ch_Pre x y w W s1 s2 s3 U ∧ sl_Ok al C A (hu_F (ch_X x y w W s1 s2 s3) (fun d => U d ∨ d = 24))
/-- X's conflict test -/
def tr_By (x y : Nat → Int) (a b p : Nat) : Prop := 0 < ge_T x y a b p ∨ (ge_T x y a b p = 0 ∧ ge_D x y a b p < 0)
def tr_Cf (x y : Nat → Int) (a b c p : Nat) : Prop :=
  (a = 24 ∧ tr_By x y b c p) ∨ (a ≠ 24 ∧ b = 24 ∧ tr_By x y c a p) ∨ (a ≠ 24 ∧ b ≠ 24 ∧ c = 24 ∧ tr_By x y a b p) ∨ (a ≠ 24 ∧ b ≠ 24 ∧ c ≠ 24 ∧ 0 < ge_ic x y a b c p)
theorem sl_okF {al : Nat → Prop} {C A : Nat → Nat} {F G : Nat → Nat → Nat → Prop} (h : ∀ a b c, F a b c ↔ G a b c) (O : sl_Ok al C A F) : sl_Ok al C A G := by
  have e : F = G := by
    funext a b c
    exact propext (h a b c)
  rw [← e]; exact O
theorem sl_okC {al al' : Nat → Prop} {C A C' A' : Nat → Nat} {F : Nat → Nat → Nat → Prop} (ha : ∀ t, t < 72 → (al' t ↔ al t)) (hC : ∀ e, e < 216 → C' e = C e) (hA : ∀ e, e < 216 → A' e = A e) (O : sl_Ok al C A F) : sl_Ok al' C' A' F := by
  obtain ⟨o1, o2, o3, o4⟩ := O
  refine ⟨fun e he ae => ?_, fun a b c h => ?_, fun e f he hf ae af h1 h2 => ?_, fun e he ae => ?_⟩
  · rw [hC e he, hC _ (nx_lt he), hC _ (nx_lt (nx_lt he))]
    exact o1 e he ((ha _ (by omega)).mp ae)
  · obtain ⟨e, he, ae, e1, e2, e3⟩ := o2 a b c h
    refine ⟨e, he, (ha _ (by omega)).mpr ae, ?_, ?_, ?_⟩
    · rw [hC e he]; exact e1
    · rw [hC _ (nx_lt he)]; exact e2
    · rw [hC _ (nx_lt (nx_lt he))]; exact e3
  · rw [hC e he, hC f hf] at h1
    rw [hC _ (nx_lt he), hC _ (nx_lt hf)] at h2
    exact o3 e f he hf ((ha _ (by omega)).mp ae) ((ha _ (by omega)).mp af) h1 h2
  · obtain ⟨q1, q2, f, hf, f3, f1, f2⟩ := o4 e he ((ha _ (by omega)).mp ae)
    rw [hA e he]
    refine ⟨q1, (ha _ q1).mpr q2, f, hf, f3, ?_, ?_⟩
    · rw [hC f hf, hC _ (nx_lt he)]; exact f1
    · rw [hC _ (nx_lt hf), hC e he]; exact f2
section
variable {x y : Nat → Int} {U al : Nat → Prop} {C A : Nat → Nat}
theorem tr_cg {x' y' : Nat → Int} (hx : ∀ i, U i → x' i = x i) (hy : ∀ i, U i → y' i = y i) (B : ge_Bd x' y') (T : tr_Ok x y U al C A) : tr_Ok x' y' U al C A := by
  obtain ⟨w, W, s1, s2, s3, P, O⟩ := T
  have P' := ch_Pcg (w' := w) hx hy (fun _ _ => rfl) B P.2.2.2.1 P
  refine ⟨w, W, s1, s2, s3, P', sl_okF (fun a b c => ?_) O⟩
  rw [fa_iff P, fa_iff P']
  exact ⟨fa_cg hx hy (fun _ _ => rfl), fa_cg (fun i ui => (hx i ui).symm) (fun i ui => (hy i ui).symm) (fun _ _ => rfl)⟩
theorem tr_cgA {al' : Nat → Prop} {C' A' : Nat → Nat} (ha : ∀ t, t < 72 → (al' t ↔ al t)) (hC : ∀ e, e < 216 → C' e = C e) (hA : ∀ e, e < 216 → A' e = A e) (T : tr_Ok x y U al C A) : tr_Ok x y U al' C' A' := by
  obtain ⟨w, W, s1, s2, s3, P, O⟩ := T
  exact ⟨w, W, s1, s2, s3, P, sl_okC ha hC hA O⟩
theorem tr_cgU {V : Nat → Prop} (h : ∀ i, U i ↔ V i) (T : tr_Ok x y U al C A) : tr_Ok x y V al C A := by
  have e : U = V := by
    funext i
    exact propext (h i)
  rw [← e]; exact T
theorem ge_Tz1 (x y : Nat → Int) (a b : Nat) : ge_T x y a a b = 0 := by
  have := ge_T12 x y a a b
  omega
theorem ge_Tz2 (x y : Nat → Int) (a b : Nat) : ge_T x y a b b = 0 := by
  have := ge_T23 x y a b b
  omega
theorem ge_Tz3 (x y : Nat → Int) (a b : Nat) : ge_T x y a b a = 0 := by
  have h1 := ge_T23 x y a a b
  have h2 := ge_Tz1 x y a b
  omega
theorem tr_4 {w : Nat → Int} {W : Int} {s1 s2 s3 : Nat} (P : ch_Pre x y w W s1 s2 s3 U) (u v z : Nat) : ∃ e, (U e ∨ e = 24) ∧ e ≠ u ∧ e ≠ v ∧ e ≠ z := by
  obtain ⟨B, N, L, hw, G, u1, u2, u3, ts⟩ := P
  have l1 := L _ u1
  have l2 := L _ u2
  have l3 := L _ u3
  have d1 : s1 ≠ s2 := fun e => ts (by rw [e]; exact ge_Tz1 x y _ _)
  have d2 : s2 ≠ s3 := fun e => ts (by rw [e]; exact ge_Tz2 x y _ _)
  have d3 : s1 ≠ s3 := fun e => ts (by rw [← e]; exact ge_Tz3 x y _ _)
  by_cases q1 : s1 ≠ u ∧ s1 ≠ v ∧ s1 ≠ z
  · exact ⟨s1, Or.inl u1, q1⟩
  by_cases q2 : s2 ≠ u ∧ s2 ≠ v ∧ s2 ≠ z
  · exact ⟨s2, Or.inl u2, q2⟩
  by_cases q3 : s3 ≠ u ∧ s3 ≠ v ∧ s3 ≠ z
  · exact ⟨s3, Or.inl u3, q3⟩
  exact ⟨24, Or.inr rfl, by omega, by omega, by omega⟩
theorem tr_S {w : Nat → Int} {W : Int} {s1 s2 s3 : Nat} (P : ch_Pre x y w W s1 s2 s3 U) : ∀ d, (U d ∨ d = 24) → d < 25 := by
  intro d h
  rcases h with h | h
  · have := P.2.2.1 d h
    omega
  · omega
/-- few slots are alive -/
theorem tr_cnt (T : tr_Ok x y U al C A) : fc_n al 72 ≤ 48 := by
  obtain ⟨w, W, s1, s2, s3, P, O⟩ := T
  have Ax : hu_Ax (ch_X x y w W s1 s2 s3) := ch_ax
  have L : ∀ t, ∃ k : Nat, t < 72 → al t → ∃ e v i j, e < 216 ∧ e / 3 = t ∧ C e = v ∧ C (nx_ e) = i ∧ v < 24 ∧ hu_F (ch_X x y w W s1 s2 s3) (fun d => U d ∨ d = 24) v i j ∧
      ((k = 2 * v ∧ 0 < ch_s x y w W s1 s2 s3 v i ∧ ch_s x y w W s1 s2 s3 v j < 0) ∨ (k = 2 * v + 1 ∧ ch_s x y w W s1 s2 s3 v i < 0 ∧ 0 < ch_s x y w W s1 s2 s3 v j)) := by
    intro t
    by_cases h : t < 72 ∧ al t
    · have F := O.1 (3 * t) (by omega) (by rw [show 3 * t / 3 = t by omega]; exact h.2)
      rw [nx_0, nx_1] at F
      obtain ⟨v, i, j, hr, hv, hs⟩ := ch_lab P F
      have hF : hu_F (ch_X x y w W s1 s2 s3) (fun d => U d ∨ d = 24) v i j := by
        rcases hr with ⟨e1, e2, e3⟩ | ⟨e1, e2, e3⟩ | ⟨e1, e2, e3⟩
        · rw [e1, e2, e3]; exact F
        · rw [e1, e2, e3]; exact hu_rot Ax F
        · rw [e1, e2, e3]; exact hu_rot Ax (hu_rot Ax F)
      have he : ∃ e, e < 216 ∧ e / 3 = t ∧ C e = v ∧ C (nx_ e) = i := by
        rcases hr with ⟨e1, e2, e3⟩ | ⟨e1, e2, e3⟩ | ⟨e1, e2, e3⟩
        · exact ⟨3 * t, by omega, by omega, e1.symm, by rw [nx_0]; exact e2.symm⟩
        · exact ⟨3 * t + 1, by omega, by omega, e1.symm, by rw [nx_1]; exact e2.symm⟩
        · exact ⟨3 * t + 2, by omega, by omega, e1.symm, by rw [nx_2]; exact e2.symm⟩
      obtain ⟨e, he1, he2, he3, he4⟩ := he
      rcases hs with hs | hs
      · exact ⟨2 * v, fun _ _ => ⟨e, v, i, j, he1, he2, he3, he4, hv, hF, Or.inl ⟨rfl, hs.1, hs.2⟩⟩⟩
      · exact ⟨2 * v + 1, fun _ _ => ⟨e, v, i, j, he1, he2, he3, he4, hv, hF, Or.inr ⟨rfl, hs.1, hs.2⟩⟩⟩
    · exact ⟨0, fun h1 h2 => absurd ⟨h1, h2⟩ h⟩
  obtain ⟨f, hf⟩ := Classical.skolem.mp L
  refine fc_injN f (fun t ht ha => ?_) (fun t t' ht ht' ha ha' hh => ?_)
  · obtain ⟨e, v, i, j, he1, he2, he3, he4, hv, hF, hs⟩ := hf t ht ha
    omega
  · obtain ⟨e, v, i, j, he1, he2, he3, he4, hv, hF, hs⟩ := hf t ht ha
    obtain ⟨e', v', i', j', he1', he2', he3', he4', hv', hF', hs'⟩ := hf t' ht' ha'
    have vv : v = v' := by omega
    subst vv
    have ii : i = i' := by
      rcases hs with hs | hs
      · rcases hs' with hs' | hs'
        · exact hu_mid1 Ax ch_fn hF hF' hs.2.1 hs.2.2 hs'.2.1 hs'.2.2
        · omega
      · rcases hs' with hs' | hs'
        · omega
        · exact hu_mid2 Ax ch_fn hF hF' hs.2.1 hs.2.2 hs'.2.1 hs'.2.2
    subst ii
    have := O.2.2.1 e e' he1 he1' (by rw [he2]; exact ha) (by rw [he2']; exact ha') (by rw [he3, he3']) (by rw [he4, he4'])
    omega
/-- there is room for a fan -/
theorem sl_free {bad : Nat → Prop} {F1 F2 cf : Nat → Nat → Nat → Prop} {p k : Nat} {al' : Nat → Prop} {C' A' : Nat → Nat} {sA eA : Nat → Int} {τ : Nat → Nat}
    (O : sl_Ok al C A F1) (H : sl_Hy F1 F2 cf p) (B : sl_Bad al bad C cf) (M : sl_Mid al bad C A p k al' C' A' sA eA τ) (R : sl_Rim al bad A k) (hp : p < 25) (n : fc_n al 72 ≤ 48) : ∃ t, t < 72 ∧ ¬ al' t := by
  by_cases z : ∃ t, t < 72 ∧ ¬ al' t
  · exact z
  exfalso
  have m9 := M.2.2.2.2.2.2.2.2
  rw [fc_c (P := al') (Q := fun _ => True) 72 (fun i hi => ⟨fun _ => trivial, fun _ => by
    by_cases q : al' i
    · exact q
    · exact absurd ⟨i, hi, q⟩ z⟩), fc_all] at m9
  have q := sl_rimP O H R.1 R.2.1
  have h1 := fc_inj (P := fun e => sl_Rim al bad A e ∧ e < k) C (m := 25) 216 (fun v => (True ∧ v ≠ p) ∧ v ≠ C k) (fun i hi h => ⟨(sl_rimP O H h.1.1 h.1.2.1).2.2.2.1, ⟨trivial, (sl_rimP O H h.1.1 h.1.2.1).1⟩, fun e => by
      have := sl_rimS O H B h.1 R e
      omega⟩)
    (fun i j hi hj hi' hj' e => sl_rimS O H B hi'.1 hj'.1 e)
  have h2 := fc_out (P := fun _ : Nat => True) (k := p) trivial 25 hp
  have h3 := fc_out (P := fun v => True ∧ v ≠ p) (k := C k) ⟨trivial, q.1⟩ 25 q.2.2.2.1
  rw [fc_all] at h2
  omega
/-- the facets with a new point -/
theorem tr_ins (T : tr_Ok x y U al C A) {p : Nat} (hp : p < 24) (np : ¬ U p) (ap : ∀ i, U i → x i ≠ x p ∨ y i ≠ y p) :
    ∃ F1 F2 cf : Nat → Nat → Nat → Prop, sl_Ok al C A F1 ∧ sl_Hy F1 F2 cf p ∧ (∀ a b c, F1 a b c → (cf a b c ↔ tr_Cf x y a b c p)) ∧
      (∀ (al2 : Nat → Prop) (C2 A2 : Nat → Nat), sl_Ok al2 C2 A2 F2 → tr_Ok x y (fun d => U d ∨ d = p) al2 C2 A2) := by
  obtain ⟨w, W, s1, s2, s3, P0, O⟩ := T
  obtain ⟨P, P2⟩ := ch_ext P0 hp np ap
  have Ax : hu_Ax (ch_X x y (ch_w w W p) (96774 * W + 1) s1 s2 s3) := ch_ax
  have np' : ¬ (U p ∨ p = 24) := fun h => h.elim np (by omega)
  have eS : (fun d => (U d ∨ d = 24) ∨ d = p) = (fun d => (U d ∨ d = p) ∨ d = 24) := by
    funext d
    exact propext ⟨fun h => by rcases h with (h | h) | h; exact Or.inl (Or.inl h); exact Or.inr h; exact Or.inl (Or.inr h),
      fun h => by rcases h with (h | h) | h; exact Or.inl (Or.inl h); exact Or.inr h; exact Or.inl (Or.inr h)⟩
  have W1 := ch_wf P
  have W2 := ch_wf P2
  rw [← eS] at W2
  have S1 := tr_S P
  have S2 : ∀ d, ((U d ∨ d = 24) ∨ d = p) → d < 25 := fun d h => by
    rcases h with h | h
    · exact S1 d h
    · omega
  refine ⟨hu_F (ch_X x y (ch_w w W p) (96774 * W + 1) s1 s2 s3) (fun d => U d ∨ d = 24), hu_F (ch_X x y (ch_w w W p) (96774 * W + 1) s1 s2 s3) (fun d => (U d ∨ d = 24) ∨ d = p),
    fun a b c => 0 < ch_X x y (ch_w w W p) (96774 * W + 1) s1 s2 s3 a b c p, ?_, ⟨fun a b c h => hu_rot Ax h, fun a b c h => hu_rot Ax h, ?_, ?_, ?_, ?_, ?_, ?_, ?_⟩, ?_, ?_⟩
  · refine sl_okF (fun a b c => ?_) O
    rw [fa_iff P0, fa_iff P]
    have hw : ∀ i, U i → ch_w w W p i = w i := fun i ui => if_neg (fun e : i = p => np (e ▸ ui))
    exact ⟨fa_cg (fun _ _ => rfl) (fun _ _ => rfl) hw, fa_cg (fun _ _ => rfl) (fun _ _ => rfl) (fun i ui => (hw i ui).symm)⟩
  · intro a b c h
    exact ⟨⟨fun e => np' (e ▸ h.1), fun e => np' (e ▸ h.2.1), fun e => np' (e ▸ h.2.2.1)⟩, S1 a h.1⟩
  · intro a b c h
    dsimp only
    rw [hu_r3 Ax]
  · intro u v w' z h1 h2
    exact hu_uniq Ax h1 h2
  · intro u v w' h
    obtain ⟨e, se, e1, e2, e3⟩ := tr_4 P2 u v w'
    have se' : (U e ∨ e = 24) ∨ e = p := by
      have : (fun d => (U d ∨ d = p) ∨ d = 24) e := se
      rw [← eS] at this
      exact this
    exact hu_rev Ax W2 S2 h se' e1 e2 e3
  · intro a b c ha hb hc
    constructor
    · intro ⟨sa, sb, sc, ab, bc, ac, h⟩
      refine ⟨⟨sa.resolve_right ha, sb.resolve_right hb, sc.resolve_right hc, ab, bc, ac, fun d sd d1 d2 d3 => h d (Or.inl sd) d1 d2 d3⟩, ?_⟩
      have := h p (Or.inr rfl) (fun e => ha e.symm) (fun e => hb e.symm) (fun e => hc e.symm)
      omega
    · intro ⟨F, nc⟩
      have F' := F
      obtain ⟨sa, sb, sc, ab, bc, ac, h⟩ := F
      refine W2 a b c (Or.inl sa) (Or.inl sb) (Or.inl sc) ab bc ac (fun d sd d1 d2 d3 => ?_)
      rcases sd with sd | sd
      · exact Int.le_of_lt (h d sd d1 d2 d3)
      · subst sd; omega
  · intro u v
    constructor
    · intro h
      obtain ⟨e, se, e1, e2, _⟩ := tr_4 P u v u
      obtain ⟨w', z, h1, h2, h3, h4⟩ := hu_back Ax W1 S1 h np' se e1 e2
      exact ⟨w', z, h1, h2, h3, by omega⟩
    · intro ⟨w', z, h1, h2, h3, h4⟩
      have wz : w' ≠ z := by
        intro e
        subst e
        obtain ⟨e, se, e1, e2, e3⟩ := tr_4 P u v w'
        have g1 := h1.2.2.2.2.2.2 e se e1 e2 e3
        have g2 := h3.2.2.2.2.2.2 e se e2 e1 e3
        have g3 := Ax.1 u v w' e
        omega
      have nz : ch_X x y (ch_w w W p) (96774 * W + 1) s1 s2 s3 v u z p ≠ 0 := by
        intro e
        obtain ⟨sa, sb, sc, ab, bc, ac, h⟩ := h3
        have := W2 v u z (Or.inl sa) (Or.inl sb) (Or.inl sc) ab bc ac (fun d sd d1 d2 d3 => by
          rcases sd with sd | sd
          · exact Int.le_of_lt (h d sd d1 d2 d3)
          · subst sd; omega)
        have := this.2.2.2.2.2.2 p (Or.inr rfl) (fun e => np' (e ▸ sa)) (fun e => np' (e ▸ sb)) (fun e => np' (e ▸ sc))
        omega
      exact hu_new Ax np' h1 h3 wz h2 (by omega)
  · intro a b c h
    exact ⟨h.2.2.2.1, h.2.2.2.2.1, h.2.2.2.2.2.1⟩
  · intro a b c F
    have apg : ∀ i, (U i ∨ i = 24) → i ≠ 24 → (x i ≠ x p ∨ y i ≠ y p) := fun i si ni => ap i (si.resolve_right ni)
    have Fs := F
    obtain ⟨sa, sb, sc, ab, bc, ac, h⟩ := Fs
    by_cases a24 : a = 24
    · subst a24
      have g := fa_cfg P (hu_rot Ax F) hp (apg b sb (fun e => ab e.symm)) (apg c sc (fun e => ac e.symm))
      rw [hu_r3 Ax] at g
      dsimp only
      rw [g]
      exact ⟨fun h => Or.inl ⟨rfl, h⟩, fun h => by
        rcases h with h | h | h | h
        · exact h.2
        · exact absurd rfl h.1
        · exact absurd rfl h.1
        · exact absurd rfl h.1⟩
    by_cases b24 : b = 24
    · subst b24
      have g := fa_cfg P (hu_rot Ax (hu_rot Ax F)) hp (apg c sc (fun e => bc e.symm)) (apg a sa a24)
      rw [hu_r3 Ax, hu_r3 Ax] at g
      dsimp only
      rw [g]
      exact ⟨fun h => Or.inr (Or.inl ⟨a24, rfl, h⟩), fun h => by
        rcases h with h | h | h | h
        · exact absurd h.1 a24
        · exact h.2.2
        · exact absurd rfl h.2.1
        · exact absurd rfl h.2.1⟩
    by_cases c24 : c = 24
    · subst c24
      have g := fa_cfg P F hp (apg a sa a24) (apg b sb b24)
      dsimp only
      rw [g]
      exact ⟨fun h => Or.inr (Or.inr (Or.inl ⟨a24, b24, rfl, h⟩)), fun h => by
        rcases h with h | h | h | h
        · exact absurd h.1 a24
        · exact absurd h.2.1 b24
        · exact h.2.2.2
        · exact absurd rfl h.2.2.1⟩
    · have g := fa_cf P F a24 b24 c24 hp P0.2.2.2.1.1 (fun i hi ni => by
        rw [show ch_w w W p i = w i from if_neg ni]
        exact (P0.2.2.2.1.2 i hi).2) np (by rw [show ch_w w W p p = 96774 * W + 1 from if_pos rfl]; omega)
      dsimp only
      rw [g]
      exact ⟨fun h => Or.inr (Or.inr (Or.inr ⟨a24, b24, c24, h⟩)), fun h => by
        rcases h with h | h | h | h
        · exact absurd h.1 a24
        · exact absurd h.2.1 b24
        · exact absurd h.2.2.1 c24
        · exact h.2.2.2⟩
  · intro al2 C2 A2 O2
    refine ⟨ch_w w W p, 96774 * W + 1, s1, s2, s3, P2, ?_⟩
    rw [← eS]
    exact O2
end

theorem tr_seed3 {C : Nat → Nat} {a b c e f : Nat} (ha : a ≠ 24) (hb : b ≠ 24) (hc : c ≠ 24) (ab : a ≠ b) (bc : b ≠ c) (ac : a ≠ c)
    (c0 : C 0 = a) (c1 : C 1 = b) (c2 : C 2 = c) (c3 : C 3 = b) (c4 : C 4 = a) (c5 : C 5 = 24) (c6 : C 6 = c) (c7 : C 7 = b) (c8 : C 8 = 24)
    (c9 : C 9 = a) (c10 : C 10 = c) (c11 : C 11 = 24) (he : e < 12) (hf : f < 12) (q1 : C e = C f) (q2 : C (nx_ e) = C (nx_ f)) : e = f := by
  have key : ∀ e, e < 12 → (e = 0 ∧ C e = a ∧ C (nx_ e) = b) ∨ (e = 1 ∧ C e = b ∧ C (nx_ e) = c) ∨ (e = 2 ∧ C e = c ∧ C (nx_ e) = a) ∨
      (e = 3 ∧ C e = b ∧ C (nx_ e) = a) ∨ (e = 4 ∧ C e = a ∧ C (nx_ e) = 24) ∨ (e = 5 ∧ C e = 24 ∧ C (nx_ e) = b) ∨
      (e = 6 ∧ C e = c ∧ C (nx_ e) = b) ∨ (e = 7 ∧ C e = b ∧ C (nx_ e) = 24) ∨ (e = 8 ∧ C e = 24 ∧ C (nx_ e) = c) ∨
      (e = 9 ∧ C e = a ∧ C (nx_ e) = c) ∨ (e = 10 ∧ C e = c ∧ C (nx_ e) = 24) ∨ (e = 11 ∧ C e = 24 ∧ C (nx_ e) = a) := by
    intro e he
    have : e = 0 ∨ e = 1 ∨ e = 2 ∨ e = 3 ∨ e = 4 ∨ e = 5 ∨ e = 6 ∨ e = 7 ∨ e = 8 ∨ e = 9 ∨ e = 10 ∨ e = 11 := by omega
    rcases this with z | z | z | z | z | z | z | z | z | z | z | z <;> subst z
    · exact Or.inl ⟨rfl, c0, c1⟩
    · exact Or.inr (Or.inl ⟨rfl, c1, c2⟩)
    · exact Or.inr (Or.inr (Or.inl ⟨rfl, c2, c0⟩))
    · exact Or.inr (Or.inr (Or.inr (Or.inl ⟨rfl, c3, c4⟩)))
    · exact Or.inr (Or.inr (Or.inr (Or.inr (Or.inl ⟨rfl, c4, c5⟩))))
    · exact Or.inr (Or.inr (Or.inr (Or.inr (Or.inr (Or.inl ⟨rfl, c5, c3⟩)))))
    · exact Or.inr (Or.inr (Or.inr (Or.inr (Or.inr (Or.inr (Or.inl ⟨rfl, c6, c7⟩))))))
    · exact Or.inr (Or.inr (Or.inr (Or.inr (Or.inr (Or.inr (Or.inr (Or.inl ⟨rfl, c7, c8⟩)))))))
    · exact Or.inr (Or.inr (Or.inr (Or.inr (Or.inr (Or.inr (Or.inr (Or.inr (Or.inl ⟨rfl, c8, c6⟩))))))))
    · exact Or.inr (Or.inr (Or.inr (Or.inr (Or.inr (Or.inr (Or.inr (Or.inr (Or.inr (Or.inl ⟨rfl, c9, c10⟩)))))))))
    · exact Or.inr (Or.inr (Or.inr (Or.inr (Or.inr (Or.inr (Or.inr (Or.inr (Or.inr (Or.inr (Or.inl ⟨rfl, c10, c11⟩))))))))))
    · exact Or.inr (Or.inr (Or.inr (Or.inr (Or.inr (Or.inr (Or.inr (Or.inr (Or.inr (Or.inr (Or.inr ⟨rfl, c11, c9⟩))))))))))
  have k1 := key e he
  have k2 := key f hf
  generalize C e = p1 at *
  generalize C f = p2 at *
  generalize C (nx_ e) = p3 at *
  generalize C (nx_ f) = p4 at *
  clear key c0 c1 c2 c3 c4 c5 c6 c7 c8 c9 c10 c11
  subst q1 q2
  rcases k1 with k | k | k | k | k | k | k | k | k | k | k | k <;> obtain ⟨z1, z2, z3⟩ := k <;>
  rcases k2 with k | k | k | k | k | k | k | k | k | k | k | k <;> obtain ⟨y1, y2, y3⟩ := k <;> omega
/-- the first triangle -/
theorem tr_seed {x y : Nat → Int} {al : Nat → Prop} {C A : Nat → Nat} (B : ge_Bd x y) {a b c : Nat} (ha : a < 24) (hb : b < 24) (hc : c < 24) (t : 0 < ge_T x y a b c)
    (hal : ∀ i, i < 72 → (al i ↔ i < 4)) (c0 : C 0 = a) (c1 : C 1 = b) (c2 : C 2 = c) (c3 : C 3 = b) (c4 : C 4 = a) (c5 : C 5 = 24) (c6 : C 6 = c) (c7 : C 7 = b) (c8 : C 8 = 24)
    (c9 : C 9 = a) (c10 : C 10 = c) (c11 : C 11 = 24) (a0 : A 0 = 1) (a1 : A 1 = 2) (a2 : A 2 = 3) (a3 : A 3 = 0) (a4 : A 4 = 3) (a5 : A 5 = 2) (a6 : A 6 = 0) (a7 : A 7 = 1) (a8 : A 8 = 3)
    (a9 : A 9 = 0) (a10 : A 10 = 2) (a11 : A 11 = 1) : tr_Ok x y (fun d => d = a ∨ d = b ∨ d = c) al C A := by
  have ab : a ≠ b := fun e => by rw [e, ge_Tz1] at t; omega
  have bc : b ≠ c := fun e => by rw [e, ge_Tz2] at t; omega
  have ac : a ≠ c := fun e => by rw [e, ge_Tz3] at t; omega
  have apart : ∀ i j k, ge_T x y i j k ≠ 0 → x i ≠ x j ∨ y i ≠ y j := by
    intro i j k h
    by_cases z : x i ≠ x j ∨ y i ≠ y j
    · exact z
    · exfalso
      apply h
      unfold ge_T
      have e1 : x j - x i = 0 := by omega
      have e2 : y j - y i = 0 := by omega
      rw [e1, e2]
      omega
  have t1 := ge_T12 x y a b c
  have t2 := ge_T23 x y a b c
  have t3 := ge_Tr x y a b c
  have t4 := ge_T12 x y b c a
  have t5 := ge_T23 x y b c a
  have t6 := ge_Tr x y b c a
  have nab := apart a b c (by omega)
  have nbc := apart b c a (by omega)
  have nac := apart a c b (by omega)
  have P : ch_Pre x y (fun _ => 0) 0 a b c (fun d => d = a ∨ d = b ∨ d = c) := by
    refine ⟨B, fun i j hi hj ij => ?_, fun i hi => by omega, ⟨by omega, fun i _ => ⟨Int.le_refl 0, Int.le_refl 0⟩⟩, fun p q r s hp hq hr hs h1 h2 h3 h4 h5 h6 => ?_, Or.inl rfl, Or.inr (Or.inl rfl), Or.inr (Or.inr rfl), by omega⟩
    · rcases hi with hi | hi | hi <;> rcases hj with hj | hj | hj <;> subst hi <;> subst hj <;> omega
    · exfalso
      omega
  have Ax : hu_Ax (ch_X x y (fun _ => 0) 0 a b c) := ch_ax
  have F0 : hu_F (ch_X x y (fun _ => 0) 0 a b c) (fun d => (d = a ∨ d = b ∨ d = c) ∨ d = 24) a b c := by
    refine fa_mk P (Or.inl rfl) (Or.inr (Or.inl rfl)) (Or.inr (Or.inr rfl)) ab bc ac t (fun d hd d1 d2 d3 => ?_)
    exfalso
    omega
  have F1 : hu_F (ch_X x y (fun _ => 0) 0 a b c) (fun d => (d = a ∨ d = b ∨ d = c) ∨ d = 24) b a 24 := by
    refine (fa_gh P).mpr ⟨Or.inr (Or.inl rfl), Or.inl rfl, fun e => ab e.symm, fun d hd d1 d2 => ?_⟩
    have : d = c := by omega
    subst this
    exact Or.inl (by omega)
  have F2 : hu_F (ch_X x y (fun _ => 0) 0 a b c) (fun d => (d = a ∨ d = b ∨ d = c) ∨ d = 24) c b 24 := by
    refine (fa_gh P).mpr ⟨Or.inr (Or.inr rfl), Or.inr (Or.inl rfl), fun e => bc e.symm, fun d hd d1 d2 => ?_⟩
    have : d = a := by omega
    subst this
    exact Or.inl (by omega)
  have F3 : hu_F (ch_X x y (fun _ => 0) 0 a b c) (fun d => (d = a ∨ d = b ∨ d = c) ∨ d = 24) a c 24 := by
    refine (fa_gh P).mpr ⟨Or.inl rfl, Or.inr (Or.inr rfl), ac, fun d hd d1 d2 => ?_⟩
    have : d = b := by omega
    subst this
    exact Or.inl (by omega)
  have n0 : nx_ 0 = 1 := rfl
  have n1 : nx_ 1 = 2 := rfl
  have n2 : nx_ 2 = 0 := rfl
  have n3 : nx_ 3 = 4 := rfl
  have n4 : nx_ 4 = 5 := rfl
  have n5 : nx_ 5 = 3 := rfl
  have n6 : nx_ 6 = 7 := rfl
  have n7 : nx_ 7 = 8 := rfl
  have n8 : nx_ 8 = 6 := rfl
  have n9 : nx_ 9 = 10 := rfl
  have n10 : nx_ 10 = 11 := rfl
  have n11 : nx_ 11 = 9 := rfl
  have lt12 : ∀ e, e < 216 → al (e / 3) → e < 12 := by
    intro e he h
    have := (hal (e / 3) (by omega)).mp h
    omega
  have mk : ∀ e, e < 12 → al (e / 3) := fun e he => (hal (e / 3) (by omega)).mpr (by omega)
  have c12 : ∀ e, e < 12 → e = 0 ∨ e = 1 ∨ e = 2 ∨ e = 3 ∨ e = 4 ∨ e = 5 ∨ e = 6 ∨ e = 7 ∨ e = 8 ∨ e = 9 ∨ e = 10 ∨ e = 11 := by omega
  refine ⟨fun _ => 0, 0, a, b, c, P, ?_, ?_, ?_, ?_⟩
  · intro e he h
    rcases c12 e (lt12 e he h) with z | z | z | z | z | z | z | z | z | z | z | z <;> subst z
    · rw [n0, n1, c0, c1, c2]; exact F0
    · rw [n1, n2, c0, c1, c2]; exact hu_rot Ax F0
    · rw [n2, n0, c0, c1, c2]; exact hu_rot Ax (hu_rot Ax F0)
    · rw [n3, n4, c3, c4, c5]; exact F1
    · rw [n4, n5, c3, c4, c5]; exact hu_rot Ax F1
    · rw [n5, n3, c3, c4, c5]; exact hu_rot Ax (hu_rot Ax F1)
    · rw [n6, n7, c6, c7, c8]; exact F2
    · rw [n7, n8, c6, c7, c8]; exact hu_rot Ax F2
    · rw [n8, n6, c6, c7, c8]; exact hu_rot Ax (hu_rot Ax F2)
    · rw [n9, n10, c9, c10, c11]; exact F3
    · rw [n10, n11, c9, c10, c11]; exact hu_rot Ax F3
    · rw [n11, n9, c9, c10, c11]; exact hu_rot Ax (hu_rot Ax F3)
  · intro u v r F
    have gho : ∀ u v, hu_F (ch_X x y (fun _ => 0) 0 a b c) (fun d => (d = a ∨ d = b ∨ d = c) ∨ d = 24) u v 24 → (u = b ∧ v = a) ∨ (u = c ∧ v = b) ∨ (u = a ∧ v = c) := by
      intro u v F
      obtain ⟨hu, hv, uv, h⟩ := (fa_gh P).mp F
      rcases hu with hu | hu | hu <;> rcases hv with hv | hv | hv <;> subst hu <;> subst hv
      · exact absurd rfl uv
      · have := h c (Or.inr (Or.inr rfl)) (fun e => ac e.symm) (fun e => bc e.symm)
        omega
      · exact Or.inr (Or.inr ⟨rfl, rfl⟩)
      · exact Or.inl ⟨rfl, rfl⟩
      · exact absurd rfl uv
      · have := h a (Or.inl rfl) ab ac
        omega
      · have := h b (Or.inr (Or.inl rfl)) bc (fun e => ab e.symm)
        omega
      · exact Or.inr (Or.inl ⟨rfl, rfl⟩)
      · exact absurd rfl uv
    by_cases r24 : r = 24
    · subst r24
      rcases gho u v F with ⟨z1, z2⟩ | ⟨z1, z2⟩ | ⟨z1, z2⟩ <;> subst z1 <;> subst z2
      · exact ⟨3, by omega, mk 3 (by omega), c3, by rw [n3]; exact c4, by rw [n3, n4]; exact c5⟩
      · exact ⟨6, by omega, mk 6 (by omega), c6, by rw [n6]; exact c7, by rw [n6, n7]; exact c8⟩
      · exact ⟨9, by omega, mk 9 (by omega), c9, by rw [n9]; exact c10, by rw [n9, n10]; exact c11⟩
    by_cases u24 : u = 24
    · subst u24
      rcases gho v r (hu_rot Ax F) with ⟨z1, z2⟩ | ⟨z1, z2⟩ | ⟨z1, z2⟩ <;> subst z1 <;> subst z2
      · exact ⟨5, by omega, mk 5 (by omega), c5, by rw [n5]; exact c3, by rw [n5, n3]; exact c4⟩
      · exact ⟨8, by omega, mk 8 (by omega), c8, by rw [n8]; exact c6, by rw [n8, n6]; exact c7⟩
      · exact ⟨11, by omega, mk 11 (by omega), c11, by rw [n11]; exact c9, by rw [n11, n9]; exact c10⟩
    by_cases v24 : v = 24
    · subst v24
      rcases gho r u (hu_rot Ax (hu_rot Ax F)) with ⟨z1, z2⟩ | ⟨z1, z2⟩ | ⟨z1, z2⟩ <;> subst z1 <;> subst z2
      · exact ⟨4, by omega, mk 4 (by omega), c4, by rw [n4]; exact c5, by rw [n4, n5]; exact c3⟩
      · exact ⟨7, by omega, mk 7 (by omega), c7, by rw [n7]; exact c8, by rw [n7, n8]; exact c6⟩
      · exact ⟨10, by omega, mk 10 (by omega), c10, by rw [n10]; exact c11, by rw [n10, n11]; exact c9⟩
    have tt := fa_T P F u24 v24 r24
    obtain ⟨su, sv, sr, uv, vr, ur, _⟩ := F
    have su' := su.resolve_right u24
    have sv' := sv.resolve_right v24
    have sr' := sr.resolve_right r24
    rcases su' with z1 | z1 | z1 <;> rcases sv' with z2 | z2 | z2 <;> rcases sr' with z3 | z3 | z3
    all_goals first
      | (exfalso; omega)
      | (exfalso; rw [z1, z2, z3] at tt; omega)
      | exact ⟨0, by omega, mk 0 (by omega), by omega, by rw [n0]; omega, by rw [n0, n1]; omega⟩
      | exact ⟨1, by omega, mk 1 (by omega), by omega, by rw [n1]; omega, by rw [n1, n2]; omega⟩
      | exact ⟨2, by omega, mk 2 (by omega), by omega, by rw [n2]; omega, by rw [n2, n0]; omega⟩
  · intro e f he hf h1 h2 q1 q2
    exact tr_seed3 (by omega) (by omega) (by omega) ab bc ac c0 c1 c2 c3 c4 c5 c6 c7 c8 c9 c10 c11 (lt12 e he h1) (lt12 f hf h2) q1 q2
  · intro e he h
    rcases c12 e (lt12 e he h) with z | z | z | z | z | z | z | z | z | z | z | z <;> subst z
    · exact ⟨by omega, (hal _ (by omega)).mpr (by omega), 3, by omega, by omega, by rw [n0]; omega, by rw [n3]; omega⟩
    · exact ⟨by omega, (hal _ (by omega)).mpr (by omega), 6, by omega, by omega, by rw [n1]; omega, by rw [n6]; omega⟩
    · exact ⟨by omega, (hal _ (by omega)).mpr (by omega), 9, by omega, by omega, by rw [n2]; omega, by rw [n9]; omega⟩
    · exact ⟨by omega, (hal _ (by omega)).mpr (by omega), 0, by omega, by omega, by rw [n3]; omega, by rw [n0]; omega⟩
    · exact ⟨by omega, (hal _ (by omega)).mpr (by omega), 11, by omega, by omega, by rw [n4]; omega, by rw [n11]; omega⟩
    · exact ⟨by omega, (hal _ (by omega)).mpr (by omega), 7, by omega, by omega, by rw [n5]; omega, by rw [n7]; omega⟩
    · exact ⟨by omega, (hal _ (by omega)).mpr (by omega), 1, by omega, by omega, by rw [n6]; omega, by rw [n1]; omega⟩
    · exact ⟨by omega, (hal _ (by omega)).mpr (by omega), 5, by omega, by omega, by rw [n7]; omega, by rw [n5]; omega⟩
    · exact ⟨by omega, (hal _ (by omega)).mpr (by omega), 10, by omega, by omega, by rw [n8]; omega, by rw [n10]; omega⟩
    · exact ⟨by omega, (hal _ (by omega)).mpr (by omega), 2, by omega, by omega, by rw [n9]; omega, by rw [n2]; omega⟩
    · exact ⟨by omega, (hal _ (by omega)).mpr (by omega), 8, by omega, by omega, by rw [n10]; omega, by rw [n8]; omega⟩
    · exact ⟨by omega, (hal _ (by omega)).mpr (by omega), 4, by omega, by omega, by rw [n11]; omega, by rw [n4]; omega⟩
end
section
/-! pairs that every triangulation joins: star lemma, nearest points, ties, short pairs -/
def ln_K (x y : Nat → Int) (U : Nat → Prop) (a b : Nat) : Prop :=
  (∀ c, U c → c ≠ a → c ≠ b → ge_T x y a b c = 0 → 0 < ge_D x y a b c) ∧
  (∀ c d, U c → U d → 0 < ge_T x y a b c → ge_T x y a b d < 0 → ge_ic x y a b c d < 0)
/-- no point within the closed disc over the pair -/
def ln_G (x y : Nat → Int) (U : Nat → Prop) (a b : Nat) : Prop := ∀ c, U c → c ≠ a → c ≠ b → 0 < ge_D x y a b c
def ln_P (x y : Nat → Int) (a : Nat) (gx gy : Int) (b : Nat) : Int := gx * (x b - x a) + gy * (y b - y a)
section
variable {x y : Nat → Int} {U : Nat → Prop}
theorem ln_sym {a b : Nat} (h : ln_K x y U a b) : ln_K x y U b a := by
  refine ⟨fun c uc c1 c2 t => ?_, fun c d uc ud t1 t2 => ?_⟩
  · rw [ge_D12]
    rw [ge_T12] at t
    exact h.1 c uc c2 c1 (by omega)
  · rw [ge_T12] at t1 t2
    have := h.2 d c ud uc (by omega) (by omega)
    have e1 := ge_ic12 x y a b c d
    have e2 := ge_ic34 x y a b c d
    omega
theorem ln_GK {a b : Nat} (h : ln_G x y U a b) : ln_K x y U a b := by
  refine ⟨fun c uc c1 c2 _ => h c uc c1 c2, fun c d uc ud t1 t2 => ?_⟩
  have ne : ∀ e, ge_T x y a b e ≠ 0 → e ≠ a ∧ e ≠ b := fun e he => ⟨fun z => he (by rw [z]; exact ge_Tz3 x y _ _), fun z => he (by rw [z]; exact ge_Tz2 x y _ _)⟩
  have dc := h c uc (ne c (by omega)).1 (ne c (by omega)).2
  have dd := h d ud (ne d (by omega)).1 (ne d (by omega)).2
  rw [ge_icD]
  have m1 := Int.mul_neg_of_pos_of_neg dc t2
  have m2 := Int.mul_pos dd t1
  omega
theorem ln_3 (a i j k : Nat) (gx gy : Int) : ge_T x y a i k * ln_P x y a gx gy j = ge_T x y a i j * ln_P x y a gx gy k + ge_T x y a j k * ln_P x y a gx gy i := by
  unfold ge_T ln_P
  generalize x a = xa; generalize y a = ya; generalize x i = xi; generalize y i = yi
  generalize x j = xj; generalize y j = yj; generalize x k = xk; generalize y k = yk
  grind
theorem ln_phi (a b c : Nat) (gx gy : Int) : ge_S x y a c * ln_P x y a gx gy b - ge_S x y a b * ln_P x y a gx gy c = ln_P x y a gx gy b * ge_D x y a b c - ((x b - x a) * gy - (y b - y a) * gx) * ge_T x y a b c := by
  unfold ge_T ln_P ge_S ge_D
  generalize x a = xa; generalize y a = ya; generalize x b = xb; generalize y b = yb
  generalize x c = xc; generalize y c = yc
  grind
theorem ln_tr1 {ni nj nk pi pj pk : Int} (hi : 0 < pi) (hj : 0 < pj) (hk : 0 < pk) (h1 : ni * pj ≤ nj * pi) (h2 : nj * pk ≤ nk * pj) :
    ni * pk ≤ nk * pi ∧ ((ni * pj < nj * pi ∨ nj * pk < nk * pj) → ni * pk < nk * pi) := by
  have m1 := Int.mul_le_mul_of_nonneg_right h1 (Int.le_of_lt hk)
  have m2 := Int.mul_le_mul_of_nonneg_right h2 (Int.le_of_lt hi)
  have e1 : ni * pj * pk = pj * (ni * pk) := by grind
  have e2 : nj * pi * pk = nj * pk * pi := by grind
  have e3 : nk * pj * pi = pj * (nk * pi) := by grind
  have key : pj * (ni * pk) ≤ pj * (nk * pi) := by omega
  refine ⟨?_, fun h => ?_⟩
  · have := sg_pN (x := ni * pk - nk * pi) hj (by rw [Int.mul_sub]; omega)
    omega
  · have key2 : pj * (ni * pk) < pj * (nk * pi) := by
      rcases h with h | h
      · have := Int.mul_lt_mul_of_pos_right h hk
        omega
      · have := Int.mul_lt_mul_of_pos_right h hi
        omega
    have := sg_pn (x := ni * pk - nk * pi) hj (by rw [Int.mul_sub]; omega)
    omega
/-- ahead in any direction there's a joined neighbour -/
theorem ln_star (N : ge_Ne x y U) (L : ∀ i, U i → i < 24) {a : Nat} (ua : U a) (gx gy : Int) (h : ∃ b, U b ∧ 0 < ln_P x y a gx gy b) :
    ∃ b, U b ∧ b ≠ a ∧ 0 < ln_P x y a gx gy b ∧ ln_K x y U a b ∧ ∀ c, U c → 0 < ln_P x y a gx gy c → ge_S x y a b * ln_P x y a gx gy c ≤ ge_S x y a c * ln_P x y a gx gy b := by
  obtain ⟨b0, ub0, pb0⟩ := h
  have pa : ln_P x y a gx gy a = 0 := by
    unfold ln_P
    rw [Int.sub_self, Int.sub_self]
    omega
  obtain ⟨b, _, ⟨ub, pb⟩, hb⟩ := mn_ex (P := fun i => U i ∧ 0 < ln_P x y a gx gy i)
    (R := fun i j => ge_S x y a i * ln_P x y a gx gy j < ge_S x y a j * ln_P x y a gx gy i ∨ (ge_S x y a i * ln_P x y a gx gy j = ge_S x y a j * ln_P x y a gx gy i ∧ 0 ≤ ge_T x y a i j))
    (fun i j _ _ => by
      have := ge_T23 x y a i j
      omega)
    (fun i j k pi pj pk r1 r2 => by
      have q := ln_tr1 pi.2 pj.2 pk.2 (show ge_S x y a i * ln_P x y a gx gy j ≤ ge_S x y a j * ln_P x y a gx gy i by omega) (show ge_S x y a j * ln_P x y a gx gy k ≤ ge_S x y a k * ln_P x y a gx gy j by omega)
      by_cases z : ge_S x y a i * ln_P x y a gx gy j < ge_S x y a j * ln_P x y a gx gy i ∨ ge_S x y a j * ln_P x y a gx gy k < ge_S x y a k * ln_P x y a gx gy j
      · exact Or.inl (q.2 z)
      · have t1 : 0 ≤ ge_T x y a i j := by omega
        have t2 : 0 ≤ ge_T x y a j k := by omega
        have e := ln_3 (x := x) (y := y) a i j k gx gy
        have m1 := Int.mul_nonneg t1 (Int.le_of_lt pk.2)
        have m2 := Int.mul_nonneg t2 (Int.le_of_lt pi.2)
        have t3 : 0 ≤ ge_T x y a i k := sg_pp pj.2 (by rw [Int.mul_comm]; omega)
        omega)
    24 ⟨b0, L b0 ub0, ub0, pb0⟩
  have ba : b ≠ a := fun e => by rw [e, pa] at pb; omega
  have sb := ge_Sp N ua ub (fun e => ba e.symm)
  have mn : ∀ c, U c → 0 < ln_P x y a gx gy c → ge_S x y a b * ln_P x y a gx gy c ≤ ge_S x y a c * ln_P x y a gx gy b := by
    intro c uc pc
    have := hb c (L c uc) ⟨uc, pc⟩
    omega
  have phi : ∀ c, U c → 0 ≤ ge_S x y a c * ln_P x y a gx gy b - ge_S x y a b * ln_P x y a gx gy c := by
    intro c uc
    by_cases pc : 0 < ln_P x y a gx gy c
    · have := mn c uc pc
      omega
    · have m1 : 0 ≤ ge_S x y a c * ln_P x y a gx gy b := by
        refine Int.mul_nonneg ?_ (Int.le_of_lt pb)
        unfold ge_S
        have h1 := ge_sq (x a - x c)
        have h2 := ge_sq (y a - y c)
        omega
      have m2 := Int.mul_nonpos_of_nonneg_of_nonpos (Int.le_of_lt sb) (show ln_P x y a gx gy c ≤ 0 by omega)
      omega
  refine ⟨b, ub, ba, pb, ⟨fun c uc ca cb t => ?_, fun c d uc ud tc td => ?_⟩, mn⟩
  · have p := phi c uc
    rw [ln_phi, t, Int.mul_zero, Int.sub_zero] at p
    have d0 := sg_pp pb p
    have dn := ge_colne t (N a c ua uc (fun e => ca e.symm)) (N b c ub uc (fun e => cb e.symm)) (N a b ua ub (fun e => ba e.symm))
    omega
  · have p1 := phi c uc
    have p2 : 0 < ge_S x y a d * ln_P x y a gx gy b - ge_S x y a b * ln_P x y a gx gy d := by
      have := phi d ud
      by_cases z : ge_S x y a d * ln_P x y a gx gy b - ge_S x y a b * ln_P x y a gx gy d = 0
      · exfalso
        have da : d ≠ a := fun e => by rw [e, ge_Tz3] at td; omega
        have m1 := Int.mul_pos (ge_Sp N ua ud (fun e => da e.symm)) pb
        have pd : 0 < ln_P x y a gx gy d := sg_pP sb (by omega)
        have := hb d (L d ud) ⟨ud, pd⟩
        omega
      · omega
    have e : ln_P x y a gx gy b * ge_ic x y a b c d = (ge_S x y a c * ln_P x y a gx gy b - ge_S x y a b * ln_P x y a gx gy c) * ge_T x y a b d - (ge_S x y a d * ln_P x y a gx gy b - ge_S x y a b * ln_P x y a gx gy d) * ge_T x y a b c := by
      rw [ln_phi, ln_phi, ge_icD]
      generalize ln_P x y a gx gy b = pb; generalize ge_D x y a b c = k1; generalize ge_D x y a b d = k2
      generalize ge_T x y a b c = k3; generalize ge_T x y a b d = k4; generalize (x b - x a) * gy - (y b - y a) * gx = k5
      grind
    have m1 := Int.mul_nonpos_of_nonneg_of_nonpos p1 (Int.le_of_lt td)
    have m2 := Int.mul_pos p2 tc
    exact sg_pn pb (by omega)
/-- square distance to a place -/
def ln_q (x y : Nat → Int) (qx qy : Int) (i : Nat) : Int := (x i - qx) * (x i - qx) + (y i - qy) * (y i - qy)
theorem ln_qP (qx qy : Int) (a c : Nat) : ln_q x y qx qy c = ge_S x y a c - 2 * ln_P x y a (qx - x a) (qy - y a) c + ln_q x y qx qy a := by
  unfold ln_q ge_S ln_P
  generalize x a = xa; generalize y a = ya; generalize x c = xc; generalize y c = yc
  grind
theorem ln_near (N : ge_Ne x y U) (L : ∀ i, U i → i < 24) {a c : Nat} (ua : U a) (uc : U c) (qx qy : Int) (h : ln_q x y qx qy c < ln_q x y qx qy a) :
    ∃ b, U b ∧ b ≠ a ∧ ln_K x y U a b ∧ ln_q x y qx qy b < ln_q x y qx qy a := by
  have s0 : 0 ≤ ge_S x y a c := by
    unfold ge_S
    have h1 := ge_sq (x a - x c)
    have h2 := ge_sq (y a - y c)
    omega
  have e := ln_qP (x := x) (y := y) qx qy a c
  have pc : 0 < ln_P x y a (qx - x a) (qy - y a) c := by omega
  obtain ⟨b, ub, ba, pb, hk, hm⟩ := ln_star N L ua (qx - x a) (qy - y a) ⟨c, uc, pc⟩
  refine ⟨b, ub, ba, hk, ?_⟩
  have m := hm c uc pc
  have eb := ln_qP (x := x) (y := y) qx qy a b
  have m2 := Int.mul_lt_mul_of_pos_right (show ge_S x y a c < 2 * ln_P x y a (qx - x a) (qy - y a) c by omega) pb
  have : ge_S x y a b < 2 * ln_P x y a (qx - x a) (qy - y a) b := by
    have := sg_pn (k := ln_P x y a (qx - x a) (qy - y a) c) (x := ge_S x y a b - 2 * ln_P x y a (qx - x a) (qy - y a) b) pc (by
      generalize ln_P x y a (qx - x a) (qy - y a) b = p1 at *
      generalize ln_P x y a (qx - x a) (qy - y a) c = p2 at *
      have e1 : p2 * (ge_S x y a b - 2 * p1) = ge_S x y a b * p2 - 2 * p2 * p1 := by grind
      omega)
    omega
  omega
/-- among the nearest points one can go from any to any -/
theorem ln_tie (B : ge_Bd x y) (N : ge_Ne x y U) (L : ∀ i, U i → i < 24) {a z : Nat} (ua : U a) (uz : U z) (az : a ≠ z) {qx qy : Int} (hq : (0 ≤ qx ∧ qx ≤ 127) ∧ (0 ≤ qy ∧ qy ≤ 127))
    (hz : ln_q x y qx qy z = ln_q x y qx qy a) (hm : ∀ c, U c → ln_q x y qx qy a ≤ ln_q x y qx qy c) :
    ∃ b, U b ∧ b ≠ a ∧ ln_K x y U a b ∧ ln_q x y qx qy b = ln_q x y qx qy a ∧ 0 < (x z - qx) * (x b - x a) + (y z - qy) * (y b - y a) := by
  have sz := ge_Sp N ua uz az
  have split : ∀ c, ln_P x y a (131072 * (qx - x a) + (x z - qx)) (131072 * (qy - y a) + (y z - qy)) c = 131072 * ln_P x y a (qx - x a) (qy - y a) c + ((x z - qx) * (x c - x a) + (y z - qy) * (y c - y a)) := by
    intro c
    unfold ln_P
    generalize x a = xa; generalize y a = ya; generalize x c = xc; generalize y c = yc; generalize x z = xz; generalize y z = yz
    grind
  have rz : 2 * ((x z - qx) * (x z - x a) + (y z - qy) * (y z - y a)) = ln_q x y qx qy z - ln_q x y qx qy a + ge_S x y a z := by
    unfold ln_q ge_S
    generalize x a = xa; generalize y a = ya; generalize x z = xz; generalize y z = yz
    grind
  have ez := ln_qP (x := x) (y := y) qx qy a z
  have sp := split z
  obtain ⟨b, ub, ba, pb, hk, hmn⟩ := ln_star N L ua (131072 * (qx - x a) + (x z - qx)) (131072 * (qy - y a) + (y z - qy)) ⟨z, uz, by omega⟩
  have m := hmn z uz (by omega)
  have sb := ge_Sp N ua ub (fun e => ba e.symm)
  have eb := ln_qP (x := x) (y := y) qx qy a b
  have spb := split b
  have hb := hm b ub
  -- (K + 1) N b ≤ 2 P b
  have key : 131073 * ge_S x y a b ≤ 2 * ln_P x y a (131072 * (qx - x a) + (x z - qx)) (131072 * (qy - y a) + (y z - qy)) b := by
    have p2 : 2 * ln_P x y a (131072 * (qx - x a) + (x z - qx)) (131072 * (qy - y a) + (y z - qy)) z = 131073 * ge_S x y a z := by omega
    generalize ln_P x y a (131072 * (qx - x a) + (x z - qx)) (131072 * (qy - y a) + (y z - qy)) z = p at *
    generalize ln_P x y a (131072 * (qx - x a) + (x z - qx)) (131072 * (qy - y a) + (y z - qy)) b = r at *
    have := sg_pN (k := ge_S x y a z) (x := 131073 * ge_S x y a b - 2 * r) sz (by
      have e1 : ge_S x y a z * (131073 * ge_S x y a b - 2 * r) = ge_S x y a b * (131073 * ge_S x y a z) - 2 * (ge_S x y a z * r) := by grind
      have e2 : ge_S x y a b * (2 * p) = 2 * (ge_S x y a b * p) := by grind
      rw [e1, ← p2, e2]
      omega)
    omega
  have la := B a (L a ua)
  have lb := B b (L b ub)
  have lz := B z (L z uz)
  have b1 := ge_mb (p := x z - qx) (q := x b - x a) (k := 127) (l := 127) (by omega) (by omega) (by omega) (by omega)
  have b2 := ge_mb (p := y z - qy) (q := y b - y a) (k := 127) (l := 127) (by omega) (by omega) (by omega) (by omega)
  refine ⟨b, ub, ba, hk, by omega, by omega⟩
/-- a nearest other point is joined -/
theorem ln_nb (N : ge_Ne x y U) {a b : Nat} (ua : U a) (ub : U b) (ab : a ≠ b) (h : ∀ c, U c → c ≠ a → ge_S x y a b ≤ ge_S x y a c) : ln_K x y U a b := by
  refine ln_GK (fun c uc ca cb => ?_)
  have e := ge_S2 x y a b c
  have s1 := ge_Sp N uc ub cb
  have s2 := h c uc ca
  have s3 := ge_Sc x y a c
  omega
/-- what joined pairs connect, all pairs of that length connect -/
theorem ln_mst (N : ge_Ne x y U) {Lm : Int} {f : Nat → Nat} (hf : ∀ a b, U a → U b → a ≠ b → ln_K x y U a b → ge_S x y a b ≤ Lm → f a = f b) :
    ∀ n : Nat, ∀ a b, U a → U b → ge_S x y a b < n → ge_S x y a b ≤ Lm → f a = f b := by
  intro n
  induction n with
  | zero =>
    intro a b ua ub h
    exfalso
    unfold ge_S at h
    have h1 := ge_sq (x a - x b)
    have h2 := ge_sq (y a - y b)
    omega
  | succ n ih =>
    intro a b ua ub h hl
    by_cases ab : a = b
    · rw [ab]
    by_cases g : ln_G x y U a b
    · exact hf a b ua ub ab (ln_GK g) hl
    · have : ∃ c, U c ∧ c ≠ a ∧ c ≠ b ∧ ge_D x y a b c ≤ 0 := by
        by_cases z : ∃ c, U c ∧ c ≠ a ∧ c ≠ b ∧ ge_D x y a b c ≤ 0
        · exact z
        · exfalso
          apply g
          intro c uc ca cb
          by_cases q : 0 < ge_D x y a b c
          · exact q
          · exact absurd ⟨c, uc, ca, cb, by omega⟩ z
      obtain ⟨c, uc, ca, cb, dc⟩ := this
      have e := ge_S2 x y a b c
      have s1 := ge_Sp N uc ua ca
      have s2 := ge_Sp N uc ub cb
      have s3 := ge_Sc x y a c
      exact (ih c a uc ua (by omega) (by omega)).symm.trans (ih c b uc ub (by omega) (by omega))
end
end
section
/-! facets against joined pairs, discs, circles and the hull -/
section
variable {x y w : Nat → Int} {W : Int} {s1 s2 s3 : Nat} {U : Nat → Prop}
theorem fa_rev (P : ch_Pre x y w W s1 s2 s3 U) {a b c : Nat} (F : hu_F (ch_X x y w W s1 s2 s3) (fun d => U d ∨ d = 24) a b c) : ∃ d, hu_F (ch_X x y w W s1 s2 s3) (fun d => U d ∨ d = 24) b a d := by
  obtain ⟨e, se, e1, e2, e3⟩ := tr_4 P a b c
  exact hu_rev ch_ax (ch_wf P) (tr_S P) F se e1 e2 e3
/-- a joined pair is an edge -/
theorem fa_K (P : ch_Pre x y w W s1 s2 s3 U) {a b : Nat} (ua : U a) (ub : U b) (ab : a ≠ b) (h : ln_K x y U a b) : ∃ c, hu_F (ch_X x y w W s1 s2 s3) (fun d => U d ∨ d = 24) a b c := by
  have Ax : hu_Ax (ch_X x y w W s1 s2 s3) := ch_ax
  have L := P.2.2.1
  by_cases z : ∃ c, U c ∧ 0 < ge_T x y a b c
  · obtain ⟨c0, uc0, tc0⟩ := z
    have g : ∀ d, U d → 0 < ge_T x y a b d → ch_X x y w W s1 s2 s3 b a 24 d < 0 := by
      intro d ud td
      have h1 := (ch_gh (s1 := s1) (s2 := s2) (s3 := s3) P.1 P.2.2.2.1 (L a ua) (L b ub) (L d ud) (L _ P.2.2.2.2.2.1) (L _ P.2.2.2.2.2.2.1) (L _ P.2.2.2.2.2.2.2.1)).1 td
      have h2 := Ax.1 a b 24 d
      have h3 := Ax.2.2.1 a b d 24
      omega
    obtain ⟨c, _, ⟨uc, tc⟩, hc⟩ := mn_ex (P := fun d => U d ∧ 0 < ge_T x y a b d) (R := fun i j => ch_X x y w W s1 s2 s3 a b i j ≤ 0)
      (fun i j _ _ => by have := Ax.2.2.1 a b i j; omega)
      (fun i j k pi pj pk r1 r2 => by
        have := hu_tr Ax (g i pi.1 pi.2) (g j pj.1 pj.2) (g k pk.1 pk.2) (by have := Ax.1 a b i j; omega) (by have := Ax.1 a b j k; omega)
        have := Ax.1 a b i k
        omega)
      24 ⟨c0, L c0 uc0, uc0, tc0⟩
    have ca : c ≠ a := fun e => by rw [e, ge_Tz3] at tc; omega
    have cb : c ≠ b := fun e => by rw [e, ge_Tz2] at tc; omega
    refine ⟨c, fa_mk P ua ub uc ab (fun e => cb e.symm) (fun e => ca e.symm) tc (fun d ud d1 d2 d3 => ?_)⟩
    rcases Int.lt_trichotomy (ge_T x y a b d) 0 with t | t | t
    · exact Int.le_of_lt (fa_lt P ua ub uc ud (h.2 c d uc ud tc t))
    · refine Int.le_of_lt (fa_lt P ua ub uc ud ?_)
      rw [ge_icD, t, Int.mul_zero]
      have := Int.mul_pos (h.1 d ud d1 d2 t) tc
      omega
    · exact hc d (L d ud) ⟨ud, t⟩
  · refine ⟨24, (fa_gh P).mpr ⟨ua, ub, ab, fun d ud d1 d2 => ?_⟩⟩
    have nt : ¬ 0 < ge_T x y a b d := fun t => z ⟨d, ud, t⟩
    have := h.1 d ud d1 d2
    omega
/-- no point of the set lies between the ends of an edge -/
theorem fa_col (P : ch_Pre x y w W s1 s2 s3 U) {a b c : Nat} (F : hu_F (ch_X x y w W s1 s2 s3) (fun d => U d ∨ d = 24) a b c) (ha : a ≠ 24) (hb : b ≠ 24)
    {e : Nat} (ue : U e) (e1 : e ≠ a) (e2 : e ≠ b) (t : ge_T x y a b e = 0) : 0 < ge_D x y a b e := by
  have ua : U a := F.1.resolve_right ha
  have ub : U b := F.2.1.resolve_right hb
  have ab := F.2.2.2.1
  by_cases hc : c = 24
  · subst hc
    have := ((fa_gh P).mp F).2.2.2 e ue e1 e2
    omega
  · have tc := fa_T P F ha hb hc
    have ec : e ≠ c := fun z => by rw [← z, t] at tc; omega
    have i := fa_le P F ha hb hc ue e1 e2 ec
    rw [ge_icD, t, Int.mul_zero] at i
    have dn := ge_colne t (P.2.1 a e ua ue (fun z => e1 z.symm)) (P.2.1 b e ub ue (fun z => e2 z.symm)) (P.2.1 a b ua ub ab)
    have d0 := sg_pp (x := ge_D x y a b e) tc (by rw [Int.mul_comm]; omega)
    omega
theorem fa_g0 (P : ch_Pre x y w W s1 s2 s3 U) {a b : Nat} (F : hu_F (ch_X x y w W s1 s2 s3) (fun d => U d ∨ d = 24) a b 24) {e : Nat} (ue : U e) : ge_T x y a b e ≤ 0 := by
  by_cases e1 : e = a
  · rw [e1, ge_Tz3]; exact Int.le_refl 0
  by_cases e2 : e = b
  · rw [e2, ge_Tz2]; exact Int.le_refl 0
  have := ((fa_gh P).mp F).2.2.2 e ue e1 e2
  omega
theorem fa_le' (P : ch_Pre x y w W s1 s2 s3 U) {a b c : Nat} (F : hu_F (ch_X x y w W s1 s2 s3) (fun d => U d ∨ d = 24) a b c) (ha : a ≠ 24) (hb : b ≠ 24) (hc : c ≠ 24)
    {e : Nat} (ue : U e) (t : ge_T x y a b e ≠ 0) : ge_ic x y a b c e ≤ 0 := by
  by_cases ec : e = c
  · subst ec
    have := ge_ic34 x y a b e e
    omega
  · exact fa_le P F ha hb hc ue (fun z => t (by rw [z]; exact ge_Tz3 x y _ _)) (fun z => t (by rw [z]; exact ge_Tz2 x y _ _)) ec
theorem fa_pen {t k t' k' s m s' m' : Int} (ht : 0 < t) (ht' : 0 < t') (hs : s < 0) (hs' : s' < 0) (h1 : k * t' - k' * t ≤ 0) (h2 : 0 ≤ m * s' - m' * s) (h3 : k * s - m * t < 0) : k' * s' - m' * t' < 0 := by
  have e : (t * -s) * (k' * s' - m' * t') = (-s * -s') * (k * t' - k' * t) + (t * t') * -(m * s' - m' * s) + (-s' * t') * (k * s - m * t) := by grind
  have p1 := Int.mul_pos ht (show 0 < -s by omega)
  have p2 := Int.mul_pos (show 0 < -s by omega) (show 0 < -s' by omega)
  have p3 := Int.mul_pos ht ht'
  have p4 := Int.mul_pos (show 0 < -s' by omega) ht'
  have q1 := Int.mul_nonpos_of_nonneg_of_nonpos (Int.le_of_lt p2) h1
  have q2 := Int.mul_nonpos_of_nonneg_of_nonpos (Int.le_of_lt p3) (show -(m * s' - m' * s) ≤ 0 by omega)
  have q3 := Int.mul_neg_of_pos_of_neg p4 h3
  exact sg_pn p1 (by omega)
/-- an edge is firm exactly if the pair is joined in every triangulation -/
theorem fa_firm (P : ch_Pre x y w W s1 s2 s3 U) {a b c d : Nat} (F : hu_F (ch_X x y w W s1 s2 s3) (fun d => U d ∨ d = 24) a b c) (G : hu_F (ch_X x y w W s1 s2 s3) (fun d => U d ∨ d = 24) b a d)
    (ha : a ≠ 24) (hb : b ≠ 24) : ln_K x y U a b ↔ (c = 24 ∨ d = 24 ∨ ge_ic x y a b c d < 0) := by
  constructor
  · intro h
    by_cases hc : c = 24
    · exact Or.inl hc
    by_cases hd : d = 24
    · exact Or.inr (Or.inl hd)
    have t1 := fa_T P F ha hb hc
    have t2 := fa_T P G hb ha hd
    rw [ge_T12] at t2
    exact Or.inr (Or.inr (h.2 c d (F.2.2.1.resolve_right hc) (G.2.2.1.resolve_right hd) t1 (by omega)))
  · intro h
    refine ⟨fun e ue e1 e2 t => fa_col P F ha hb ue e1 e2 t, fun c' d' uc' ud' t1 t2 => ?_⟩
    have hc : c ≠ 24 := by
      intro z
      subst z
      have := fa_g0 P F uc'
      omega
    have hd : d ≠ 24 := by
      intro z
      subst z
      have := fa_g0 P G ud'
      rw [ge_T12] at this
      omega
    have h3 : ge_ic x y a b c d < 0 := by
      rcases h with h | h | h
      · exact absurd h hc
      · exact absurd h hd
      · exact h
    have tc := fa_T P F ha hb hc
    have td := fa_T P G hb ha hd
    rw [ge_T12] at td
    have i1 := fa_le' P F ha hb hc uc' (by omega)
    have i2 := fa_le' P G hb ha hd ud' (by rw [ge_T12]; omega)
    rw [ge_ic12, ge_icD] at i2
    rw [ge_icD] at i1 h3 ⊢
    exact fa_pen tc t1 (show ge_T x y a b d < 0 by omega) t2 i1 (by omega) h3
/-- the discs over an edge -/
theorem fa_disc (P : ch_Pre x y w W s1 s2 s3 U) {a b c d : Nat} (F : hu_F (ch_X x y w W s1 s2 s3) (fun d => U d ∨ d = 24) a b c) (G : hu_F (ch_X x y w W s1 s2 s3) (fun d => U d ∨ d = 24) b a d)
    (ha : a ≠ 24) (hb : b ≠ 24) : ln_G x y U a b ↔ (c = 24 ∨ 0 < ge_D x y a b c) ∧ (d = 24 ∨ 0 < ge_D x y a b d) := by
  have Fd := F
  have Gd := G
  obtain ⟨sa, sb, sc, ab, bc, ac, _⟩ := Fd
  obtain ⟨_, _, sd, _, ad, bd, _⟩ := Gd
  constructor
  · intro h
    constructor
    · by_cases hc : c = 24
      · exact Or.inl hc
      · exact Or.inr (h c (sc.resolve_right hc) (fun z => ac z.symm) (fun z => bc z.symm))
    · by_cases hd : d = 24
      · exact Or.inl hd
      · exact Or.inr (h d (sd.resolve_right hd) (fun z => ad z.symm) (fun z => bd z.symm))
  · intro ⟨h1, h2⟩ e ue e1 e2
    rcases Int.lt_trichotomy (ge_T x y a b e) 0 with t | t | t
    · have hd : d ≠ 24 := by
        intro z
        subst z
        have := fa_g0 P G ue
        rw [ge_T12] at this
        omega
      have dp := h2.resolve_left hd
      have td := fa_T P G hb ha hd
      rw [ge_T12] at td
      have i2 := fa_le' P G hb ha hd ue (by rw [ge_T12]; omega)
      rw [ge_ic12, ge_icD] at i2
      have m := Int.mul_pos dp (show 0 < -ge_T x y a b e by omega)
      rw [Int.mul_neg] at m
      refine sg_pP td ?_
      rw [Int.neg_mul, Int.mul_comm]
      omega
    · exact fa_col P F ha hb ue e1 e2 t
    · have hc : c ≠ 24 := by
        intro z
        subst z
        have := fa_g0 P F ue
        omega
      have dp := h1.resolve_left hc
      have tc := fa_T P F ha hb hc
      have i1 := fa_le' P F ha hb hc ue (by omega)
      rw [ge_icD] at i1
      have m := Int.mul_pos dp t
      refine sg_pP tc ?_
      rw [Int.mul_comm]
      omega
theorem ge_icS (a b c d : Nat) : ge_ic x y a b c d = ge_S x y a d * ge_T x y b c d + ge_S x y b d * ge_T x y c a d + ge_S x y c d * ge_T x y a b d := by
  unfold ge_ic ge_S ge_T
  generalize x a = xa; generalize y a = ya; generalize x b = xb; generalize y b = yb
  generalize x c = xc; generalize y c = yc; generalize x d = xd; generalize y d = yd
  grind
theorem ge_Tsum (a b c d : Nat) : ge_T x y a b d + ge_T x y b c d + ge_T x y c a d = ge_T x y a b c := by
  unfold ge_T
  generalize x a = xa; generalize y a = ya; generalize x b = xb; generalize y b = yb
  generalize x c = xc; generalize y c = yc; generalize x d = xd; generalize y d = yd
  grind
/-- a facet's circle holds no other point exactly if its edges are firm -/
theorem fa_circ (P : ch_Pre x y w W s1 s2 s3 U) {a b c : Nat} (F : hu_F (ch_X x y w W s1 s2 s3) (fun d => U d ∨ d = 24) a b c) (ha : a ≠ 24) (hb : b ≠ 24) (hc : c ≠ 24) :
    (∀ d, U d → d ≠ a → d ≠ b → d ≠ c → ge_ic x y a b c d < 0) ↔ (ln_K x y U a b ∧ ln_K x y U b c ∧ ln_K x y U c a) := by
  have Ax : hu_Ax (ch_X x y w W s1 s2 s3) := ch_ax
  have F2 := hu_rot Ax F
  have F3 := hu_rot Ax F2
  have one : ∀ a b c, hu_F (ch_X x y w W s1 s2 s3) (fun d => U d ∨ d = 24) a b c → a ≠ 24 → b ≠ 24 → c ≠ 24 → (∀ d, U d → d ≠ a → d ≠ b → d ≠ c → ge_ic x y a b c d < 0) → ln_K x y U a b := by
    intro a b c F ha hb hc h
    obtain ⟨d, G⟩ := fa_rev P F
    refine (fa_firm P F G ha hb).mpr ?_
    by_cases hd : d = 24
    · exact Or.inr (Or.inl hd)
    have Gd := G
    obtain ⟨_, _, sd, _, ad, bd, _⟩ := Gd
    have t1 := fa_T P F ha hb hc
    have t2 := fa_T P G hb ha hd
    rw [ge_T12] at t2
    exact Or.inr (Or.inr (h d (sd.resolve_right hd) (fun z => ad z.symm) (fun z => bd z.symm) (fun z => by rw [z] at t2; omega)))
  constructor
  · intro h
    refine ⟨one a b c F ha hb hc h, one b c a F2 hb hc ha (fun d ud d1 d2 d3 => ?_), one c a b F3 hc ha hb (fun d ud d1 d2 d3 => ?_)⟩
    · rw [ge_icr]; exact h d ud d3 d1 d2
    · rw [ge_icr, ge_icr]; exact h d ud d2 d3 d1
  · intro ⟨h1, h2, h3⟩ d ud d1 d2 d3
    have ua := F.1.resolve_right ha
    have ub := F.2.1.resolve_right hb
    have uc := F.2.2.1.resolve_right hc
    have i := fa_le P F ha hb hc ud d1 d2 d3
    have t1 := fa_T P F ha hb hc
    by_cases q1 : ge_T x y a b d < 0
    · exact h1.2 c d uc ud t1 q1
    by_cases q2 : ge_T x y b c d < 0
    · rw [← ge_icr]
      exact h2.2 a d ua ud (by rw [ge_Tr]; exact t1) q2
    by_cases q3 : ge_T x y c a d < 0
    · rw [← ge_icr, ← ge_icr]
      exact h3.2 b d ub ud (by rw [ge_Tr, ge_Tr]; exact t1) q3
    exfalso
    have e1 := ge_icS (x := x) (y := y) a b c d
    have e2 := ge_Tsum (x := x) (y := y) a b c d
    have sa := ge_Sp P.2.1 ua ud (fun z => d1 z.symm)
    have sb := ge_Sp P.2.1 ub ud (fun z => d2 z.symm)
    have sc := ge_Sp P.2.1 uc ud (fun z => d3 z.symm)
    have m1 := Int.mul_nonneg (Int.le_of_lt sa) (show 0 ≤ ge_T x y b c d by omega)
    have m2 := Int.mul_nonneg (Int.le_of_lt sb) (show 0 ≤ ge_T x y c a d by omega)
    have m3 := Int.mul_nonneg (Int.le_of_lt sc) (show 0 ≤ ge_T x y a b d by omega)
    by_cases p1 : 0 < ge_T x y b c d
    · have := Int.mul_pos sa p1
      omega
    by_cases p2 : 0 < ge_T x y c a d
    · have := Int.mul_pos sb p2
      omega
    · have := Int.mul_pos sc (show 0 < ge_T x y a b d by omega)
      omega
/-- the nearest point of a ray -/
theorem fa_ray (N : ge_Ne x y U) (L : ∀ i, U i → i < 24) {a b : Nat} (ua : U a) (ub : U b) (ab : a ≠ b) :
    ∃ c, U c ∧ c ≠ a ∧ ge_T x y a b c = 0 ∧ (∀ d, (0 < ge_T x y a c d ↔ 0 < ge_T x y a b d) ∧ (ge_T x y a c d < 0 ↔ ge_T x y a b d < 0)) ∧ ∀ d, U d → d ≠ a → d ≠ c → ge_T x y a c d = 0 → 0 < ge_D x y a c d := by
  have sab := ge_Sp N ua ub ab
  have dot : ∀ i j, ge_S x y a i + ge_S x y a j - ge_S x y i j = 2 * ((x i - x a) * (x j - x a) + (y i - y a) * (y j - y a)) := by
    intro i j
    unfold ge_S
    generalize x a = xa; generalize y a = ya; generalize x i = xi; generalize y i = yi; generalize x j = xj; generalize y j = yj
    grind
  obtain ⟨c, _, ⟨uc, ca, tc, pc⟩, hc⟩ := mn_ex (P := fun i => U i ∧ i ≠ a ∧ ge_T x y a b i = 0 ∧ 0 < (x i - x a) * (x b - x a) + (y i - y a) * (y b - y a)) (R := fun i j => ge_S x y a i ≤ ge_S x y a j)
    (fun i j _ _ => by omega) (fun i j k _ _ _ r1 r2 => by omega) 24 ⟨b, L b ub, ub, fun e => ab e.symm, ge_Tz2 x y _ _, by
      have h := dot b b
      have z : ge_S x y b b = 0 := by
        unfold ge_S
        rw [Int.sub_self, Int.sub_self]
        omega
      omega⟩
  have rel : ∀ d, ge_S x y a b * ge_T x y a c d = ((x c - x a) * (x b - x a) + (y c - y a) * (y b - y a)) * ge_T x y a b d := by
    intro d
    have t1 : ge_S x y a b * ge_T x y a c d = ((x c - x a) * (x b - x a) + (y c - y a) * (y b - y a)) * ge_T x y a b d - ge_T x y a b c * ((x d - x a) * (x b - x a) + (y d - y a) * (y b - y a)) := by
      unfold ge_S ge_T
      generalize x a = xa; generalize y a = ya; generalize x b = xb; generalize y b = yb
      generalize x c = xc; generalize y c = yc; generalize x d = xd; generalize y d = yd
      grind
    rw [tc, Int.zero_mul, Int.sub_zero] at t1
    exact t1
  have sgn : ∀ d, (0 < ge_T x y a c d ↔ 0 < ge_T x y a b d) ∧ (ge_T x y a c d < 0 ↔ ge_T x y a b d < 0) := by
    intro d
    have r := rel d
    refine ⟨⟨fun h => ?_, fun h => ?_⟩, ⟨fun h => ?_, fun h => ?_⟩⟩
    · exact sg_pP pc (by rw [← r]; exact Int.mul_pos sab h)
    · exact sg_pP sab (by rw [r]; exact Int.mul_pos pc h)
    · exact sg_pn pc (by rw [← r]; exact Int.mul_neg_of_pos_of_neg sab h)
    · exact sg_pn sab (by rw [r]; exact Int.mul_neg_of_pos_of_neg pc h)
  refine ⟨c, uc, ca, tc, sgn, fun d ud da dc t => ?_⟩
  by_cases q : 0 < ge_D x y a c d
  · exact q
  exfalso
  have dn := ge_colne t (N a d ua ud (fun z => da z.symm)) (N c d uc ud (fun z => dc z.symm)) (N a c ua uc (fun z => ca z.symm))
  have sd := ge_Sp N ua ud (fun z => da z.symm)
  have sc := ge_Sp N ua uc (fun z => ca z.symm)
  have scd := ge_Sp N ud uc dc
  have e2 := ge_S2 x y a c d
  have e3 := ge_Sc x y a d
  have tb : ge_T x y a b d = 0 := by
    have := sgn d
    omega
  -- d lies ahead on the ray
  have ahead : 0 < (x d - x a) * (x b - x a) + (y d - y a) * (y b - y a) := by
    have h1 := dot d c
    have p1 : 0 < (x d - x a) * (x c - x a) + (y d - y a) * (y c - y a) := by
      have := ge_Sc x y c d
      have := ge_S2 x y a c d
      have e4 : ge_D x y a c d = ge_S x y a d - ((x d - x a) * (x c - x a) + (y d - y a) * (y c - y a)) := by
        unfold ge_D ge_S
        generalize x a = xa; generalize y a = ya; generalize x c = xc; generalize y c = yc; generalize x d = xd; generalize y d = yd
        grind
      omega
    have e5 : ge_S x y a c * ((x d - x a) * (x b - x a) + (y d - y a) * (y b - y a)) = ((x d - x a) * (x c - x a) + (y d - y a) * (y c - y a)) * ((x c - x a) * (x b - x a) + (y c - y a) * (y b - y a)) - ge_T x y a c d * ge_T x y a b c := by
      unfold ge_S ge_T
      generalize x a = xa; generalize y a = ya; generalize x b = xb; generalize y b = yb
      generalize x c = xc; generalize y c = yc; generalize x d = xd; generalize y d = yd
      grind
    rw [t, Int.zero_mul, Int.sub_zero] at e5
    exact sg_pP sc (by rw [e5]; exact Int.mul_pos p1 pc)
  have := hc d (L d ud) ⟨ud, da, tb, ahead⟩
  omega
/-- a point is on the hull exactly if all points are on one side of a line through it and another -/
theorem fa_hull (P : ch_Pre x y w W s1 s2 s3 U) {a : Nat} (ua : U a) : (∃ b, hu_F (ch_X x y w W s1 s2 s3) (fun d => U d ∨ d = 24) b a 24) ↔
    ∃ b, U b ∧ b ≠ a ∧ ((∀ c, U c → 0 ≤ ge_T x y a b c) ∨ (∀ c, U c → ge_T x y a b c ≤ 0)) := by
  have Ax : hu_Ax (ch_X x y w W s1 s2 s3) := ch_ax
  constructor
  · intro ⟨b, F⟩
    obtain ⟨ub, _, ba, h⟩ := (fa_gh P).mp F
    refine ⟨b, ub, ba, Or.inl (fun c uc => ?_)⟩
    have := fa_g0 P F uc
    rw [ge_T12] at this
    omega
  · intro ⟨b, ub, ba, h⟩
    obtain ⟨c, uc, ca, tc, sg, hd⟩ := fa_ray P.2.1 P.2.2.1 ua ub (fun e => ba e.symm)
    rcases h with h | h
    · refine ⟨c, (fa_gh P).mpr ⟨uc, ua, ca, fun d ud d1 d2 => ?_⟩⟩
      have h1 := h d ud
      have h2 := sg d
      have h3 := hd d ud d2 d1
      rw [ge_T12, ge_D12]
      omega
    · have F : hu_F (ch_X x y w W s1 s2 s3) (fun d => U d ∨ d = 24) a c 24 := by
        refine (fa_gh P).mpr ⟨ua, uc, fun e => ca e.symm, fun d ud d1 d2 => ?_⟩
        have h1 := h d ud
        have h2 := sg d
        have h3 := hd d ud d1 d2
        omega
      obtain ⟨z, G⟩ := fa_rev P (hu_rot Ax (hu_rot Ax F))
      exact ⟨z, hu_rot Ax (hu_rot Ax G)⟩
end
end
section
/-! what the ints compute -/
def xi_ (p : Nat → Int32) : Nat → Int := fun i => (p i).toInt
def t32_ (px py : Nat → Int32) (a b c : Nat) : Int32 := ((px b - px a) * (py c - py a)) - ((py b - py a) * (px c - px a))
def d32_ (px py : Nat → Int32) (a b c : Nat) : Int32 := ((px a - px c) * (px b - px c)) + ((py a - py c) * (py b - py c))
def s32_ (px py : Nat → Int32) (a b : Nat) : Int32 := ((px a - px b) * (px a - px b)) + ((py a - py b) * (py a - py b))
def q32_ (px py : Nat → Int32) (qx qy : Int32) (a : Nat) : Int32 := ((px a - qx) * (px a - qx)) + ((py a - qy) * (py a - qy))
def c64_ (px py : Nat → Int32) (a b c d : Nat) : Int64 :=
  (((((px a - px d).toInt64 * (px a - px d).toInt64) + ((py a - py d).toInt64 * (py a - py d).toInt64)) * (((px b - px d).toInt64 * (py c - py d).toInt64) - ((py b - py d).toInt64 * (px c - px d).toInt64)))
   - ((((px b - px d).toInt64 * (px b - px d).toInt64) + ((py b - py d).toInt64 * (py b - py d).toInt64)) * (((px a - px d).toInt64 * (py c - py d).toInt64) - ((py a - py d).toInt64 * (px c - px d).toInt64))))
   + ((((px c - px d).toInt64 * (px c - px d).toInt64) + ((py c - py d).toInt64 * (py c - py d).toInt64)) * (((px a - px d).toInt64 * (py b - py d).toInt64) - ((py a - py d).toInt64 * (px b - px d).toInt64)))
theorem ar_sub {a b : Int32} (h1 : -1000000000 ≤ a.toInt - b.toInt) (h2 : a.toInt - b.toInt ≤ 1000000000) : (a - b).toInt = a.toInt - b.toInt := by
  rw [Int32.toInt_sub]
  exact Int.bmod_eq_of_le (by omega) (by omega)
theorem ar_add {a b : Int32} (h1 : -1000000000 ≤ a.toInt + b.toInt) (h2 : a.toInt + b.toInt ≤ 1000000000) : (a + b).toInt = a.toInt + b.toInt := by
  rw [Int32.toInt_add]
  exact Int.bmod_eq_of_le (by omega) (by omega)
theorem ar_mul {a b : Int32} (h1 : -1000000000 ≤ a.toInt * b.toInt) (h2 : a.toInt * b.toInt ≤ 1000000000) : (a * b).toInt = a.toInt * b.toInt := by
  rw [Int32.toInt_mul]
  exact Int.bmod_eq_of_le (by omega) (by omega)
theorem al_sub {a b : Int64} (h1 : -1000000000000000000 ≤ a.toInt - b.toInt) (h2 : a.toInt - b.toInt ≤ 1000000000000000000) : (a - b).toInt = a.toInt - b.toInt := by
  rw [Int64.toInt_sub]
  exact Int.bmod_eq_of_le (by omega) (by omega)
theorem al_add {a b : Int64} (h1 : -1000000000000000000 ≤ a.toInt + b.toInt) (h2 : a.toInt + b.toInt ≤ 1000000000000000000) : (a + b).toInt = a.toInt + b.toInt := by
  rw [Int64.toInt_add]
  exact Int.bmod_eq_of_le (by omega) (by omega)
theorem al_mul {a b : Int64} (h1 : -1000000000000000000 ≤ a.toInt * b.toInt) (h2 : a.toInt * b.toInt ≤ 1000000000000000000) : (a * b).toInt = a.toInt * b.toInt := by
  rw [Int64.toInt_mul]
  exact Int.bmod_eq_of_le (by omega) (by omega)
/-- products of differences of coordinates -/
theorem ar_pp {a b c d : Int32} (ha : -127 ≤ a.toInt - b.toInt ∧ a.toInt - b.toInt ≤ 127) (hc : -127 ≤ c.toInt - d.toInt ∧ c.toInt - d.toInt ≤ 127) :
    ((a - b) * (c - d)).toInt = (a.toInt - b.toInt) * (c.toInt - d.toInt) ∧ -16129 ≤ (a.toInt - b.toInt) * (c.toInt - d.toInt) ∧ (a.toInt - b.toInt) * (c.toInt - d.toInt) ≤ 16129 := by
  have e1 : (a - b).toInt = a.toInt - b.toInt := ar_sub (by omega) (by omega)
  have e2 : (c - d).toInt = c.toInt - d.toInt := ar_sub (by omega) (by omega)
  have m := ge_mb (k := 127) (l := 127) ha.1 ha.2 hc.1 hc.2
  refine ⟨?_, by omega, by omega⟩
  rw [ar_mul, e1, e2]
  · rw [e1, e2]; omega
  · rw [e1, e2]; omega
theorem al_pp {a b c d : Int32} (ha : -127 ≤ a.toInt - b.toInt ∧ a.toInt - b.toInt ≤ 127) (hc : -127 ≤ c.toInt - d.toInt ∧ c.toInt - d.toInt ≤ 127) :
    ((a - b).toInt64 * (c - d).toInt64).toInt = (a.toInt - b.toInt) * (c.toInt - d.toInt) ∧ -16129 ≤ (a.toInt - b.toInt) * (c.toInt - d.toInt) ∧ (a.toInt - b.toInt) * (c.toInt - d.toInt) ≤ 16129 := by
  have e1 : (a - b).toInt64.toInt = a.toInt - b.toInt := by rw [Int32.toInt_toInt64]; exact ar_sub (by omega) (by omega)
  have e2 : (c - d).toInt64.toInt = c.toInt - d.toInt := by rw [Int32.toInt_toInt64]; exact ar_sub (by omega) (by omega)
  have m := ge_mb (k := 127) (l := 127) ha.1 ha.2 hc.1 hc.2
  refine ⟨?_, by omega, by omega⟩
  rw [al_mul, e1, e2]
  · rw [e1, e2]; omega
  · rw [e1, e2]; omega
section
variable {px py : Nat → Int32} {a b c d : Nat}
theorem ar_b (B : ge_Bd (xi_ px) (xi_ py)) (ha : a < 24) (hb : b < 24) : (-127 ≤ (px a).toInt - (px b).toInt ∧ (px a).toInt - (px b).toInt ≤ 127) ∧ (-127 ≤ (py a).toInt - (py b).toInt ∧ (py a).toInt - (py b).toInt ≤ 127) := by
  have h1 : (0 ≤ (px a).toInt ∧ (px a).toInt ≤ 127) ∧ (0 ≤ (py a).toInt ∧ (py a).toInt ≤ 127) := B a ha
  have h2 : (0 ≤ (px b).toInt ∧ (px b).toInt ≤ 127) ∧ (0 ≤ (py b).toInt ∧ (py b).toInt ≤ 127) := B b hb
  omega
theorem t32_i (B : ge_Bd (xi_ px) (xi_ py)) (ha : a < 24) (hb : b < 24) (hc : c < 24) : (t32_ px py a b c).toInt = ge_T (xi_ px) (xi_ py) a b c := by
  have h1 := ar_b B hb ha
  have h2 := ar_b B hc ha
  have m1 := ar_pp h1.1 h2.2
  have m2 := ar_pp h1.2 h2.1
  unfold t32_
  rw [ar_sub, m1.1, m2.1]
  · rfl
  · rw [m1.1, m2.1]; omega
  · rw [m1.1, m2.1]; omega
theorem d32_i (B : ge_Bd (xi_ px) (xi_ py)) (ha : a < 24) (hb : b < 24) (hc : c < 24) : (d32_ px py a b c).toInt = ge_D (xi_ px) (xi_ py) a b c := by
  have h1 := ar_b B ha hc
  have h2 := ar_b B hb hc
  have m1 := ar_pp h1.1 h2.1
  have m2 := ar_pp h1.2 h2.2
  unfold d32_
  rw [ar_add, m1.1, m2.1]
  · rfl
  · rw [m1.1, m2.1]; omega
  · rw [m1.1, m2.1]; omega
theorem s32_i (B : ge_Bd (xi_ px) (xi_ py)) (ha : a < 24) (hb : b < 24) : (s32_ px py a b).toInt = ge_S (xi_ px) (xi_ py) a b := by
  have h1 := ar_b B ha hb
  have m1 := ar_pp h1.1 h1.1
  have m2 := ar_pp h1.2 h1.2
  unfold s32_
  rw [ar_add, m1.1, m2.1]
  · rfl
  · rw [m1.1, m2.1]; omega
  · rw [m1.1, m2.1]; omega
theorem q32_i (B : ge_Bd (xi_ px) (xi_ py)) (ha : a < 24) {qx qy : Int32} (hq : (0 ≤ qx.toInt ∧ qx.toInt ≤ 127) ∧ (0 ≤ qy.toInt ∧ qy.toInt ≤ 127)) : (q32_ px py qx qy a).toInt = ln_q (xi_ px) (xi_ py) qx.toInt qy.toInt a := by
  have h1 : (0 ≤ (px a).toInt ∧ (px a).toInt ≤ 127) ∧ (0 ≤ (py a).toInt ∧ (py a).toInt ≤ 127) := B a ha
  have k1 : -127 ≤ (px a).toInt - qx.toInt ∧ (px a).toInt - qx.toInt ≤ 127 := by omega
  have k2 : -127 ≤ (py a).toInt - qy.toInt ∧ (py a).toInt - qy.toInt ≤ 127 := by omega
  have m1 := ar_pp k1 k1
  have m2 := ar_pp k2 k2
  unfold q32_
  rw [ar_add, m1.1, m2.1]
  · rfl
  · rw [m1.1, m2.1]; omega
  · rw [m1.1, m2.1]; omega
theorem al_3 {l m n : Int64} {L M : Int} (hl : l.toInt = L) (hm : m.toInt = M) (b1 : -40000 ≤ L) (b2 : L ≤ 40000) (b3 : -40000 ≤ M) (b4 : M ≤ 40000) : (l * m).toInt = L * M ∧ -1600000000 ≤ L * M ∧ L * M ≤ 1600000000 := by
  have q := ge_mb (k := 40000) (l := 40000) b1 b2 b3 b4
  subst hl hm
  refine ⟨al_mul (by omega) (by omega), by omega, by omega⟩
theorem c64_i (B : ge_Bd (xi_ px) (xi_ py)) (ha : a < 24) (hb : b < 24) (hc : c < 24) (hd : d < 24) : (c64_ px py a b c d).toInt = ge_ic (xi_ px) (xi_ py) a b c d ∧ -6000000000 ≤ ge_ic (xi_ px) (xi_ py) a b c d ∧ ge_ic (xi_ px) (xi_ py) a b c d ≤ 6000000000 := by
  have h1 := ar_b B ha hd
  have h2 := ar_b B hb hd
  have h3 := ar_b B hc hd
  have aa := al_pp h1.1 h1.1
  have aa' := al_pp h1.2 h1.2
  have bb := al_pp h2.1 h2.1
  have bb' := al_pp h2.2 h2.2
  have cc := al_pp h3.1 h3.1
  have cc' := al_pp h3.2 h3.2
  have bc := al_pp h2.1 h3.2
  have bc' := al_pp h2.2 h3.1
  have ac := al_pp h1.1 h3.2
  have ac' := al_pp h1.2 h3.1
  have ab := al_pp h1.1 h2.2
  have ab' := al_pp h1.2 h2.1
  have sa := al_add (a := (px a - px d).toInt64 * (px a - px d).toInt64) (b := (py a - py d).toInt64 * (py a - py d).toInt64) (by rw [aa.1, aa'.1]; omega) (by rw [aa.1, aa'.1]; omega)
  have sb := al_add (a := (px b - px d).toInt64 * (px b - px d).toInt64) (b := (py b - py d).toInt64 * (py b - py d).toInt64) (by rw [bb.1, bb'.1]; omega) (by rw [bb.1, bb'.1]; omega)
  have sc := al_add (a := (px c - px d).toInt64 * (px c - px d).toInt64) (b := (py c - py d).toInt64 * (py c - py d).toInt64) (by rw [cc.1, cc'.1]; omega) (by rw [cc.1, cc'.1]; omega)
  have tb := al_sub (a := (px b - px d).toInt64 * (py c - py d).toInt64) (b := (py b - py d).toInt64 * (px c - px d).toInt64) (by rw [bc.1, bc'.1]; omega) (by rw [bc.1, bc'.1]; omega)
  have ta := al_sub (a := (px a - px d).toInt64 * (py c - py d).toInt64) (b := (py a - py d).toInt64 * (px c - px d).toInt64) (by rw [ac.1, ac'.1]; omega) (by rw [ac.1, ac'.1]; omega)
  have tc := al_sub (a := (px a - px d).toInt64 * (py b - py d).toInt64) (b := (py a - py d).toInt64 * (px b - px d).toInt64) (by rw [ab.1, ab'.1]; omega) (by rw [ab.1, ab'.1]; omega)
  rw [aa.1, aa'.1] at sa
  rw [bb.1, bb'.1] at sb
  rw [cc.1, cc'.1] at sc
  rw [bc.1, bc'.1] at tb
  rw [ac.1, ac'.1] at ta
  rw [ab.1, ab'.1] at tc
  have p1 := al_3 (n := 0) sa tb (by omega) (by omega) (by omega) (by omega)
  have p2 := al_3 (n := 0) sb ta (by omega) (by omega) (by omega) (by omega)
  have p3 := al_3 (n := 0) sc tc (by omega) (by omega) (by omega) (by omega)
  have e : ge_ic (xi_ px) (xi_ py) a b c d =
    (((px a).toInt - (px d).toInt) * ((px a).toInt - (px d).toInt) + ((py a).toInt - (py d).toInt) * ((py a).toInt - (py d).toInt)) * (((px b).toInt - (px d).toInt) * ((py c).toInt - (py d).toInt) - ((py b).toInt - (py d).toInt) * ((px c).toInt - (px d).toInt))
    - (((px b).toInt - (px d).toInt) * ((px b).toInt - (px d).toInt) + ((py b).toInt - (py d).toInt) * ((py b).toInt - (py d).toInt)) * (((px a).toInt - (px d).toInt) * ((py c).toInt - (py d).toInt) - ((py a).toInt - (py d).toInt) * ((px c).toInt - (px d).toInt))
    + (((px c).toInt - (px d).toInt) * ((px c).toInt - (px d).toInt) + ((py c).toInt - (py d).toInt) * ((py c).toInt - (py d).toInt)) * (((px a).toInt - (px d).toInt) * ((py b).toInt - (py d).toInt) - ((py a).toInt - (py d).toInt) * ((px b).toInt - (px d).toInt)) := rfl
  have q := al_sub (a := ((((px a - px d).toInt64 * (px a - px d).toInt64) + ((py a - py d).toInt64 * (py a - py d).toInt64)) * (((px b - px d).toInt64 * (py c - py d).toInt64) - ((py b - py d).toInt64 * (px c - px d).toInt64))))
    (b := ((((px b - px d).toInt64 * (px b - px d).toInt64) + ((py b - py d).toInt64 * (py b - py d).toInt64)) * (((px a - px d).toInt64 * (py c - py d).toInt64) - ((py a - py d).toInt64 * (px c - px d).toInt64)))) (by rw [p1.1, p2.1]; omega) (by rw [p1.1, p2.1]; omega)
  rw [p1.1, p2.1] at q
  rw [e]
  refine ⟨?_, by omega, by omega⟩
  unfold c64_
  rw [al_add, q, p3.1]
  · rw [q, p3.1]; omega
  · rw [q, p3.1]; omega
end
/-- signs of ints -/
theorem i0_ : (0 : Int32).toInt = 0 := by decide
theorem l0_ : (0 : Int64).toInt = 0 := by decide
theorem i_le0 {r : Int32} : r ≤ 0 ↔ r.toInt ≤ 0 := by rw [Int32.le_iff_toInt_le, i0_]
theorem i_0le {r : Int32} : 0 ≤ r ↔ 0 ≤ r.toInt := by rw [Int32.le_iff_toInt_le, i0_]
theorem i_lt0 {r : Int32} : r < 0 ↔ r.toInt < 0 := by rw [Int32.lt_iff_toInt_lt, i0_]
theorem i_0lt {r : Int32} : 0 < r ↔ 0 < r.toInt := by rw [Int32.lt_iff_toInt_lt, i0_]
theorem i_eq0 {r : Int32} : r = 0 ↔ r.toInt = 0 := by rw [← Int32.toInt_inj, i0_]
theorem l_le0 {r : Int64} : r ≤ 0 ↔ r.toInt ≤ 0 := by rw [Int64.le_iff_toInt_le, l0_]
theorem l_0le {r : Int64} : 0 ≤ r ↔ 0 ≤ r.toInt := by rw [Int64.le_iff_toInt_le, l0_]
theorem l_lt0 {r : Int64} : r < 0 ↔ r.toInt < 0 := by rw [Int64.lt_iff_toInt_lt, l0_]
end
section
/-! the component's small methods -/
theorem cl_ {n : Nat} (h : n < 1000) : (nI n).toNatClampNeg = n := nI_clamp (by omega)
theorem in_ {n N : Nat} (h : n < N) (hN : N < 1000 := by omega) : vp_in (nI n) N := vp_in_nI h (by omega)
theorem i3_0 (t : Nat) : (3 : Int32) * nI t = nI (3 * t) := pk_mul 3 t
theorem i3_1 (t : Nat) : (3 : Int32) * nI t + 1 = nI (3 * t + 1) := by rw [i3_0, nI_1]
theorem i3_2 (t : Nat) : (3 : Int32) * nI t + 2 = nI (3 * t + 2) := by
  rw [i3_0]
  exact nI_add (3 * t) 2
theorem i3_3 (t : Nat) : (3 : Int32) * nI t + 3 = nI (3 * t + 3) := by
  rw [i3_0]
  exact nI_add (3 * t) 3
theorem i3_d {e : Nat} (h : e < 1000) : nI e / 3 = nI (e / 3) := pk_div (d := 3) (by omega) (by omega) (by omega)
theorem i_ne24 {a : Nat} (ha : a < 1000) : nI a = 24 ↔ a = 24 := nI_eq (b := 24) (by omega) (by omega)
theorem nI_ne {a b : Nat} (ha : a < 1000) (hb : b < 1000) : nI a = nI b ↔ a = b := nI_eq (by omega) (by omega)
theorem vb1_ : vp_nar .boolean 1 = 1 := rfl
theorem vb0_ : vp_nar .boolean 0 = 0 := rfl
section
variable {f_size f_solid f_edges f_treeEdges : Int32} {a_used a_px a_py a_alive a_corner a_across a_bad a_startsAt a_endsAt a_edgeU a_edgeV a_edgeLen a_treeU a_treeV a_treeLen a_leader a_order a_mark : Nat → Int32} {post : Int32 → Prop} {a b c d : Nat}
theorem xw_turn (ha : a < 24) (hb : b < 24) (hc : c < 24) (h : post (t32_ a_px a_py a b c)) : wpX_turn post (f_size, f_solid, f_edges, f_treeEdges, a_used, a_px, a_py, a_alive, a_corner, a_across, a_bad, a_startsAt, a_endsAt, a_edgeU, a_edgeV, a_edgeLen, a_treeU, a_treeV, a_treeLen, a_leader, a_order, a_mark) (nI a) (nI b) (nI c) := by
  unfold wpX_turn
  dsimp only
  rw [cl_ (n := a) (by omega), cl_ (n := b) (by omega), cl_ (n := c) (by omega)]
  exact ⟨in_ hb, in_ ha, in_ hc, in_ ha, in_ hb, in_ ha, in_ hc, in_ ha, h⟩
theorem xw_dist (ha : a < 24) (hb : b < 24) (h : post (s32_ a_px a_py a b)) : wpX_dist post (f_size, f_solid, f_edges, f_treeEdges, a_used, a_px, a_py, a_alive, a_corner, a_across, a_bad, a_startsAt, a_endsAt, a_edgeU, a_edgeV, a_edgeLen, a_treeU, a_treeV, a_treeLen, a_leader, a_order, a_mark) (nI a) (nI b) := by
  unfold wpX_dist
  dsimp only
  rw [cl_ (n := a) (by omega), cl_ (n := b) (by omega)]
  exact ⟨in_ ha, in_ hb, nm_e ⟨in_ ha, in_ hb, nm_e h⟩⟩
theorem xw_distTo (ha : a < 24) {qx qy : Int32} (h : post (q32_ a_px a_py qx qy a)) : wpX_distTo post (f_size, f_solid, f_edges, f_treeEdges, a_used, a_px, a_py, a_alive, a_corner, a_across, a_bad, a_startsAt, a_endsAt, a_edgeU, a_edgeV, a_edgeLen, a_treeU, a_treeV, a_treeLen, a_leader, a_order, a_mark) (nI a) qx qy := by
  unfold wpX_distTo
  dsimp only
  rw [cl_ (n := a) (by omega)]
  exact ⟨in_ ha, nm_e ⟨in_ ha, nm_e h⟩⟩
theorem xw_between (B : ge_Bd (xi_ a_px) (xi_ a_py)) (ha : a < 24) (hb : b < 24) (hc : c < 24) (h1 : ge_D (xi_ a_px) (xi_ a_py) a b c < 0 → post 1) (h0 : ¬ ge_D (xi_ a_px) (xi_ a_py) a b c < 0 → post 0) : wpX_between post (f_size, f_solid, f_edges, f_treeEdges, a_used, a_px, a_py, a_alive, a_corner, a_across, a_bad, a_startsAt, a_endsAt, a_edgeU, a_edgeV, a_edgeLen, a_treeU, a_treeV, a_treeLen, a_leader, a_order, a_mark) (nI a) (nI b) (nI c) := by
  unfold wpX_between
  dsimp only
  rw [cl_ (n := a) (by omega), cl_ (n := b) (by omega), cl_ (n := c) (by omega)]
  have e := d32_i B ha hb hc
  refine ⟨in_ ha, in_ hc, in_ hb, in_ hc, in_ ha, in_ hc, in_ hb, in_ hc, nm_r (e' := d32_ a_px a_py a b c) rfl (br_c (fun z => h0 ?_) (fun z => h1 ?_))⟩
  · rw [i_0le, e] at z; omega
  · rw [i_0le, e] at z; omega
theorem xw_beyond (B : ge_Bd (xi_ a_px) (xi_ a_py)) (ha : a < 24) (hb : b < 24) (hc : c < 24) (h1 : tr_By (xi_ a_px) (xi_ a_py) a b c → post 1) (h0 : ¬ tr_By (xi_ a_px) (xi_ a_py) a b c → post 0) : wpX_beyond post (f_size, f_solid, f_edges, f_treeEdges, a_used, a_px, a_py, a_alive, a_corner, a_across, a_bad, a_startsAt, a_endsAt, a_edgeU, a_edgeV, a_edgeLen, a_treeU, a_treeV, a_treeLen, a_leader, a_order, a_mark) (nI a) (nI b) (nI c) := by
  unfold wpX_beyond
  dsimp only
  have e := t32_i B ha hb hc
  refine xw_turn ha hb hc (br_c (fun z => ?_) (fun z => ?_))
  · rw [i_eq0, e] at z
    exact xw_between B ha hb hc (fun q => ⟨narrow_b1, h1 (Or.inr ⟨z, q⟩)⟩) (fun q => ⟨narrow_b0, h0 (fun k => by
      unfold tr_By at k
      omega)⟩)
  · rw [i_eq0, e] at z
    refine br_c (fun q => h0 ?_) (fun q => h1 ?_)
    · rw [i_le0, e] at q
      unfold tr_By
      omega
    · rw [i_le0, e] at q
      exact Or.inl (by omega)
theorem xw_inCircle {post : Int64 → Prop} (ha : a < 24) (hb : b < 24) (hc : c < 24) (hd : d < 24) (h : post (c64_ a_px a_py a b c d)) : wpX_inCircle post (f_size, f_solid, f_edges, f_treeEdges, a_used, a_px, a_py, a_alive, a_corner, a_across, a_bad, a_startsAt, a_endsAt, a_edgeU, a_edgeV, a_edgeLen, a_treeU, a_treeV, a_treeLen, a_leader, a_order, a_mark) (nI a) (nI b) (nI c) (nI d) := by
  unfold wpX_inCircle
  dsimp only
  rw [cl_ (n := a) (by omega), cl_ (n := b) (by omega), cl_ (n := c) (by omega), cl_ (n := d) (by omega)]
  exact ⟨in_ ha, in_ hd, nm_e ⟨in_ ha, in_ hd, nm_e ⟨in_ hb, in_ hd, nm_e ⟨in_ hb, in_ hd, nm_e ⟨in_ hc, in_ hd, nm_e ⟨in_ hc, in_ hd, nm_e (nm_e (nm_e (nm_e h)))⟩⟩⟩⟩⟩⟩
theorem xw_conflicts (B : ge_Bd (xi_ a_px) (xi_ a_py)) {t p : Nat} (ht : t < 72) (hp : p < 24) (ea : a_corner (3 * t) = nI a) (eb : a_corner (3 * t + 1) = nI b) (ec : a_corner (3 * t + 2) = nI c)
    (ha : a < 25) (hb : b < 25) (hc : c < 25) (ab : a ≠ b) (bc : b ≠ c) (ac : a ≠ c)
    (h1 : tr_Cf (xi_ a_px) (xi_ a_py) a b c p → post 1) (h0 : ¬ tr_Cf (xi_ a_px) (xi_ a_py) a b c p → post 0) : wpX_conflicts post (f_size, f_solid, f_edges, f_treeEdges, a_used, a_px, a_py, a_alive, a_corner, a_across, a_bad, a_startsAt, a_endsAt, a_edgeU, a_edgeV, a_edgeLen, a_treeU, a_treeV, a_treeLen, a_leader, a_order, a_mark) (nI t) (nI p) := by
  unfold wpX_conflicts
  dsimp only
  rw [i3_0, nI_1, show nI (3 * t) + 2 = nI (3 * t + 2) from nI_add (3 * t) 2, cl_ (n := 3 * t) (by omega), cl_ (n := 3 * t + 1) (by omega), cl_ (n := 3 * t + 2) (by omega), ea, eb, ec]
  refine ⟨in_ (by omega), nm_e ⟨in_ (by omega), nm_e ⟨in_ (by omega), nm_e (br_c (fun z => ?_) (fun z => br_c (fun z2 => ?_) (fun z2 => br_c (fun z3 => ?_) (fun z3 => ?_))))⟩⟩⟩
  · rw [i_ne24 (by omega)] at z
    refine xw_beyond B (by omega) (by omega) hp (fun q => ⟨narrow_b1, h1 (Or.inl ⟨z, q⟩)⟩) (fun q => ⟨narrow_b0, h0 (fun k => ?_)⟩)
    rcases k with k | k | k | k
    · exact q k.2
    · exact k.1 z
    · exact k.1 z
    · exact k.1 z
  · rw [i_ne24 (by omega)] at z z2
    refine xw_beyond B (by omega) (by omega) hp (fun q => ⟨narrow_b1, h1 (Or.inr (Or.inl ⟨z, z2, q⟩))⟩) (fun q => ⟨narrow_b0, h0 (fun k => ?_)⟩)
    rcases k with k | k | k | k
    · exact z k.1
    · exact q k.2.2
    · exact k.2.1 z2
    · exact k.2.1 z2
  · rw [i_ne24 (by omega)] at z z2 z3
    refine xw_beyond B (by omega) (by omega) hp (fun q => ⟨narrow_b1, h1 (Or.inr (Or.inr (Or.inl ⟨z, z2, z3, q⟩)))⟩) (fun q => ⟨narrow_b0, h0 (fun k => ?_)⟩)
    rcases k with k | k | k | k
    · exact z k.1
    · exact z2 k.2.1
    · exact q k.2.2.2
    · exact k.2.2.1 z3
  · rw [i_ne24 (by omega)] at z z2 z3
    have e := (c64_i B (a := a) (b := b) (c := c) (d := p) (by omega) (by omega) (by omega) hp).1
    refine xw_inCircle (by omega) (by omega) (by omega) hp (br_c (fun q => h0 (fun k => ?_)) (fun q => h1 ?_))
    · rw [l_le0, e] at q
      rcases k with k | k | k | k
      · exact z k.1
      · exact z2 k.2.1
      · exact z3 k.2.2.1
      · omega
    · rw [l_le0, e] at q
      exact Or.inr (Or.inr (Or.inr ⟨z, z2, z3, by omega⟩))
end
theorem xw_next {post : Int32 → Prop} {e : Nat} (he : e < 1000) (h : post (nI (nx_ e))) : wpX_next post (nI e) := by
  unfold wpX_next
  have r : nI e - nI e / 3 * 3 = nI (e % 3) := pk_rem (d := 3) (by omega) (by omega) (by omega)
  rw [r]
  unfold nx_ at h
  refine ⟨by decide, br_c (fun z => ?_) (fun z => ?_)⟩
  · have z' : e % 3 = 2 := (nI_eq (b := 2) (by omega) (by omega)).mp z
    rw [if_pos z'] at h
    rw [show nI e - 2 = nI (e - 2) from pk_sub (b := 2) (by omega)]
    exact h
  · have z' : ¬ e % 3 = 2 := fun q => z (by rw [q]; rfl)
    rw [if_neg z'] at h
    rw [nI_1]
    exact h
theorem xw_offGrid {post : Int32 → Prop} {p : Int32} (h1 : ¬ (0 ≤ p.toInt ∧ p.toInt ≤ 127) → post 1) (h0 : (0 ≤ p.toInt ∧ p.toInt ≤ 127) → post 0) : wpX_offGrid post p := by
  unfold wpX_offGrid
  refine br_c (fun z => h1 ?_) (fun z => br_c (fun q => h0 ?_) (fun q => h1 ?_))
  · rw [i_lt0] at z; omega
  · rw [i_lt0] at z
    rw [Int32.le_iff_toInt_le, show (127 : Int32).toInt = 127 by decide] at q
    omega
  · rw [Int32.le_iff_toInt_le, show (127 : Int32).toInt = 127 by decide] at q
    omega
section
variable {f_size f_solid f_edges f_treeEdges : Int32} {a_used a_px a_py a_alive a_corner a_across a_bad a_startsAt a_endsAt a_edgeU a_edgeV a_edgeLen a_treeU a_treeV a_treeLen a_leader a_order a_mark : Nat → Int32} {post : Int32 → Prop}
/-- noPoint: an id that names a point is a number below 24 -/
theorem xw_noPoint {p : Int32} (h1 : (∀ i, i < 24 → p = nI i → a_used i = 0) → post 1) (h0 : ∀ i, i < 24 → p = nI i → ¬ a_used i = 0 → post 0) : wpX_noPoint post (f_size, f_solid, f_edges, f_treeEdges, a_used, a_px, a_py, a_alive, a_corner, a_across, a_bad, a_startsAt, a_endsAt, a_edgeU, a_edgeV, a_edgeLen, a_treeU, a_treeV, a_treeLen, a_leader, a_order, a_mark) p := by
  unfold wpX_noPoint
  dsimp only
  refine br_c (fun z => h1 (fun i hi e => ?_)) (fun z => br_c (fun q => h1 (fun i hi e => ?_)) (fun q => ?_))
  · rw [e] at z
    exact absurd z (nI_pos (by omega))
  · rw [e] at q
    exact absurd q (nI_nlt (a := 23) (b := i) (by omega) (by omega))
  · obtain ⟨i, hi, e⟩ := nI_of2 (M := 23) (n := 23) (by decide) z (Int32.not_lt.mp q)
    subst e
    rw [cl_ (by omega)]
    refine ⟨in_ (by omega), br_c (fun u => h1 (fun j hj e => ?_)) (fun u => h0 i (by omega) rfl u)⟩
    rw [nI_ne (by omega) (by omega)] at e
    rw [← e]; exact u
theorem xw_otherEnd {i a u v : Nat} (hi : i < 80) (eu : a_edgeU i = nI u) (ev : a_edgeV i = nI v) (hu : u < 24) (hv : v < 24) (ha : a < 24)
    (h1 : u = a → post (nI v)) (h2 : u ≠ a → v = a → post (nI u)) (h3 : u ≠ a → v ≠ a → post (-1)) : wpX_otherEnd post (f_size, f_solid, f_edges, f_treeEdges, a_used, a_px, a_py, a_alive, a_corner, a_across, a_bad, a_startsAt, a_endsAt, a_edgeU, a_edgeV, a_edgeLen, a_treeU, a_treeV, a_treeLen, a_leader, a_order, a_mark) (nI i) (nI a) := by
  unfold wpX_otherEnd
  dsimp only
  rw [cl_ (n := i) (by omega), eu, ev]
  refine ⟨in_ hi, br_c (fun z => ⟨in_ hi, ?_⟩) (fun z => ⟨in_ hi, br_c (fun q => ⟨in_ hi, ?_⟩) (fun q => ?_)⟩)⟩
  · rw [nI_ne (by omega) (by omega)] at z
    exact h1 z
  · rw [nI_ne (by omega) (by omega)] at z q
    exact h2 z q
  · rw [nI_ne (by omega) (by omega)] at z q
    exact h3 z q
theorem xw_facing {e c : Nat} (he : e < 216) (hc : a_corner (nx_ (nx_ e)) = nI c) (h : post (nI c)) : wpX_facing post (f_size, f_solid, f_edges, f_treeEdges, a_used, a_px, a_py, a_alive, a_corner, a_across, a_bad, a_startsAt, a_endsAt, a_edgeU, a_edgeV, a_edgeLen, a_treeU, a_treeV, a_treeLen, a_leader, a_order, a_mark) (nI e) := by
  unfold wpX_facing
  dsimp only
  have l1 := nx_lt he
  have l2 := nx_lt l1
  refine xw_next (by omega) (xw_next (by omega) ?_)
  rw [cl_ (by omega), hc]
  exact ⟨in_ l2, h⟩
theorem xw_firstFrom : ∀ n k : Nat, k ≤ 24 → 24 < n + k → (∀ i, k ≤ i → i < 24 → ¬ a_used i = 0 → (∀ j, k ≤ j → j < i → a_used j = 0) → post (nI i)) → ((∀ i, k ≤ i → i < 24 → a_used i = 0) → post (-1)) → wX_firstFrom_2 post f_size f_solid f_edges f_treeEdges a_used a_px a_py a_alive a_corner a_across a_bad a_startsAt a_endsAt a_edgeU a_edgeV a_edgeLen a_treeU a_treeV a_treeLen a_leader a_order a_mark n (nI k) := by
  intro n
  induction n with
  | zero => intro k hk hn; omega
  | succ n ih =>
    intro k hk hn h1 h0
    rw [wX_firstFrom_2]
    refine pk_le 24 k (fun z => h0 (fun i h1 h2 => by omega)) (fun z => ?_)
    rw [cl_ (by omega)]
    refine ⟨in_ (by omega), br_c (fun u => ?_) (fun u => h1 k (by omega) z u (fun j h1 h2 => by omega))⟩
    rw [nI_1]
    refine nm_e (ih (k + 1) (by omega) (by omega) (fun i g1 g2 g3 g4 => h1 i (by omega) g2 g3 (fun j q1 q2 => ?_)) (fun g => h0 (fun i q1 q2 => ?_)))
    · by_cases e : j = k
      · rw [e]; exact u
      · exact g4 j (by omega) q2
    · by_cases e : i = k
      · rw [e]; exact u
      · exact g i (by omega) q2
theorem xw_first {k : Nat} (hk : k ≤ 24) (h1 : ∀ i, k ≤ i → i < 24 → ¬ a_used i = 0 → (∀ j, k ≤ j → j < i → a_used j = 0) → post (nI i)) (h0 : (∀ i, k ≤ i → i < 24 → a_used i = 0) → post (-1)) : wpX_firstFrom post (f_size, f_solid, f_edges, f_treeEdges, a_used, a_px, a_py, a_alive, a_corner, a_across, a_bad, a_startsAt, a_endsAt, a_edgeU, a_edgeV, a_edgeLen, a_treeU, a_treeV, a_treeLen, a_leader, a_order, a_mark) (nI k) := by
  unfold wpX_firstFrom
  exact ⟨25, xw_firstFrom 25 k hk (by omega) h1 h0⟩
end
end
section
/-! the component's fan and closeFan -/
def cn_ (a : Nat → Int32) : Nat → Nat := fun e => (a e).toNatClampNeg
def al_ (a : Nat → Int32) : Nat → Prop := fun t => ¬ a t = 0
def rg_ (a : Nat → Int32) (n m : Nat) : Prop := ∀ e, e < n → a e = nI (cn_ a e) ∧ cn_ a e < m
theorem rg_up {a : Nat → Int32} {n m k v : Nat} (h : rg_ a n m) (hv : v < m) (hm : m < 1000) : rg_ (upd a k (nI v)) n m := by
  intro e he
  unfold cn_
  by_cases z : e = k
  · subst z
    rw [pk_us, cl_ (by omega)]
    exact ⟨rfl, hv⟩
  · rw [pk_un z]
    exact h e he
theorem cn_s {a : Nat → Int32} {k v : Nat} (hv : v < 1000) : cn_ (upd a k (nI v)) k = v := by
  unfold cn_
  rw [pk_us, cl_ hv]
theorem cn_n {a : Nat → Int32} {k e : Nat} {x : Int32} (h : e ≠ k) : cn_ (upd a k x) e = cn_ a e := by
  unfold cn_
  rw [pk_un h]
theorem cn_of {a : Nat → Int32} {e v : Nat} (h : a e = nI v) (hv : v < 1000) : cn_ a e = v := by
  unfold cn_
  rw [h, cl_ hv]
/-- corners of a new triangle -/
def c3_ (a : Nat → Int32) (t : Nat) (p q r : Int32) : Nat → Int32 := upd (upd (upd a (3 * t) p) (3 * t + 1) q) (3 * t + 2) r
theorem c3_0 {a : Nat → Int32} {t : Nat} {p q r : Int32} : c3_ a t p q r (3 * t) = p := by
  unfold c3_
  rw [pk_un (by omega), pk_un (by omega), pk_us]
theorem c3_1 {a : Nat → Int32} {t : Nat} {p q r : Int32} : c3_ a t p q r (3 * t + 1) = q := by
  unfold c3_
  rw [pk_un (by omega), pk_us]
theorem c3_2 {a : Nat → Int32} {t : Nat} {p q r : Int32} : c3_ a t p q r (3 * t + 2) = r := pk_us
theorem c3_n {a : Nat → Int32} {t i : Nat} {p q r : Int32} (h : i / 3 ≠ t) : c3_ a t p q r i = a i := by
  unfold c3_
  rw [pk_un (by omega), pk_un (by omega), pk_un (by omega)]
theorem rg_c3 {a : Nat → Int32} {n m t u v p : Nat} (h : rg_ a n m) (hu : u < m) (hv : v < m) (hp : p < m) (hm : m < 1000) : rg_ (c3_ a t (nI u) (nI v) (nI p)) n m :=
  rg_up (rg_up (rg_up h hu hm) hv hm) hp hm
section
variable {f_size f_solid f_edges f_treeEdges : Int32} {a_used a_px a_py a_alive a_corner a_across a_bad a_startsAt a_endsAt a_edgeU a_edgeV a_edgeLen a_treeU a_treeV a_treeLen a_leader a_order a_mark : Nat → Int32} {post : SX → Prop}
theorem xw_setTri {t : Nat} {p1 p2 p3 : Int32} (ht : t < 72) (h : post (f_size, f_solid, f_edges, f_treeEdges, a_used, a_px, a_py, upd a_alive t 1, c3_ a_corner t p1 p2 p3, a_across, upd a_bad t 0, a_startsAt, a_endsAt, a_edgeU, a_edgeV, a_edgeLen, a_treeU, a_treeV, a_treeLen, a_leader, a_order, a_mark)) : wpX_setTriangle post (f_size, f_solid, f_edges, f_treeEdges, a_used, a_px, a_py, a_alive, a_corner, a_across, a_bad, a_startsAt, a_endsAt, a_edgeU, a_edgeV, a_edgeLen, a_treeU, a_treeV, a_treeLen, a_leader, a_order, a_mark) (nI t) p1 p2 p3 := by
  unfold wpX_setTriangle
  dsimp only
  rw [i3_0, nI_1, show nI (3 * t) + 2 = nI (3 * t + 2) from nI_add (3 * t) 2, cl_ (n := t) (by omega), cl_ (n := 3 * t) (by omega), cl_ (n := 3 * t + 1) (by omega), cl_ (n := 3 * t + 2) (by omega), vb1_, vb0_]
  exact ⟨in_ ht, nm_e ⟨in_ ht, nm_e ⟨in_ (by omega), nm_e ⟨in_ (by omega), nm_e ⟨in_ (by omega), nm_e h⟩⟩⟩⟩⟩
/-- the link back from the neighbour -/
def bk_ (cr ac0 : Nat → Int32) (t u v o : Nat) (ac : Nat → Int32) : Prop :=
  (∀ i, i / 3 = o → cr i = nI v → cr (nx_ i) = nI u → ac i = nI t) ∧ (∀ i, ¬ (i / 3 = o ∧ cr i = nI v ∧ cr (nx_ i) = nI u) → ac i = ac0 i)
theorem xw_fan76 {t u v o : Nat} (ht : t < 72) (hu : u < 25) (hv : v < 25) (ho : o < 72) {ac0 : Nat → Int32}
    (h : ∀ ac, bk_ a_corner ac0 t u v o ac → post (f_size, f_solid, f_edges, f_treeEdges, a_used, a_px, a_py, a_alive, a_corner, ac, a_bad, upd a_startsAt u (nI t), upd a_endsAt v (nI t), a_edgeU, a_edgeV, a_edgeLen, a_treeU, a_treeV, a_treeLen, a_leader, a_order, a_mark)) :
    ∀ n k : Nat, k ≤ 3 → 3 < n + k → ∀ ac : Nat → Int32, (∀ i, i / 3 = o → i < 3 * o + k → a_corner i = nI v → a_corner (nx_ i) = nI u → ac i = nI t) → (∀ i, ¬ (i / 3 = o ∧ i < 3 * o + k ∧ a_corner i = nI v ∧ a_corner (nx_ i) = nI u) → ac i = ac0 i) →
    wX_fan_76 post (nI t) (nI u) (nI v) (nI o) f_size f_solid f_edges f_treeEdges n (nI (3 * o + k)) a_used a_px a_py a_alive a_corner ac a_bad a_startsAt a_endsAt a_edgeU a_edgeV a_edgeLen a_treeU a_treeV a_treeLen a_leader a_order a_mark := by
  intro n
  induction n with
  | zero => intro k hk hn; omega
  | succ n ih =>
    intro k hk hn ac h1 h2
    rw [wX_fan_76]
    rw [i3_3]
    refine pk_le (3 * o + 3) (3 * o + k) (fun z => ?_) (fun z => ?_)
    · rw [cl_ (n := u) (by omega), cl_ (n := v) (by omega)]
      refine ⟨in_ hu, nm_e ⟨in_ hv, nm_e (h ac ⟨fun i i1 i2 i3 => h1 i i1 (by omega) i2 i3, fun i hi => h2 i (fun q => hi ⟨q.1, q.2.2⟩)⟩)⟩⟩
    · have lk : 3 * o + k < 216 := by omega
      have ln := nx_lt lk
      rw [cl_ (n := 3 * o + k) (by omega)]
      refine ⟨in_ lk, br_c (fun z1 => xw_next (by omega) ?_) (fun z1 => ?_)⟩
      · rw [cl_ (n := nx_ (3 * o + k)) (by omega)]
        refine ⟨in_ ln, br_c (fun z2 => ⟨in_ lk, nm_e ?_⟩) (fun z2 => ?_)⟩
        · rw [nI_1]
          refine nm_e (ih (k + 1) (by omega) (by omega) _ (fun i i1 i2 i3 i4 => ?_) (fun i hi => ?_))
          · by_cases e : i = 3 * o + k
            · subst e; exact pk_us
            · rw [pk_un e]; exact h1 i i1 (by omega) i3 i4
          · by_cases e : i = 3 * o + k
            · subst e; exact absurd ⟨by omega, by omega, z1, z2⟩ hi
            · rw [pk_un e]; exact h2 i (fun q => hi ⟨q.1, by omega, q.2.2⟩)
        · rw [nI_1]
          refine nm_e (ih (k + 1) (by omega) (by omega) _ (fun i i1 i2 i3 i4 => ?_) (fun i hi => ?_))
          · by_cases e : i = 3 * o + k
            · subst e; exact absurd i4 z2
            · exact h1 i i1 (by omega) i3 i4
          · exact h2 i (fun q => hi ⟨q.1, by omega, q.2.2⟩)
      · rw [nI_1]
        refine nm_e (ih (k + 1) (by omega) (by omega) _ (fun i i1 i2 i3 i4 => ?_) (fun i hi => ?_))
        · by_cases e : i = 3 * o + k
          · subst e; exact absurd i3 z1
          · exact h1 i i1 (by omega) i3 i4
        · exact h2 i (fun q => hi ⟨q.1, by omega, q.2.2⟩)
theorem xw_fan23 {t e u v o p : Nat} (he : e < 216) (ht : t < 72) (hu : u < 25) (hv : v < 25) (ho : o < 72) (eu : a_corner e = nI u) (ev : a_corner (nx_ e) = nI v) (eo : a_across e = nI o)
    (h : ∀ ac, bk_ (c3_ a_corner t (nI u) (nI v) (nI p)) (upd a_across (3 * t) (nI o)) t u v o ac → post (f_size, f_solid, f_edges, f_treeEdges, a_used, a_px, a_py, upd a_alive t 1, c3_ a_corner t (nI u) (nI v) (nI p), ac, upd a_bad t 0, upd a_startsAt u (nI t), upd a_endsAt v (nI t), a_edgeU, a_edgeV, a_edgeLen, a_treeU, a_treeV, a_treeLen, a_leader, a_order, a_mark)) :
    wX_fan_23 post (nI e) (nI p) (nI t) f_size f_solid f_edges f_treeEdges a_used a_px a_py a_alive a_corner a_across a_bad a_startsAt a_endsAt a_edgeU a_edgeV a_edgeLen a_treeU a_treeV a_treeLen a_leader a_order a_mark := by
  unfold wX_fan_23
  have ln := nx_lt he
  rw [cl_ (n := e) (by omega), eu]
  refine ⟨in_ he, nm_e (xw_next (by omega) ?_)⟩
  rw [cl_ (n := nx_ e) (by omega), ev, eo]
  refine ⟨in_ ln, nm_e ⟨in_ he, nm_e (xw_setTri ht ?_)⟩⟩
  dsimp only
  rw [i3_0, cl_ (n := 3 * t) (by omega)]
  refine ⟨in_ (by omega), nm_e ?_⟩
  rw [i3_0]
  refine nm_e ⟨4, xw_fan76 ht hu hv ho h 4 0 (by omega) (by omega) _ (fun i i1 i2 => by omega) (fun i hi => rfl)⟩
theorem xw_fan {e u v o p : Nat} (he : e < 216) (hu : u < 25) (hv : v < 25) (ho : o < 72) (eu : a_corner e = nI u) (ev : a_corner (nx_ e) = nI v) (eo : a_across e = nI o) (fr : ∃ t, t < 72 ∧ a_alive t = 0)
    (h : ∀ t, t < 72 → a_alive t = 0 → ∀ ac, bk_ (c3_ a_corner t (nI u) (nI v) (nI p)) (upd a_across (3 * t) (nI o)) t u v o ac → post (f_size, f_solid, f_edges, f_treeEdges, a_used, a_px, a_py, upd a_alive t 1, c3_ a_corner t (nI u) (nI v) (nI p), ac, upd a_bad t 0, upd a_startsAt u (nI t), upd a_endsAt v (nI t), a_edgeU, a_edgeV, a_edgeLen, a_treeU, a_treeV, a_treeLen, a_leader, a_order, a_mark)) :
    wpX_fan post (f_size, f_solid, f_edges, f_treeEdges, a_used, a_px, a_py, a_alive, a_corner, a_across, a_bad, a_startsAt, a_endsAt, a_edgeU, a_edgeV, a_edgeLen, a_treeU, a_treeV, a_treeLen, a_leader, a_order, a_mark) (nI e) (nI p) := by
  unfold wpX_fan
  dsimp only
  have L : ∀ n k : Nat, k ≤ 71 → 71 < n + k → (∀ j, j < k → ¬ a_alive j = 0) → wX_fan_2 post (nI e) (nI p) f_size f_solid f_edges f_treeEdges a_used a_px a_py a_alive a_corner a_across a_bad a_startsAt a_endsAt a_edgeU a_edgeV a_edgeLen a_treeU a_treeV a_treeLen a_leader a_order a_mark n (nI k) := by
    intro n
    induction n with
    | zero => intro k hk hn; omega
    | succ n ih =>
      intro k hk hn hj
      rw [wX_fan_2]
      refine pk_le 71 k (fun z => ?_) (fun z => ?_)
      · have kk : k = 71 := by omega
        obtain ⟨t, ht, ft⟩ := fr
        have tt : t = k := by
          by_cases q : t < k
          · exact absurd ft (hj t q)
          · omega
        subst tt
        exact xw_fan23 he ht hu hv ho eu ev eo (h t ht ft)
      · rw [cl_ (n := k) (by omega)]
        refine ⟨in_ (by omega), br_c (fun q => xw_fan23 he (by omega) hu hv ho eu ev eo (h k (by omega) q)) (fun q => ?_)⟩
        rw [nI_1]
        refine nm_e (ih (k + 1) (by omega) (by omega) (fun j hj' => ?_))
        by_cases z2 : j = k
        · subst z2; exact q
        · exact hj j (by omega)
  exact ⟨72, L 72 0 (by omega) (by omega) (fun j hj => by omega)⟩
/-- closeFan over starts and ends that don't meet -/
theorem xw_close {sN eN : Nat → Nat} (hs : ∀ v, v < 25 → 0 ≤ (a_startsAt v).toInt → a_startsAt v = nI (sN v) ∧ sN v < 72) (hE : ∀ v, v < 25 → 0 ≤ (a_endsAt v).toInt → a_endsAt v = nI (eN v) ∧ eN v < 72)
    (is : ∀ v w, v < 25 → w < 25 → 0 ≤ (a_startsAt v).toInt → 0 ≤ (a_startsAt w).toInt → sN v = sN w → v = w) (iE : ∀ v w, v < 25 → w < 25 → 0 ≤ (a_endsAt v).toInt → 0 ≤ (a_endsAt w).toInt → eN v = eN w → v = w)
    (ra : rg_ a_across 216 72) (h : ∀ ac, rg_ ac 216 72 → sl_Close (xi_ a_startsAt) (xi_ a_endsAt) (cn_ a_across) (cn_ ac) 25 → post (f_size, f_solid, f_edges, f_treeEdges, a_used, a_px, a_py, a_alive, a_corner, ac, a_bad, a_startsAt, a_endsAt, a_edgeU, a_edgeV, a_edgeLen, a_treeU, a_treeV, a_treeLen, a_leader, a_order, a_mark)) : wpX_closeFan post (f_size, f_solid, f_edges, f_treeEdges, a_used, a_px, a_py, a_alive, a_corner, a_across, a_bad, a_startsAt, a_endsAt, a_edgeU, a_edgeV, a_edgeLen, a_treeU, a_treeV, a_treeLen, a_leader, a_order, a_mark) := by
  unfold wpX_closeFan
  dsimp only
  have ps : ∀ v, v < 25 → 0 ≤ (a_startsAt v).toInt → (xi_ a_startsAt v).toNat = sN v := by
    intro v hv q
    show (a_startsAt v).toInt.toNat = _
    rw [(hs v hv q).1, nI_toInt (by have := (hs v hv q).2; omega)]
    rfl
  have pe : ∀ v, v < 25 → 0 ≤ (a_endsAt v).toInt → (xi_ a_endsAt v).toNat = eN v := by
    intro v hv q
    show (a_endsAt v).toInt.toNat = _
    rw [(hE v hv q).1, nI_toInt (by have := (hE v hv q).2; omega)]
    rfl
  have L : ∀ n k : Nat, k ≤ 25 → 25 < n + k → ∀ ac, rg_ ac 216 72 → sl_Close (xi_ a_startsAt) (xi_ a_endsAt) (cn_ a_across) (cn_ ac) k → wX_closeFan_2 post f_size f_solid f_edges f_treeEdges n (nI k) a_used a_px a_py a_alive a_corner ac a_bad a_startsAt a_endsAt a_edgeU a_edgeV a_edgeLen a_treeU a_treeV a_treeLen a_leader a_order a_mark := by
    intro n
    induction n with
    | zero => intro k hk hn; omega
    | succ n ih =>
      intro k hk hn ac rc K
      rw [wX_closeFan_2]
      have skip : (0 ≤ (a_startsAt k).toInt → 0 ≤ (a_endsAt k).toInt → False) → sl_Close (xi_ a_startsAt) (xi_ a_endsAt) (cn_ a_across) (cn_ ac) (k + 1) := by
        intro nn
        refine ⟨fun v hv h1 h2 => ?_, fun f hf => K.2 f (fun v hv => hf v (by omega))⟩
        by_cases z : v = k
        · subst z; exact (nn h1 h2).elim
        · exact K.1 v (by omega) h1 h2
      refine pk_le 25 k (fun z => ?_) (fun z => ?_)
      · have kk : k = 25 := by omega
        subst kk
        exact h ac rc K
      · rw [cl_ (n := k) (by omega)]
        refine ⟨in_ (by omega), br_c (fun q => ?_) (fun q => ⟨in_ (by omega), br_c (fun q2 => ?_) (fun q2 => ?_)⟩)⟩
        · rw [nI_1]
          rw [i_lt0] at q
          exact nm_e (ih (k + 1) (by omega) (by omega) ac rc (skip (fun h1 _ => by omega)))
        · rw [nI_1]
          rw [i_lt0] at q2
          exact nm_e (ih (k + 1) (by omega) (by omega) ac rc (skip (fun _ h1 => by omega)))
        · rw [i_lt0] at q q2
          have s1 := hs k (by omega) (by omega)
          have e1 := hE k (by omega) (by omega)
          rw [s1.1, e1.1]
          refine ⟨in_ (by omega), nm_e ⟨in_ (by omega), nm_e ?_⟩⟩
          rw [i3_1, i3_2, cl_ (n := 3 * eN k + 1) (by omega), cl_ (n := 3 * sN k + 2) (by omega), nI_1]
          refine ⟨in_ (by omega), nm_e ⟨in_ (by omega), nm_e (nm_e (ih (k + 1) (by omega) (by omega) _ (rg_up (rg_up rc s1.2 (by omega)) e1.2 (by omega)) ⟨fun v hv h1 h2 => ?_, fun f hf => ?_⟩))⟩⟩
          · have h1' : 0 ≤ (a_startsAt v).toInt := h1
            have h2' : 0 ≤ (a_endsAt v).toInt := h2
            rw [ps v (by omega) h1', pe v (by omega) h2']
            by_cases z1 : v = k
            · subst z1
              refine ⟨?_, ?_⟩
              · rw [cn_n (by omega), cn_s (by omega)]
              · rw [cn_s (by omega)]
            · have old := K.1 v (by omega) h1 h2
              rw [ps v (by omega) h1', pe v (by omega) h2'] at old
              have n1 : eN v ≠ eN k := fun z2 => z1 (iE v k (by omega) (by omega) h2' (by omega) z2)
              have n2 : sN v ≠ sN k := fun z2 => z1 (is v k (by omega) (by omega) h1' (by omega) z2)
              rw [cn_n (by omega), cn_n (by omega), cn_n (by omega), cn_n (by omega)]
              exact old
          · have := hf k (by omega) (show 0 ≤ xi_ a_startsAt k by show 0 ≤ (a_startsAt k).toInt; omega) (show 0 ≤ xi_ a_endsAt k by show 0 ≤ (a_endsAt k).toInt; omega)
            rw [ps k (by omega) (by omega), pe k (by omega) (by omega)] at this
            rw [cn_n this.2, cn_n this.1]
            exact K.2 f (fun v hv => hf v (by omega))
  exact ⟨26, L 26 0 (by omega) (by omega) a_across ra ⟨fun v hv => by omega, fun f _ => rfl⟩⟩
end
end
section
/-! the component's insert -/
/-- the arrays hold a triangulation of the points U -/
def tx_Ok (a_px a_py a_alive a_corner a_across : Nat → Int32) (U : Nat → Prop) : Prop :=
  tr_Ok (xi_ a_px) (xi_ a_py) U (al_ a_alive) (cn_ a_corner) (cn_ a_across) ∧ rg_ a_corner 216 25 ∧ rg_ a_across 216 72
section
variable {f_size f_solid f_edges f_treeEdges : Int32} {a_used a_px a_py a_alive a_corner a_across a_bad a_startsAt a_endsAt a_edgeU a_edgeV a_edgeLen a_treeU a_treeV a_treeLen a_leader a_order a_mark : Nat → Int32} {post : SX → Prop}
theorem xw_ins130 {bd : Nat → Prop} (hb : ∀ t, t < 72 → (¬ a_bad t = 0 ↔ bd t))
    (h : ∀ av, (∀ t, t < 72 → (¬ av t = 0 ↔ ¬ a_alive t = 0 ∧ ¬ bd t)) → wpX_closeFan post (f_size, f_solid, f_edges, f_treeEdges, a_used, a_px, a_py, av, a_corner, a_across, a_bad, a_startsAt, a_endsAt, a_edgeU, a_edgeV, a_edgeLen, a_treeU, a_treeV, a_treeLen, a_leader, a_order, a_mark)) :
    ∀ n k : Nat, k ≤ 72 → 72 < n + k → ∀ av : Nat → Int32, (∀ t, t < k → (¬ av t = 0 ↔ ¬ a_alive t = 0 ∧ ¬ bd t)) → (∀ t, k ≤ t → av t = a_alive t) → wX_insert_130 post f_size f_solid f_edges f_treeEdges n (nI k) a_used a_px a_py av a_corner a_across a_bad a_startsAt a_endsAt a_edgeU a_edgeV a_edgeLen a_treeU a_treeV a_treeLen a_leader a_order a_mark := by
  intro n
  induction n with
  | zero => intro k hk hn; omega
  | succ n ih =>
    intro k hk hn av h1 h2
    rw [wX_insert_130]
    refine pk_le 72 k (fun z => ?_) (fun z => ?_)
    · exact h av (fun t ht => h1 t (by omega))
    · rw [cl_ (n := k) (by omega)]
      refine ⟨in_ (by omega), br_c (fun q => ?_) (fun q => ⟨in_ (by omega), ?_⟩)⟩
      · rw [nI_1]
        have nb : ¬ bd k := fun z2 => (hb k (by omega)).mpr z2 q
        refine nm_e (ih (k + 1) (by omega) (by omega) av (fun t ht => ?_) (fun t ht => h2 t (by omega)))
        by_cases e : t = k
        · subst e
          rw [h2 t (by omega)]
          exact ⟨fun g => ⟨g, nb⟩, fun g => g.1⟩
        · exact h1 t (by omega)
      · rw [vb0_, nI_1]
        have nb : bd k := (hb k (by omega)).mp q
        refine nm_e (nm_e (ih (k + 1) (by omega) (by omega) _ (fun t ht => ?_) (fun t ht => ?_)))
        · by_cases e : t = k
          · subst e
            rw [pk_us]
            exact ⟨fun g => absurd rfl g, fun g => absurd nb g.2⟩
          · rw [pk_un e]; exact h1 t (by omega)
        · rw [pk_un (by omega)]; exact h2 t (by omega)
theorem xw_ins45 {p : Int32} (h : ∀ sv ev, (∀ v, v < 25 → sv v = -1) → (∀ v, v < 25 → ev v = -1) → ∃ n, wX_insert_73 post p n 0 f_size f_solid f_edges f_treeEdges a_used a_px a_py a_alive a_corner a_across a_bad sv ev a_edgeU a_edgeV a_edgeLen a_treeU a_treeV a_treeLen a_leader a_order a_mark) :
    ∀ n k : Nat, k ≤ 25 → 25 < n + k → ∀ sv ev : Nat → Int32, (∀ v, v < k → sv v = -1) → (∀ v, v < k → ev v = -1) → wX_insert_45 post p f_size f_solid f_edges f_treeEdges n (nI k) a_used a_px a_py a_alive a_corner a_across a_bad sv ev a_edgeU a_edgeV a_edgeLen a_treeU a_treeV a_treeLen a_leader a_order a_mark := by
  intro n
  induction n with
  | zero => intro k hk hn; omega
  | succ n ih =>
    intro k hk hn sv ev h1 h2
    rw [wX_insert_45]
    refine pk_le 25 k (fun z => h sv ev (fun v hv => h1 v (by omega)) (fun v hv => h2 v (by omega))) (fun z => ?_)
    rw [cl_ (n := k) (by omega), nI_1]
    refine ⟨in_ (by omega), nm_e ⟨in_ (by omega), nm_e (nm_e (ih (k + 1) (by omega) (by omega) _ _ (fun v hv => ?_) (fun v hv => ?_)))⟩⟩
    · by_cases e : v = k
      · subst e; exact pk_us
      · rw [pk_un e]; exact h1 v (by omega)
    · by_cases e : v = k
      · subst e; exact pk_us
      · rw [pk_un e]; exact h2 v (by omega)
theorem xw_ins2 {p : Nat} (hp : p < 24) (B : ge_Bd (xi_ a_px) (xi_ a_py)) (rc : rg_ a_corner 216 25) (dc : ∀ t, t < 72 → ¬ a_alive t = 0 → cn_ a_corner (3 * t) ≠ cn_ a_corner (3 * t + 1) ∧ cn_ a_corner (3 * t + 1) ≠ cn_ a_corner (3 * t + 2) ∧ cn_ a_corner (3 * t) ≠ cn_ a_corner (3 * t + 2))
    (h : ∀ bv, (∀ t, t < 72 → (¬ bv t = 0 ↔ ¬ a_alive t = 0 ∧ tr_Cf (xi_ a_px) (xi_ a_py) (cn_ a_corner (3 * t)) (cn_ a_corner (3 * t + 1)) (cn_ a_corner (3 * t + 2)) p)) → ∃ n, wX_insert_45 post (nI p) f_size f_solid f_edges f_treeEdges n 0 a_used a_px a_py a_alive a_corner a_across bv a_startsAt a_endsAt a_edgeU a_edgeV a_edgeLen a_treeU a_treeV a_treeLen a_leader a_order a_mark) :
    ∀ n k : Nat, k ≤ 72 → 72 < n + k → ∀ bv : Nat → Int32, (∀ t, t < k → (¬ bv t = 0 ↔ ¬ a_alive t = 0 ∧ tr_Cf (xi_ a_px) (xi_ a_py) (cn_ a_corner (3 * t)) (cn_ a_corner (3 * t + 1)) (cn_ a_corner (3 * t + 2)) p)) → wX_insert_2 post (nI p) f_size f_solid f_edges f_treeEdges n (nI k) a_used a_px a_py a_alive a_corner a_across bv a_startsAt a_endsAt a_edgeU a_edgeV a_edgeLen a_treeU a_treeV a_treeLen a_leader a_order a_mark := by
  intro n
  induction n with
  | zero => intro k hk hn; omega
  | succ n ih =>
    intro k hk hn bv h1
    rw [wX_insert_2]
    refine pk_le 72 k (fun z => h bv (fun t ht => h1 t (by omega))) (fun z => ?_)
    have r0 := rc (3 * k) (by omega)
    have r1 := rc (3 * k + 1) (by omega)
    have r2 := rc (3 * k + 2) (by omega)
    rw [cl_ (n := k) (by omega)]
    refine ⟨in_ (by omega), br_c (fun q => ⟨in_ (by omega), ?_⟩) (fun q => ?_)⟩
    · rw [vb0_, nI_1]
      refine nm_e (nm_e (ih (k + 1) (by omega) (by omega) _ (fun t ht => ?_)))
      by_cases e : t = k
      · subst e
        rw [pk_us]
        exact ⟨fun g => absurd rfl g, fun g => absurd q g.1⟩
      · rw [pk_un e]; exact h1 t (by omega)
    · have d := dc k (by omega) q
      refine xw_conflicts B (by omega) hp r0.1 r1.1 r2.1 r0.2 r1.2 r2.2 d.1 d.2.1 d.2.2 (fun c => br_f (by decide) ⟨in_ (by omega), ?_⟩) (fun c => br_t rfl ⟨in_ (by omega), ?_⟩)
      · rw [vb1_, nI_1]
        refine nm_e (nm_e (ih (k + 1) (by omega) (by omega) _ (fun t ht => ?_)))
        by_cases e : t = k
        · subst e
          rw [pk_us]
          exact ⟨fun _ => ⟨q, c⟩, fun _ => by decide⟩
        · rw [pk_un e]; exact h1 t (by omega)
      · rw [vb0_, nI_1]
        refine nm_e (nm_e (ih (k + 1) (by omega) (by omega) _ (fun t ht => ?_)))
        by_cases e : t = k
        · subst e
          rw [pk_us]
          exact ⟨fun g => absurd rfl g, fun g => absurd g.2 c⟩
        · rw [pk_un e]; exact h1 t (by omega)
/-- the fan loop -/
theorem xw_ins73 {p : Nat} (hp : p < 24) {al bad : Nat → Prop} {C A : Nat → Nat} {F1 F2 cf : Nat → Nat → Nat → Prop} (O : sl_Ok al C A F1) (H : sl_Hy F1 F2 cf p) (B : sl_Bad al bad C cf) (cnt : fc_n al 72 ≤ 48)
    (h : ∀ av cv cr bv sv ev, (∃ τ, sl_Mid al bad C A p 216 (al_ av) (cn_ cv) (cn_ cr) (xi_ sv) (xi_ ev) τ) → rg_ cv 216 25 → rg_ cr 216 72 → (∀ t, t < 72 → (¬ bv t = 0 ↔ bad t)) →
      ∃ n, wX_insert_130 post f_size f_solid f_edges f_treeEdges n 0 a_used a_px a_py av cv cr bv sv ev a_edgeU a_edgeV a_edgeLen a_treeU a_treeV a_treeLen a_leader a_order a_mark) :
    ∀ n k : Nat, k ≤ 216 → 216 < n + k → ∀ av cv cr bv sv ev : Nat → Int32, (∃ τ, sl_Mid al bad C A p k (al_ av) (cn_ cv) (cn_ cr) (xi_ sv) (xi_ ev) τ) → rg_ cv 216 25 → rg_ cr 216 72 → (∀ t, t < 72 → (¬ bv t = 0 ↔ bad t)) →
      wX_insert_73 post (nI p) n (nI k) f_size f_solid f_edges f_treeEdges a_used a_px a_py av cv cr bv sv ev a_edgeU a_edgeV a_edgeLen a_treeU a_treeV a_treeLen a_leader a_order a_mark := by
  intro n
  induction n with
  | zero => intro k hk hn; omega
  | succ n ih =>
    intro k hk hn av cv cr bv sv ev ⟨τ, M⟩ rc ra hb
    rw [wX_insert_73]
    refine pk_le 216 k (fun z => ?_) (fun z => ?_)
    · have kk : k = 216 := by omega
      subst kk
      exact h av cv cr bv sv ev ⟨τ, M⟩ rc ra hb
    rw [i3_d (by omega)]
    refine ⟨by decide, nm_e ?_⟩
    rw [cl_ (n := k / 3) (by omega), cl_ (n := k) (by omega)]
    have M' := M
    obtain ⟨m1, m2, m3, m4, m5, m6, m7, m8, m9⟩ := M
    have k3 : k / 3 < 72 := by omega
    refine ⟨in_ k3, br_c (fun q => ?_) (fun q => ⟨in_ k3, br_c (fun q2 => ?_) (fun q2 => ?_)⟩)⟩
    · rw [nI_1]
      refine nm_e (ih (k + 1) (by omega) (by omega) _ _ _ _ _ _ ⟨τ, sl_skip M' (fun R => ?_)⟩ rc ra hb)
      exact (m3 _ k3).mpr (Or.inl R.2.1) q
    · rw [nI_1]
      refine nm_e (ih (k + 1) (by omega) (by omega) _ _ _ _ _ _ ⟨τ, sl_skip M' (fun R => ?_)⟩ rc ra hb)
      exact (hb _ k3).mpr R.2.2.1 q2
    · have bk := (hb _ k3).mp q2
      have ak := ((B _ k3).mp bk).1
      have eA : cn_ cr k = A k := (m6 k z ak).2 (fun e R _ w => R.2.2.2 (by rw [← w.1]; exact bk))
      have rk := ra k z
      rw [eA] at rk
      rw [rk.1, cl_ (n := A k) (by omega)]
      refine ⟨in_ z, in_ rk.2, br_c (fun q3 => ?_) (fun q3 => ?_)⟩
      · have R : sl_Rim al bad A k := ⟨z, ak, bk, fun w => (hb _ rk.2).mpr w q3⟩
        have ln := nx_lt z
        have eC1 : cn_ cv k = C k := m4 k z ak
        have eC2 : cn_ cv (nx_ k) = C (nx_ k) := m4 _ ln (by rw [nx_div]; exact ak)
        have c1 := rc k z
        have c2 := rc _ ln
        rw [eC1] at c1
        rw [eC2] at c2
        obtain ⟨t0, ht0, ft0⟩ := sl_free O H B M' R (by omega) cnt
        refine xw_fan (u := C k) (v := C (nx_ k)) (o := A k) z c1.2 c2.2 rk.2 c1.1 c2.1 rk.1 ⟨t0, ht0, ?_⟩ (fun t ht ft ac hk2 => ?_)
        · by_cases w : av t0 = 0
          · exact w
          · exact absurd w ft0
        · dsimp only
          rw [nI_1]
          have nat : ¬ al_ av t := fun w => w ft
          have aA := (O.2.2.2 k z ak).2.1
          have nt : A k ≠ t := fun w => nat ((m3 t ht).mpr (Or.inl (w ▸ aA)))
          have rc2 := rg_c3 (t := t) rc c1.2 c2.2 (show p < 25 by omega) (by omega)
          have rac : rg_ ac 216 72 := by
            intro i hi
            by_cases w : i / 3 = A k ∧ c3_ cv t (nI (C k)) (nI (C (nx_ k))) (nI p) i = nI (C (nx_ k)) ∧ c3_ cv t (nI (C k)) (nI (C (nx_ k))) (nI p) (nx_ i) = nI (C k)
            · have e := hk2.1 i w.1 w.2.1 w.2.2
              rw [cn_of e (by omega), e]
              exact ⟨rfl, ht⟩
            · have e := hk2.2 i w
              have g := rg_up (k := 3 * t) ra rk.2 (by omega) i hi
              unfold cn_ at g ⊢
              rw [e]
              exact g
          refine nm_e (ih (k + 1) (by omega) (by omega) _ _ _ _ _ _ ⟨_, sl_step O H B M' R ht nat ?_ ?_ ?_ ?_ ?_ ?_ ?_ ?_ ?_ ?_⟩ rc2 rac ?_)
          · intro i hi
            unfold al_
            by_cases w : i = t
            · subst w
              rw [pk_us]
              exact ⟨fun _ => Or.inr rfl, fun _ => by decide⟩
            · rw [pk_un w]
              exact ⟨fun g => Or.inl g, fun g => g.resolve_right w⟩
          · exact cn_of c3_0 (by omega)
          · exact cn_of c3_1 (by omega)
          · exact cn_of c3_2 (by omega)
          · intro i hi
            unfold cn_
            rw [c3_n hi]
          · refine cn_of ?_ (by omega)
            rw [hk2.2 (3 * t) (fun w => nt (by omega))]
            exact pk_us
          · intro i hi i1 i2 i3
            refine cn_of (hk2.1 i i1 ?_ ?_) (by omega)
            · rw [(rc2 i hi).1, i2]
            · rw [(rc2 _ (nx_lt hi)).1, i3]
          · intro i hi i1 i2
            unfold cn_
            rw [hk2.2 i (fun w => i2 ⟨w.1, cn_of w.2.1 (by omega), cn_of w.2.2 (by omega)⟩), pk_un (by omega)]
          · intro v hv
            unfold xi_
            by_cases w : v = C k
            · subst w
              rw [pk_us, if_pos rfl, nI_toInt (by omega)]
            · rw [pk_un w, if_neg w]
          · intro v hv
            unfold xi_
            by_cases w : v = C (nx_ k)
            · subst w
              rw [pk_us, if_pos rfl, nI_toInt (by omega)]
            · rw [pk_un w, if_neg w]
          · intro i hi
            by_cases w : i = t
            · subst w
              rw [pk_us]
              exact ⟨fun g => absurd rfl g, fun g => absurd ((m3 i hi).mpr (Or.inl ((B i hi).mp g).1)) nat⟩
            · rw [pk_un w]; exact hb i hi
      · rw [nI_1]
        refine nm_e (ih (k + 1) (by omega) (by omega) _ _ _ _ _ _ ⟨τ, sl_skip M' (fun R => ?_)⟩ rc ra hb)
        exact R.2.2.2 ((hb _ rk.2).mp q3)
theorem xw_insert {p : Nat} {U : Nat → Prop} (T : tx_Ok a_px a_py a_alive a_corner a_across U) (hp : p < 24) (np : ¬ U p) (ap : ∀ i, U i → xi_ a_px i ≠ xi_ a_px p ∨ xi_ a_py i ≠ xi_ a_py p)
    (h : ∀ av cv cr bv sv ev, tx_Ok a_px a_py av cv cr (fun d => U d ∨ d = p) → post (f_size, f_solid, f_edges, f_treeEdges, a_used, a_px, a_py, av, cv, cr, bv, sv, ev, a_edgeU, a_edgeV, a_edgeLen, a_treeU, a_treeV, a_treeLen, a_leader, a_order, a_mark)) : wpX_insert post (f_size, f_solid, f_edges, f_treeEdges, a_used, a_px, a_py, a_alive, a_corner, a_across, a_bad, a_startsAt, a_endsAt, a_edgeU, a_edgeV, a_edgeLen, a_treeU, a_treeV, a_treeLen, a_leader, a_order, a_mark) (nI p) := by
  obtain ⟨T, rc, ra⟩ := T
  have cnt := tr_cnt T
  have Bd : ge_Bd (xi_ a_px) (xi_ a_py) := by
    obtain ⟨w, W, s1, s2, s3, P, _⟩ := T
    exact P.1
  obtain ⟨F1, F2, cf, O, H, hcf, hend⟩ := tr_ins T hp np ap
  have ds : ∀ a b c, F1 a b c → a ≠ b ∧ b ≠ c ∧ a ≠ c := by
    obtain ⟨w, W, s1, s2, s3, P, O'⟩ := T
    intro a b c F
    obtain ⟨e, he, ea, e1, e2, e3⟩ := O.2.1 a b c F
    have := O'.1 e he ea
    rw [e1, e2, e3] at this
    exact ⟨this.2.2.2.1, this.2.2.2.2.1, this.2.2.2.2.2.1⟩
  have F3 : ∀ t, t < 72 → ¬ a_alive t = 0 → F1 (cn_ a_corner (3 * t)) (cn_ a_corner (3 * t + 1)) (cn_ a_corner (3 * t + 2)) := by
    intro t ht at'
    have := O.1 (3 * t) (by omega) (by rw [show 3 * t / 3 = t by omega]; exact at')
    rw [nx_0, nx_1] at this
    exact this
  unfold wpX_insert
  dsimp only
  refine ⟨73, xw_ins2 hp Bd rc (fun t ht at' => ds _ _ _ (F3 t ht at')) (fun bv hbv => ?_) 73 0 (by omega) (by omega) a_bad (fun t ht => by omega)⟩
  have B : sl_Bad (al_ a_alive) (fun t => ¬ bv t = 0) (cn_ a_corner) cf := by
    intro t ht
    dsimp only
    rw [hbv t ht]
    constructor
    · intro g
      exact ⟨g.1, (hcf _ _ _ (F3 t ht g.1)).mpr g.2⟩
    · intro g
      exact ⟨g.1, (hcf _ _ _ (F3 t ht g.1)).mp g.2⟩
  refine ⟨26, xw_ins45 (fun sv ev hsv hev => ?_) 26 0 (by omega) (by omega) a_startsAt a_endsAt (fun v hv => by omega) (fun v hv => by omega)⟩
  have M0 : sl_Mid (al_ a_alive) (fun t => ¬ bv t = 0) (cn_ a_corner) (cn_ a_across) p 0 (al_ a_alive) (cn_ a_corner) (cn_ a_across) (xi_ sv) (xi_ ev) (fun _ => 0) := by
    refine sl_start O (fun v hv => ?_) (fun v hv => ?_)
    · show (sv v).toInt = -1
      rw [hsv v hv]; decide
    · show (ev v).toInt = -1
      rw [hev v hv]; decide
  refine ⟨217, xw_ins73 hp O H B cnt (fun av cv cr bv2 sv ev hM rcv rcr hb2 => ?_) 217 0 (by omega) (by omega) _ _ _ _ _ _ ⟨_, M0⟩ rc ra (fun t ht => Iff.rfl)⟩
  obtain ⟨τ, M⟩ := hM
  have J := sl_inj O H B M
  have mm := M.1
  have m2 := M.2.1
  refine ⟨73, xw_ins130 hb2 (fun av2 hav2 => ?_) 73 0 (by omega) (by omega) av (fun t ht => by omega) (fun _ _ => rfl)⟩
  have vs : ∀ v, v < 25 → 0 ≤ (sv v).toInt → sv v = nI (cn_ sv v) ∧ cn_ sv v < 72 ∧ ∃ e, sl_Rim (al_ a_alive) (fun t => ¬ bv t = 0) (cn_ a_across) e ∧ cn_ a_corner e = v ∧ cn_ sv v = τ e := by
    intro v hv hh
    obtain ⟨e, R, e1, e2⟩ := J.1 v hv hh
    have l := (mm e R R.1).1
    have e3 : sv v = nI (τ e) := by
      apply Int32.toInt_inj.mp
      rw [nI_toInt (by omega)]
      exact e2
    have e4 : cn_ sv v = τ e := cn_of e3 (by omega)
    exact ⟨by rw [e4]; exact e3, by rw [e4]; exact l, e, R, e1, e4⟩
  have ve : ∀ v, v < 25 → 0 ≤ (ev v).toInt → ev v = nI (cn_ ev v) ∧ cn_ ev v < 72 ∧ ∃ e, sl_Rim (al_ a_alive) (fun t => ¬ bv t = 0) (cn_ a_across) e ∧ cn_ a_corner (nx_ e) = v ∧ cn_ ev v = τ e := by
    intro v hv hh
    obtain ⟨e, R, e1, e2⟩ := J.2 v hv hh
    have l := (mm e R R.1).1
    have e3 : ev v = nI (τ e) := by
      apply Int32.toInt_inj.mp
      rw [nI_toInt (by omega)]
      exact e2
    have e4 : cn_ ev v = τ e := cn_of e3 (by omega)
    exact ⟨by rw [e4]; exact e3, by rw [e4]; exact l, e, R, e1, e4⟩
  refine xw_close (sN := cn_ sv) (eN := cn_ ev) (fun v hv hh => ⟨(vs v hv hh).1, (vs v hv hh).2.1⟩) (fun v hv hh => ⟨(ve v hv hh).1, (ve v hv hh).2.1⟩) ?_ ?_ rcr (fun ac rac K => ?_)
  · intro v w hv hw h1 h2 e
    obtain ⟨_, _, e1, R1, f1, g1⟩ := vs v hv h1
    obtain ⟨_, _, e2, R2, f2, g2⟩ := vs w hw h2
    have := m2 e1 e2 R1 R2 R1.1 R2.1 (by rw [← g1, ← g2]; exact e)
    rw [← f1, ← f2, this]
  · intro v w hv hw h1 h2 e
    obtain ⟨_, _, e1, R1, f1, g1⟩ := ve v hv h1
    obtain ⟨_, _, e2, R2, f2, g2⟩ := ve w hw h2
    have := m2 e1 e2 R1 R2 R1.1 R2.1 (by rw [← g1, ← g2]; exact e)
    rw [← f1, ← f2, this]
  · exact h _ _ _ _ _ _ ⟨hend _ _ _ (sl_end O H B M K hav2), rcv, rac⟩
end
end
section
/-! the component's seed and build -/
def us_ (a_used : Nat → Int32) : Nat → Prop := fun i => i < 24 ∧ ¬ a_used i = 0
def co_ (x y : Nat → Int) (U : Nat → Prop) : Prop := ∀ a b c, U a → U b → U c → ge_T x y a b c = 0
theorem tx_cgU {a_px a_py a_alive a_corner a_across : Nat → Int32} {U V : Nat → Prop} (h : ∀ i, U i ↔ V i) (T : tx_Ok a_px a_py a_alive a_corner a_across U) : tx_Ok a_px a_py a_alive a_corner a_across V :=
  ⟨tr_cgU h T.1, T.2⟩
section
variable {f_size f_solid f_edges f_treeEdges : Int32} {a_used a_px a_py a_alive a_corner a_across a_bad a_startsAt a_endsAt a_edgeU a_edgeV a_edgeLen a_treeU a_treeV a_treeLen a_leader a_order a_mark : Nat → Int32} {post : SX → Prop}
theorem xw_link {t : Nat} {p1 p2 p3 : Int32} (ht : t < 72) (h : post (f_size, f_solid, f_edges, f_treeEdges, a_used, a_px, a_py, a_alive, a_corner, c3_ a_across t p1 p2 p3, a_bad, a_startsAt, a_endsAt, a_edgeU, a_edgeV, a_edgeLen, a_treeU, a_treeV, a_treeLen, a_leader, a_order, a_mark)) : wpX_linkAll post (f_size, f_solid, f_edges, f_treeEdges, a_used, a_px, a_py, a_alive, a_corner, a_across, a_bad, a_startsAt, a_endsAt, a_edgeU, a_edgeV, a_edgeLen, a_treeU, a_treeV, a_treeLen, a_leader, a_order, a_mark) (nI t) p1 p2 p3 := by
  unfold wpX_linkAll
  dsimp only
  rw [i3_0, nI_1, show nI (3 * t) + 2 = nI (3 * t + 2) from nI_add (3 * t) 2, cl_ (n := 3 * t) (by omega), cl_ (n := 3 * t + 1) (by omega), cl_ (n := 3 * t + 2) (by omega)]
  exact ⟨in_ (by omega), nm_e ⟨in_ (by omega), nm_e ⟨in_ (by omega), nm_e h⟩⟩⟩
theorem xw_seed22 {a b c : Nat} (Bd : ge_Bd (xi_ a_px) (xi_ a_py)) (ha : a < 24) (hb : b < 24) (hc : c < 24) (t : 0 < ge_T (xi_ a_px) (xi_ a_py) a b c) (dead : ∀ i, i < 72 → a_alive i = 0) (rc : rg_ a_corner 216 25) (ra : rg_ a_across 216 72)
    (h : ∀ av cv cr bv, tx_Ok a_px a_py av cv cr (fun d => d = a ∨ d = b ∨ d = c) → post (f_size, 1, f_edges, f_treeEdges, a_used, a_px, a_py, av, cv, cr, bv, a_startsAt, a_endsAt, a_edgeU, a_edgeV, a_edgeLen, a_treeU, a_treeV, a_treeLen, a_leader, a_order, a_mark)) : wX_seed_22 post (nI a) (nI b) (nI c) f_size f_solid f_edges f_treeEdges a_used a_px a_py a_alive a_corner a_across a_bad a_startsAt a_endsAt a_edgeU a_edgeV a_edgeLen a_treeU a_treeV a_treeLen a_leader a_order a_mark := by
  unfold wX_seed_22
  refine xw_setTri (t := 0) (by omega) ?_
  dsimp only
  refine xw_setTri (t := 1) (by omega) ?_
  dsimp only
  refine xw_setTri (t := 2) (by omega) ?_
  dsimp only
  refine xw_setTri (t := 3) (by omega) ?_
  dsimp only
  refine xw_link (t := 0) (by omega) ?_
  dsimp only
  refine xw_link (t := 1) (by omega) ?_
  dsimp only
  refine xw_link (t := 2) (by omega) ?_
  dsimp only
  refine xw_link (t := 3) (by omega) ?_
  dsimp only
  refine h _ _ _ _ ⟨?_, ?_, ?_⟩
  · refine tr_seed Bd ha hb hc t (fun i hi => ?_) ?_ ?_ ?_ ?_ ?_ ?_ ?_ ?_ ?_ ?_ ?_ ?_ ?_ ?_ ?_ ?_ ?_ ?_ ?_ ?_ ?_ ?_ ?_ ?_
    · unfold al_
      by_cases e3 : i = 3
      · subst e3; rw [pk_us]; exact ⟨fun _ => by omega, fun _ => by decide⟩
      rw [pk_un e3]
      by_cases e2 : i = 2
      · subst e2; rw [pk_us]; exact ⟨fun _ => by omega, fun _ => by decide⟩
      rw [pk_un e2]
      by_cases e1 : i = 1
      · subst e1; rw [pk_us]; exact ⟨fun _ => by omega, fun _ => by decide⟩
      rw [pk_un e1]
      by_cases e0 : i = 0
      · subst e0; rw [pk_us]; exact ⟨fun _ => by omega, fun _ => by decide⟩
      rw [pk_un e0]
      exact ⟨fun g => absurd (dead i hi) g, fun g => by omega⟩
    · exact cn_of (by rw [c3_n (by decide), c3_n (by decide), c3_n (by decide)]; exact c3_0 (t := 0)) (by omega)
    · exact cn_of (by rw [c3_n (by decide), c3_n (by decide), c3_n (by decide)]; exact c3_1 (t := 0)) (by omega)
    · exact cn_of (by rw [c3_n (by decide), c3_n (by decide), c3_n (by decide)]; exact c3_2 (t := 0)) (by omega)
    · exact cn_of (by rw [c3_n (by decide), c3_n (by decide)]; exact c3_0 (t := 1)) (by omega)
    · exact cn_of (by rw [c3_n (by decide), c3_n (by decide)]; exact c3_1 (t := 1)) (by omega)
    · exact cn_of (v := 24) (by rw [c3_n (by decide), c3_n (by decide)]; exact c3_2 (t := 1)) (by omega)
    · exact cn_of (by rw [c3_n (by decide)]; exact c3_0 (t := 2)) (by omega)
    · exact cn_of (by rw [c3_n (by decide)]; exact c3_1 (t := 2)) (by omega)
    · exact cn_of (v := 24) (by rw [c3_n (by decide)]; exact c3_2 (t := 2)) (by omega)
    · exact cn_of (c3_0 (t := 3)) (by omega)
    · exact cn_of (c3_1 (t := 3)) (by omega)
    · exact cn_of (v := 24) (c3_2 (t := 3)) (by omega)
    · exact cn_of (v := 1) (by rw [c3_n (by decide), c3_n (by decide), c3_n (by decide)]; exact c3_0 (t := 0)) (by omega)
    · exact cn_of (v := 2) (by rw [c3_n (by decide), c3_n (by decide), c3_n (by decide)]; exact c3_1 (t := 0)) (by omega)
    · exact cn_of (v := 3) (by rw [c3_n (by decide), c3_n (by decide), c3_n (by decide)]; exact c3_2 (t := 0)) (by omega)
    · exact cn_of (v := 0) (by rw [c3_n (by decide), c3_n (by decide)]; exact c3_0 (t := 1)) (by omega)
    · exact cn_of (v := 3) (by rw [c3_n (by decide), c3_n (by decide)]; exact c3_1 (t := 1)) (by omega)
    · exact cn_of (v := 2) (by rw [c3_n (by decide), c3_n (by decide)]; exact c3_2 (t := 1)) (by omega)
    · exact cn_of (v := 0) (by rw [c3_n (by decide)]; exact c3_0 (t := 2)) (by omega)
    · exact cn_of (v := 1) (by rw [c3_n (by decide)]; exact c3_1 (t := 2)) (by omega)
    · exact cn_of (v := 3) (by rw [c3_n (by decide)]; exact c3_2 (t := 2)) (by omega)
    · exact cn_of (v := 0) (c3_0 (t := 3)) (by omega)
    · exact cn_of (v := 2) (c3_1 (t := 3)) (by omega)
    · exact cn_of (v := 1) (c3_2 (t := 3)) (by omega)
  · exact rg_c3 (u := a) (v := c) (p := 24) (rg_c3 (u := c) (v := b) (p := 24) (rg_c3 (u := b) (v := a) (p := 24) (rg_c3 (u := a) (v := b) (p := c) rc (by omega) (by omega) (by omega) (by omega)) (by omega) (by omega) (by omega) (by omega)) (by omega) (by omega) (by omega) (by omega)) (by omega) (by omega) (by omega) (by omega)
  · exact rg_c3 (u := 0) (v := 2) (p := 1) (rg_c3 (u := 0) (v := 1) (p := 3) (rg_c3 (u := 0) (v := 3) (p := 2) (rg_c3 (u := 1) (v := 2) (p := 3) ra (by omega) (by omega) (by omega) (by omega)) (by omega) (by omega) (by omega) (by omega)) (by omega) (by omega) (by omega) (by omega)) (by omega) (by omega) (by omega) (by omega)
theorem xw_seed {a b c : Nat} (Bd : ge_Bd (xi_ a_px) (xi_ a_py)) (ha : a < 24) (hb : b < 24) (hc : c < 24) (t : ge_T (xi_ a_px) (xi_ a_py) a b c ≠ 0) (dead : ∀ i, i < 72 → a_alive i = 0) (rc : rg_ a_corner 216 25) (ra : rg_ a_across 216 72)
    (h : ∀ av cv cr bv, tx_Ok a_px a_py av cv cr (fun d => d = a ∨ d = b ∨ d = c) → post (f_size, 1, f_edges, f_treeEdges, a_used, a_px, a_py, av, cv, cr, bv, a_startsAt, a_endsAt, a_edgeU, a_edgeV, a_edgeLen, a_treeU, a_treeV, a_treeLen, a_leader, a_order, a_mark)) : wpX_seed post (f_size, f_solid, f_edges, f_treeEdges, a_used, a_px, a_py, a_alive, a_corner, a_across, a_bad, a_startsAt, a_endsAt, a_edgeU, a_edgeV, a_edgeLen, a_treeU, a_treeV, a_treeLen, a_leader, a_order, a_mark) (nI a) (nI b) (nI c) := by
  unfold wpX_seed
  dsimp only
  have e := t32_i Bd ha hb hc
  refine xw_turn ha hb hc (br_c (fun z => ?_) (fun z => ?_))
  · rw [i_0le, e] at z
    exact xw_seed22 Bd ha hb hc (by omega) dead rc ra h
  · rw [i_0le, e] at z
    refine xw_seed22 Bd ha hc hb (by rw [ge_T23]; omega) dead rc ra (fun av cv cr bv T => h av cv cr bv (tx_cgU (fun i => ?_) T))
    omega
/-- the points one by one -/
theorem xw_b111 {a b c : Nat} (ha : a < 24) (hb : b < 24) (hc : c < 24) (ua : ¬ a_used a = 0) (ub : ¬ a_used b = 0) (uc : ¬ a_used c = 0) (N : ge_Ne (xi_ a_px) (xi_ a_py) (us_ a_used))
    (h : ∀ av cv cr bv sv ev, tx_Ok a_px a_py av cv cr (us_ a_used) → post (f_size, 1, f_edges, f_treeEdges, a_used, a_px, a_py, av, cv, cr, bv, sv, ev, a_edgeU, a_edgeV, a_edgeLen, a_treeU, a_treeV, a_treeLen, a_leader, a_order, a_mark)) :
    ∀ n k : Nat, k ≤ 24 → 24 < n + k → ∀ av cv cr bv sv ev, tx_Ok a_px a_py av cv cr (fun d => (d = a ∨ d = b ∨ d = c) ∨ (d < k ∧ us_ a_used d)) →
      wX_build_111 post (nI a) (nI b) (nI c) n (nI k) f_size 1 f_edges f_treeEdges a_used a_px a_py av cv cr bv sv ev a_edgeU a_edgeV a_edgeLen a_treeU a_treeV a_treeLen a_leader a_order a_mark := by
  intro n
  induction n with
  | zero => intro k hk hn; omega
  | succ n ih =>
    intro k hk hn av cv cr bv sv ev T
    rw [wX_build_111]
    refine pk_le 24 k (fun z => ?_) (fun z => ?_)
    · refine h av cv cr bv sv ev (tx_cgU (fun i => ?_) T)
      constructor
      · rintro ((q | q | q) | q)
        · rw [q]; exact ⟨ha, ua⟩
        · rw [q]; exact ⟨hb, ub⟩
        · rw [q]; exact ⟨hc, uc⟩
        · exact q.2
      · intro q
        have := q.1
        exact Or.inr ⟨by omega, q⟩
    · have skip : (¬ a_used k = 0 → k = a ∨ k = b ∨ k = c) → wX_build_111 post (nI a) (nI b) (nI c) n (nI (k + 1)) f_size 1 f_edges f_treeEdges a_used a_px a_py av cv cr bv sv ev a_edgeU a_edgeV a_edgeLen a_treeU a_treeV a_treeLen a_leader a_order a_mark := by
        intro s
        refine ih (k + 1) (by omega) (by omega) _ _ _ _ _ _ (tx_cgU (fun i => ?_) T)
        constructor
        · rintro (q | q)
          · exact Or.inl q
          · exact Or.inr ⟨by omega, q.2⟩
        · rintro (q | q)
          · exact Or.inl q
          · by_cases e : i = k
            · subst e; exact Or.inl (s q.2.2)
            · exact Or.inr ⟨by omega, q.2⟩
      rw [cl_ (n := k) (by omega), nI_1]
      refine ⟨in_ (by omega), br_c (fun q => nm_e (skip (fun g => absurd q g))) (fun q => br_c (fun q1 => nm_e (skip (fun _ => ?_))) (fun q1 => br_c (fun q2 => nm_e (skip (fun _ => ?_))) (fun q2 => br_c (fun q3 => nm_e (skip (fun _ => ?_))) (fun q3 => ?_))))⟩
      · rw [nI_ne (by omega) (by omega)] at q1; omega
      · rw [nI_ne (by omega) (by omega)] at q2; omega
      · rw [nI_ne (by omega) (by omega)] at q3; omega
      · rw [nI_ne (by omega) (by omega)] at q1 q2 q3
        refine xw_insert T (by omega) (fun g => by omega) (fun i g => ?_) (fun av cv cr bv sv ev T2 => ?_)
        · refine N i k ?_ ⟨by omega, q⟩ (fun e => by omega)
          rcases g with (g | g | g) | g
          · rw [g]; exact ⟨ha, ua⟩
          · rw [g]; exact ⟨hb, ub⟩
          · rw [g]; exact ⟨hc, uc⟩
          · exact g.2
        · dsimp only
          refine nm_e (ih (k + 1) (by omega) (by omega) _ _ _ _ _ _ (tx_cgU (fun i => ?_) T2))
          constructor
          · rintro ((g | g) | g)
            · exact Or.inl g
            · exact Or.inr ⟨by omega, g.2⟩
            · subst g; exact Or.inr ⟨by omega, by omega, q⟩
          · rintro (g | g)
            · exact Or.inl (Or.inl g)
            · by_cases e : i = k
              · exact Or.inr e
              · exact Or.inl (Or.inr ⟨by omega, g.2⟩)
theorem xw_b96 {a b c : Nat} (Bd : ge_Bd (xi_ a_px) (xi_ a_py)) (ha : a < 24) (hb : b < 24) (hc : c < 24) (ua : ¬ a_used a = 0) (ub : ¬ a_used b = 0) (uc : ¬ a_used c = 0) (N : ge_Ne (xi_ a_px) (xi_ a_py) (us_ a_used))
    (t : ge_T (xi_ a_px) (xi_ a_py) a b c ≠ 0) (dead : ∀ i, i < 72 → a_alive i = 0) (rc : rg_ a_corner 216 25) (ra : rg_ a_across 216 72)
    (h : ∀ av cv cr bv sv ev, tx_Ok a_px a_py av cv cr (us_ a_used) → post (f_size, 1, f_edges, f_treeEdges, a_used, a_px, a_py, av, cv, cr, bv, sv, ev, a_edgeU, a_edgeV, a_edgeLen, a_treeU, a_treeV, a_treeLen, a_leader, a_order, a_mark)) : wX_build_96 post (nI a) (nI b) (nI c) f_size f_solid f_edges f_treeEdges a_used a_px a_py a_alive a_corner a_across a_bad a_startsAt a_endsAt a_edgeU a_edgeV a_edgeLen a_treeU a_treeV a_treeLen a_leader a_order a_mark := by
  unfold wX_build_96
  refine br_t (nI_pos' (by omega)) (xw_seed Bd ha hb hc t dead rc ra (fun av cv cr bv T => ?_))
  dsimp only
  refine ⟨25, xw_b111 ha hb hc ua ub uc N h 25 0 (by omega) (by omega) _ _ _ _ _ _ (tx_cgU (fun i => ?_) T)⟩
  constructor
  · exact fun g => Or.inl g
  · rintro (g | g)
    · exact g
    · omega
theorem xw_b61 {a b : Nat} (Bd : ge_Bd (xi_ a_px) (xi_ a_py)) (ha : a < 24) (hb : b < 24) (ab : a < b) (ua : ¬ a_used a = 0) (ub : ¬ a_used b = 0) (N : ge_Ne (xi_ a_px) (xi_ a_py) (us_ a_used))
    (first : ∀ i, us_ a_used i → i = a ∨ i = b ∨ b < i) (dead : ∀ i, i < 72 → a_alive i = 0) (rc : rg_ a_corner 216 25) (ra : rg_ a_across 216 72)
    (h1 : ∀ av cv cr bv sv ev, tx_Ok a_px a_py av cv cr (us_ a_used) → post (f_size, 1, f_edges, f_treeEdges, a_used, a_px, a_py, av, cv, cr, bv, sv, ev, a_edgeU, a_edgeV, a_edgeLen, a_treeU, a_treeV, a_treeLen, a_leader, a_order, a_mark))
    (h0 : co_ (xi_ a_px) (xi_ a_py) (us_ a_used) → post (f_size, f_solid, f_edges, f_treeEdges, a_used, a_px, a_py, a_alive, a_corner, a_across, a_bad, a_startsAt, a_endsAt, a_edgeU, a_edgeV, a_edgeLen, a_treeU, a_treeV, a_treeLen, a_leader, a_order, a_mark)) :
    ∀ n k : Nat, k ≤ 24 → 24 < n + k → ∀ r : Int32, ((r = -1 ∧ ∀ i, us_ a_used i → b < i → ge_T (xi_ a_px) (xi_ a_py) a b i = 0) ∨ ∃ c, r = nI c ∧ c < 24 ∧ b < c ∧ k < c ∧ ¬ a_used c = 0 ∧ ∀ i, us_ a_used i → b < i → i < c → ge_T (xi_ a_px) (xi_ a_py) a b i = 0) →
      wX_build_61 post (nI a) (nI b) f_size f_solid f_edges f_treeEdges a_used a_px a_py a_alive a_corner a_across a_bad a_startsAt a_endsAt a_edgeU a_edgeV a_edgeLen a_treeU a_treeV a_treeLen a_leader a_order a_mark n r (nI k) := by
  intro n
  induction n with
  | zero => intro k hk hn; omega
  | succ n ih =>
    intro k hk hn r hr
    rw [wX_build_61]
    rcases hr with ⟨hr, hc⟩ | ⟨c, hr, lc, bc, kc, uc, hc⟩
    · subst hr
      have fin : wX_build_96 post (nI a) (nI b) (-1) f_size f_solid f_edges f_treeEdges a_used a_px a_py a_alive a_corner a_across a_bad a_startsAt a_endsAt a_edgeU a_edgeV a_edgeLen a_treeU a_treeV a_treeLen a_leader a_order a_mark := by
        unfold wX_build_96
        refine br_f (by decide) (h0 ?_)
        have onl : ∀ i, us_ a_used i → ge_T (xi_ a_px) (xi_ a_py) a b i = 0 := by
          intro i ui
          rcases first i ui with z | z | z
          · rw [z]; exact ge_Tz3 _ _ _ _
          · rw [z]; exact ge_Tz2 _ _ _ _
          · exact hc i ui z
        intro p q s up uq us
        exact ge_col3 (N a b ⟨ha, ua⟩ ⟨hb, ub⟩ (by omega)) (onl p up) (onl q uq) (onl s us)
      exact br_c (fun _ => fin) (fun _ => br_t (by decide) fin)
    · subst hr
      refine pk_le 24 k (fun z => by omega) (fun z => br_f (nI_pos (by omega)) (xw_turn ha hb lc (br_c (fun q => ?_) (fun q => ?_))))
      · rw [i_eq0, t32_i Bd ha hb lc] at q
        rw [nI_1, nI_1]
        refine xw_first (by omega) (fun i i1 i2 i3 i4 => nm_e (ih (k + 1) (by omega) (by omega) (nI i) (Or.inr ⟨i, rfl, i2, by omega, by omega, i3, fun j uj j1 j2 => ?_⟩))) (fun g => nm_e (ih (k + 1) (by omega) (by omega) (-1) (Or.inl ⟨rfl, fun j uj j1 => ?_⟩)))
        · by_cases e : j < c
          · exact hc j uj j1 e
          · by_cases e2 : j = c
            · rw [e2]; exact q
            · exact absurd (i4 j (by omega) j2) uj.2
        · by_cases e : j < c
          · exact hc j uj j1 e
          · by_cases e2 : j = c
            · rw [e2]; exact q
            · exact absurd (g j (by omega) uj.1) uj.2
      · rw [i_eq0, t32_i Bd ha hb lc] at q
        exact xw_b96 Bd ha hb lc ua ub uc N q dead rc ra h1
theorem xw_build (Bd : ge_Bd (xi_ a_px) (xi_ a_py)) (N : ge_Ne (xi_ a_px) (xi_ a_py) (us_ a_used)) (rc : rg_ a_corner 216 25) (ra : rg_ a_across 216 72)
    (h1 : ∀ av cv cr bv sv ev, tx_Ok a_px a_py av cv cr (us_ a_used) → post (f_size, 1, f_edges, f_treeEdges, a_used, a_px, a_py, av, cv, cr, bv, sv, ev, a_edgeU, a_edgeV, a_edgeLen, a_treeU, a_treeV, a_treeLen, a_leader, a_order, a_mark))
    (h0 : ∀ av, co_ (xi_ a_px) (xi_ a_py) (us_ a_used) → post (f_size, 0, f_edges, f_treeEdges, a_used, a_px, a_py, av, a_corner, a_across, a_bad, a_startsAt, a_endsAt, a_edgeU, a_edgeV, a_edgeLen, a_treeU, a_treeV, a_treeLen, a_leader, a_order, a_mark)) : wpX_build post (f_size, f_solid, f_edges, f_treeEdges, a_used, a_px, a_py, a_alive, a_corner, a_across, a_bad, a_startsAt, a_endsAt, a_edgeU, a_edgeV, a_edgeLen, a_treeU, a_treeV, a_treeLen, a_leader, a_order, a_mark) := by
  unfold wpX_build
  dsimp only
  have L : ∀ n k : Nat, k ≤ 72 → 72 < n + k → ∀ av : Nat → Int32, (∀ t, t < k → av t = 0) → wX_build_7 post f_size 0 f_edges f_treeEdges n (nI k) a_used a_px a_py av a_corner a_across a_bad a_startsAt a_endsAt a_edgeU a_edgeV a_edgeLen a_treeU a_treeV a_treeLen a_leader a_order a_mark := by
    intro n
    induction n with
    | zero => intro k hk hn; omega
    | succ n ih =>
      intro k hk hn av hav
      rw [wX_build_7]
      refine pk_le 72 k (fun z => ?_) (fun z => ?_)
      · refine xw_first (k := 0) (by omega) (fun a _ a2 a3 a4 => br_t (nI_pos' (by omega)) ?_) (fun g => br_f (by decide) (h0 av (fun p q s up uq us => absurd (g p (by omega) up.1) up.2)))
        rw [nI_1]
        refine xw_first (k := a + 1) (by omega) (fun b b1 b2 b3 b4 => br_t (nI_pos' (by omega)) ?_) (fun g => br_f (by decide) (h0 av ?_))
        · rw [nI_1]
          have fst : ∀ i, us_ a_used i → i = a ∨ i = b ∨ b < i := by
            intro i ui
            by_cases e1 : i < a
            · exact absurd (a4 i (by omega) e1) ui.2
            by_cases e2 : i = a
            · exact Or.inl e2
            by_cases e3 : i < b
            · exact absurd (b4 i (by omega) e3) ui.2
            · omega
          refine xw_first (k := b + 1) (by omega) (fun c c1 c2 c3 c4 => ?_) (fun g => ?_)
          · exact ⟨25, xw_b61 Bd a2 b2 (by omega) a3 b3 N fst (fun i hi => hav i (by omega)) rc ra h1 (h0 av) 25 0 (by omega) (by omega) (nI c) (Or.inr ⟨c, rfl, c2, by omega, by omega, c3, fun i ui i1 i2 => absurd (c4 i (by omega) i2) ui.2⟩)⟩
          · exact ⟨25, xw_b61 Bd a2 b2 (by omega) a3 b3 N fst (fun i hi => hav i (by omega)) rc ra h1 (h0 av) 25 0 (by omega) (by omega) (-1) (Or.inl ⟨rfl, fun i ui i1 => absurd (g i (by omega) ui.1) ui.2⟩)⟩
        · have one : ∀ i, us_ a_used i → i = a := by
            intro i ui
            by_cases e1 : i < a
            · exact absurd (a4 i (by omega) e1) ui.2
            by_cases e2 : i = a
            · exact e2
            · exact absurd (g i (by omega) ui.1) ui.2
          intro p q s up uq us
          rw [one p up, one q uq]
          exact ge_Tz1 _ _ _ _
      · rw [cl_ (n := k) (by omega), vb0_, nI_1]
        refine ⟨in_ z, nm_e (nm_e (ih (k + 1) (by omega) (by omega) _ (fun t ht => ?_)))⟩
        by_cases e : t = k
        · subst e; exact pk_us
        · rw [pk_un e]; exact hav t (by omega)
  exact ⟨73, L 73 0 (by omega) (by omega) a_alive (fun t ht => by omega)⟩
end
end
section
/-! groups by leaders; the shortest tree -/
def ms_mg (r : Nat → Nat) (a b : Nat) : Nat → Nat := fun i => if r i = max (r a) (r b) then min (r a) (r b) else r i
def ms_r (u v : Nat → Nat) : Nat → Nat → Nat
  | 0 => fun i => i
  | k + 1 => ms_mg (ms_r u v k) (u k) (v k)
def rt_ (r : Nat → Nat) : Prop := ∀ i, r i ≤ i ∧ r (r i) = r i
/-- every labelling that is constant along pairs within the limit -/
def ms_R (x y : Nat → Int) (U : Nat → Prop) (L : Int) (i j : Nat) : Prop := ∀ f : Nat → Nat, (∀ a b, U a → U b → ge_S x y a b ≤ L → f a = f b) → f i = f j
def ed_Ok (x y : Nat → Int) (U : Nat → Prop) (m : Nat) (eU eV : Nat → Nat) (eL : Nat → Int) : Prop :=
  (∀ i, i < m → U (eU i) ∧ U (eV i) ∧ eU i ≠ eV i ∧ eL i = ge_S x y (eU i) (eV i)) ∧ (∀ i j, i ≤ j → j < m → eL i ≤ eL j) ∧
  (∀ a b, U a → U b → a ≠ b → ln_K x y U a b → ∃ i, i < m ∧ ((eU i = a ∧ eV i = b) ∨ (eU i = b ∧ eV i = a)))
def ms_Ok (x y : Nat → Int) (U : Nat → Prop) (k : Nat) (tU tV : Nat → Nat) (tL : Nat → Int) : Prop :=
  (∀ j, j < k → U (tU j) ∧ U (tV j) ∧ tL j = ge_S x y (tU j) (tV j) ∧ ms_r tU tV j (tU j) ≠ ms_r tU tV j (tV j)) ∧ (∀ i j, i ≤ j → j < k → tL i ≤ tL j) ∧
  (∀ k' L, k' ≤ k → (∀ j, j < k' → tL j ≤ L) → (∀ l, k' ≤ l → l < k → L < tL l) → ∀ a b, U a → U b → (ms_r tU tV k' a = ms_r tU tV k' b ↔ ms_R x y U L a b))
theorem mg_same {r : Nat → Nat} {a b : Nat} (h : r a = r b) (i : Nat) : ms_mg r a b i = r i := by
  unfold ms_mg
  split
  · omega
  · rfl
theorem mg_rt {r : Nat → Nat} (h : rt_ r) (a b : Nat) : rt_ (ms_mg r a b) := by
  intro i
  have hi := h i
  have ha := h a
  have hb := h b
  have h1 : ms_mg r a b i = r i ∨ (r i = max (r a) (r b) ∧ ms_mg r a b i = min (r a) (r b)) := by
    unfold ms_mg
    split
    · next z => exact Or.inr ⟨z, rfl⟩
    · exact Or.inl rfl
  rcases h1 with e | ⟨e1, e⟩
  · refine ⟨by omega, ?_⟩
    rw [e]
    unfold ms_mg
    rw [hi.2]
    unfold ms_mg at e
    exact e
  · refine ⟨by omega, ?_⟩
    rw [e]
    have lo : r (min (r a) (r b)) = min (r a) (r b) := by
      by_cases z : r a ≤ r b
      · rw [Nat.min_eq_left z]; exact ha.2
      · rw [Nat.min_eq_right (by omega)]; exact hb.2
    unfold ms_mg
    rw [lo]
    split <;> omega
theorem mr_rt (u v : Nat → Nat) : ∀ k, rt_ (ms_r u v k) := by
  intro k
  induction k with
  | zero => exact fun i => ⟨Nat.le_refl i, rfl⟩
  | succ k ih => exact mg_rt ih _ _
theorem mr_cg {u v u' v' : Nat → Nat} : ∀ k, (∀ j, j < k → u' j = u j) → (∀ j, j < k → v' j = v j) → ms_r u' v' k = ms_r u v k := by
  intro k
  induction k with
  | zero => intro _ _; rfl
  | succ k ih =>
    intro h1 h2
    show ms_mg (ms_r u' v' k) (u' k) (v' k) = ms_mg (ms_r u v k) (u k) (v k)
    rw [ih (fun j hj => h1 j (by omega)) (fun j hj => h2 j (by omega)), h1 k (by omega), h2 k (by omega)]
theorem mg_eq {r : Nat → Nat} {a b i j : Nat} (h : r i = r j) : ms_mg r a b i = ms_mg r a b j := by
  unfold ms_mg
  rw [h]
theorem mg_ab {r : Nat → Nat} {a b : Nat} : ms_mg r a b a = ms_mg r a b b := by
  unfold ms_mg
  split <;> split <;> omega
/-- closed sets of names, roots -/
theorem mr_cl {u v : Nat → Nat} {V : Nat → Prop} : ∀ k, (∀ j, j < k → V (u j) ∧ V (v j)) → ∀ i, V i → V (ms_r u v k i) := by
  intro k
  induction k with
  | zero => exact fun _ i h => h
  | succ k ih =>
    intro h i vi
    have ih' := ih (fun j hj => h j (by omega))
    show V (ms_mg (ms_r u v k) (u k) (v k) i)
    unfold ms_mg
    split
    · by_cases z : ms_r u v k (u k) ≤ ms_r u v k (v k)
      · rw [Nat.min_eq_left z]; exact ih' _ (h k (by omega)).1
      · rw [Nat.min_eq_right (by omega)]; exact ih' _ (h k (by omega)).2
    · exact ih' i vi
theorem mr_cnt {u v : Nat → Nat} {V : Nat → Prop} (hV : ∀ i, V i → i < 24) : ∀ k, (∀ j, j < k → V (u j) ∧ V (v j) ∧ ms_r u v j (u j) ≠ ms_r u v j (v j)) →
    fc_n (fun i => V i ∧ ms_r u v k i = i) 24 + k = fc_n V 24 := by
  intro k
  induction k with
  | zero =>
    intro _
    rw [fc_c (P := fun i => V i ∧ ms_r u v 0 i = i) (Q := V) 24 (fun i hi => ⟨fun z => z.1, fun z => ⟨z, rfl⟩⟩)]
    omega
  | succ k ih =>
    intro h
    have e := ih (fun j hj => h j (by omega))
    have hk := h k (by omega)
    have rt := mr_rt u v k
    have cl := mr_cl (V := V) k (fun j hj => ⟨(h j (by omega)).1, (h j (by omega)).2.1⟩)
    have ca := cl _ hk.1
    have cb := cl _ hk.2.1
    have ra := rt (u k)
    have rb := rt (v k)
    have vm : V (max (ms_r u v k (u k)) (ms_r u v k (v k))) ∧ ms_r u v k (max (ms_r u v k (u k)) (ms_r u v k (v k))) = max (ms_r u v k (u k)) (ms_r u v k (v k)) := by
      by_cases z : ms_r u v k (u k) ≤ ms_r u v k (v k)
      · rw [Nat.max_eq_right z]; exact ⟨cb, rb.2⟩
      · rw [Nat.max_eq_left (by omega)]; exact ⟨ca, ra.2⟩
    have lo : ms_r u v k (min (ms_r u v k (u k)) (ms_r u v k (v k))) = min (ms_r u v k (u k)) (ms_r u v k (v k)) := by
      by_cases z : ms_r u v k (u k) ≤ ms_r u v k (v k)
      · rw [Nat.min_eq_left z]; exact ra.2
      · rw [Nat.min_eq_right (by omega)]; exact rb.2
    have := fc_out (P := fun i => V i ∧ ms_r u v k i = i) (k := max (ms_r u v k (u k)) (ms_r u v k (v k))) vm 24 (hV _ vm.1)
    rw [fc_c (P := fun i => V i ∧ ms_r u v (k + 1) i = i) (Q := fun i => (V i ∧ ms_r u v k i = i) ∧ i ≠ max (ms_r u v k (u k)) (ms_r u v k (v k))) 24]
    · omega
    · intro i hi
      have d : ms_r u v (k + 1) i = ms_mg (ms_r u v k) (u k) (v k) i := rfl
      rw [d]
      unfold ms_mg
      have mm : min (ms_r u v k (u k)) (ms_r u v k (v k)) ≠ max (ms_r u v k (u k)) (ms_r u v k (v k)) := by omega
      constructor
      · intro ⟨vi, g⟩
        split at g
        · next z =>
          exfalso
          rw [← g, lo] at z
          exact mm z
        · next z => exact ⟨⟨vi, g⟩, fun q => z (by rw [g]; exact q)⟩
      · intro ⟨⟨vi, g⟩, q⟩
        rw [if_neg (by rw [g]; exact q)]
        exact ⟨vi, g⟩
section
variable {x y : Nat → Int} {U : Nat → Prop}
theorem mr_mono {L L' : Int} (h : L ≤ L') {i j : Nat} (R : ms_R x y U L i j) : ms_R x y U L' i j := fun f hf => R f (fun a b ua ub s => hf a b ua ub (by omega))
theorem mr_tr {L : Int} {i j k : Nat} (R1 : ms_R x y U L i j) (R2 : ms_R x y U L j k) : ms_R x y U L i k := fun f hf => (R1 f hf).trans (R2 f hf)
theorem mr_sy {L : Int} {i j : Nat} (R : ms_R x y U L i j) : ms_R x y U L j i := fun f hf => (R f hf).symm
theorem mr_e {L : Int} {i j : Nat} (ui : U i) (uj : U j) (h : ge_S x y i j ≤ L) : ms_R x y U L i j := fun f hf => hf i j ui uj h
theorem mr_to {L : Int} {u v : Nat → Nat} : ∀ k, (∀ j, j < k → U (u j) ∧ U (v j) ∧ ge_S x y (u j) (v j) ≤ L) → ∀ i, ms_R x y U L (ms_r u v k i) i := by
  intro k
  induction k with
  | zero => exact fun _ i f _ => rfl
  | succ k ih =>
    intro h i f hf
    have ih' := ih (fun j hj => h j (by omega))
    have e1 := ih' (u k) f hf
    have e2 := ih' (v k) f hf
    have e3 := ih' i f hf
    have e4 := hf _ _ (h k (by omega)).1 (h k (by omega)).2.1 (h k (by omega)).2.2
    show f (ms_mg (ms_r u v k) (u k) (v k) i) = f i
    unfold ms_mg
    split
    · next z =>
      by_cases q : ms_r u v k (u k) ≤ ms_r u v k (v k)
      · rw [Nat.min_eq_left q]
        rw [Nat.max_eq_right q] at z
        rw [z] at e3
        omega
      · rw [Nat.min_eq_right (by omega)]
        rw [Nat.max_eq_left (by omega)] at z
        rw [z] at e3
        omega
    · exact e3
/-- the picking loop -/
def ms_I (x y : Nat → Int) (U : Nat → Prop) (eU eV : Nat → Nat) (eL : Nat → Int) (i k : Nat) (tU tV : Nat → Nat) (tL : Nat → Int) : Prop :=
  (∀ j, j < k → U (tU j) ∧ U (tV j) ∧ tL j = ge_S x y (tU j) (tV j) ∧ ms_r tU tV j (tU j) ≠ ms_r tU tV j (tV j)) ∧ (∀ i j, i ≤ j → j < k → tL i ≤ tL j) ∧
  (∀ j, j < k → ∃ i', i' < i ∧ tL j = eL i') ∧
  (∀ j, j < i → ∀ k', k' ≤ k → (∀ l, k' ≤ l → l < k → eL j < tL l) → ms_r tU tV k' (eU j) = ms_r tU tV k' (eV j))
theorem ms_0 {eU eV : Nat → Nat} {eL : Nat → Int} {tU tV : Nat → Nat} {tL : Nat → Int} : ms_I x y U eU eV eL 0 0 tU tV tL :=
  ⟨fun j h => by omega, fun i j _ h => by omega, fun j h => by omega, fun j h => by omega⟩
theorem ms_room {eU eV : Nat → Nat} {eL : Nat → Int} {i k : Nat} {tU tV : Nat → Nat} {tL : Nat → Int} (hU : ∀ i, U i → i < 24) (I : ms_I x y U eU eV eL i k tU tV tL) : k ≤ 23 := by
  have c := mr_cnt (u := tU) (v := tV) (V := fun i => i < 24) (fun i h => h) k (fun j hj => ⟨hU _ (I.1 j hj).1, hU _ (I.1 j hj).2.1, (I.1 j hj).2.2.2⟩)
  rw [fc_c (P := fun i => i < 24) (Q := fun _ => True) 24 (fun i hi => ⟨fun _ => trivial, fun _ => hi⟩), fc_all] at c
  have r0 : ms_r tU tV k 0 = 0 := by
    have := (mr_rt tU tV k 0).1
    omega
  have := fc_out (P := fun i => i < 24 ∧ ms_r tU tV k i = i) (k := 0) ⟨by omega, r0⟩ 24 (by omega)
  omega
theorem ms_skip {eU eV : Nat → Nat} {eL : Nat → Int} {i k m : Nat} {tU tV : Nat → Nat} {tL : Nat → Int} (hs : ∀ i j, i ≤ j → j < m → eL i ≤ eL j) (hi : i < m) (I : ms_I x y U eU eV eL i k tU tV tL)
    (e : ms_r tU tV k (eU i) = ms_r tU tV k (eV i)) : ms_I x y U eU eV eL (i + 1) k tU tV tL := by
  obtain ⟨i1, i2, i3, i4⟩ := I
  refine ⟨i1, i2, fun j hj => ?_, fun j hj k' hk' h => ?_⟩
  · obtain ⟨i', h1, h2⟩ := i3 j hj
    exact ⟨i', by omega, h2⟩
  · by_cases z : j = i
    · subst z
      by_cases q : k' = k
      · rw [q]; exact e
      · exfalso
        have h1 := h k' (Nat.le_refl _) (by omega)
        obtain ⟨i', h2, h3⟩ := i3 k' (by omega)
        have h4 := hs i' j (by omega) hi
        omega
    · exact i4 j (by omega) k' hk' h
theorem ms_take {eU eV : Nat → Nat} {eL : Nat → Int} {i k m : Nat} {tU tV tU' tV' : Nat → Nat} {tL tL' : Nat → Int} (hs : ∀ i j, i ≤ j → j < m → eL i ≤ eL j) (hi : i < m) (I : ms_I x y U eU eV eL i k tU tV tL)
    (he : U (eU i) ∧ U (eV i) ∧ eL i = ge_S x y (eU i) (eV i)) (n : ms_r tU tV k (eU i) ≠ ms_r tU tV k (eV i))
    (u1 : ∀ j, j < k → tU' j = tU j) (u2 : tU' k = eU i) (v1 : ∀ j, j < k → tV' j = tV j) (v2 : tV' k = eV i) (l1 : ∀ j, j < k → tL' j = tL j) (l2 : tL' k = eL i) :
    ms_I x y U eU eV eL (i + 1) (k + 1) tU' tV' tL' := by
  obtain ⟨i1, i2, i3, i4⟩ := I
  have cg : ∀ j, j ≤ k → ms_r tU' tV' j = ms_r tU tV j := fun j hj => mr_cg j (fun l hl => u1 l (by omega)) (fun l hl => v1 l (by omega))
  refine ⟨fun j hj => ?_, fun j l hjl hl => ?_, fun j hj => ?_, fun j hj k' hk' h => ?_⟩
  · by_cases z : j = k
    · subst z
      rw [u2, v2, l2, cg j (Nat.le_refl j)]
      exact ⟨he.1, he.2.1, he.2.2, n⟩
    · rw [u1 j (by omega), v1 j (by omega), l1 j (by omega), cg j (by omega)]
      exact i1 j (by omega)
  · by_cases z : l = k
    · subst z
      by_cases z2 : j = l
      · subst z2; exact Int.le_refl _
      · rw [l1 j (by omega), l2]
        obtain ⟨i', h1, h2⟩ := i3 j (by omega)
        rw [h2]
        exact hs i' i (by omega) hi
    · rw [l1 j (by omega), l1 l (by omega)]
      exact i2 j l hjl (by omega)
  · by_cases z : j = k
    · subst z; exact ⟨i, by omega, l2⟩
    · obtain ⟨i', h1, h2⟩ := i3 j (by omega)
      exact ⟨i', by omega, by rw [l1 j (by omega)]; exact h2⟩
  · by_cases kk : k' = k + 1
    · subst kk
      show ms_mg (ms_r tU' tV' k) (tU' k) (tV' k) (eU j) = ms_mg (ms_r tU' tV' k) (tU' k) (tV' k) (eV j)
      rw [u2, v2, cg k (Nat.le_refl k)]
      by_cases z : j = i
      · subst z; exact mg_ab
      · exact mg_eq (i4 j (by omega) k (Nat.le_refl k) (fun l h1 h2 => by omega))
    · rw [cg k' (by omega)]
      by_cases z : j = i
      · subst z
        have := h k (by omega) (by omega)
        omega
      · refine i4 j (by omega) k' (by omega) (fun l h1 h2 => ?_)
        rw [← l1 l h2]
        exact h l h1 (by omega)
theorem ms_fin {eU eV : Nat → Nat} {eL : Nat → Int} {m k : Nat} {tU tV : Nat → Nat} {tL : Nat → Int} (N : ge_Ne x y U) (E : ed_Ok x y U m eU eV eL) (I : ms_I x y U eU eV eL m k tU tV tL) : ms_Ok x y U k tU tV tL := by
  obtain ⟨i1, i2, i3, i4⟩ := I
  obtain ⟨e1, e2, e3⟩ := E
  refine ⟨i1, i2, fun k' L hk' h1 h2 a b ua ub => ⟨fun e => ?_, fun R => ?_⟩⟩
  · have t := mr_to (x := x) (y := y) (U := U) (L := L) (u := tU) (v := tV) k' (fun j hj => ⟨(i1 j (by omega)).1, (i1 j (by omega)).2.1, by
      have := (i1 j (by omega)).2.2.1
      have := h1 j hj
      omega⟩)
    have ta := t a
    have tb := t b
    rw [e] at ta
    exact mr_tr (mr_sy ta) tb
  · refine R (ms_r tU tV k') (fun a b ua ub s => ?_)
    refine ln_mst N (Lm := L) (f := ms_r tU tV k') (fun a b ua ub ab hk s => ?_) (ge_S x y a b).toNat.succ a b ua ub (by omega) s
    obtain ⟨i, hi, h⟩ := e3 a b ua ub ab hk
    have g := (e1 i hi).2.2.2
    rcases h with ⟨q1, q2⟩ | ⟨q1, q2⟩
    · rw [q1, q2] at g
      have := i4 i hi k' hk' (fun l l1 l2 => by have := h2 l l1 l2; omega)
      rw [q1, q2] at this
      exact this
    · rw [q1, q2, ge_Sc] at g
      have := i4 i hi k' hk' (fun l l1 l2 => by have := h2 l l1 l2; omega)
      rw [q1, q2] at this
      exact this.symm
end
end
section
/-! the component's find, join, pickTree -/
def ld_ (a : Nat → Int32) (r : Nat → Nat) : Prop := ∀ i, i < 24 → ∃ j, a i = nI j ∧ j ≤ i ∧ r j = r i ∧ (j = i → r i = i)
theorem ld_cg {a : Nat → Int32} {r r' : Nat → Nat} (h : ∀ i, i < 24 → r' i = r i) (l : ld_ a r) : ld_ a r' := by
  intro i hi
  obtain ⟨j, h1, h2, h3, h4⟩ := l i hi
  refine ⟨j, h1, h2, ?_, fun e => ?_⟩
  · rw [h j (by omega), h i hi]; exact h3
  · rw [h i hi]; exact h4 e
section
variable {f_size f_solid f_edges f_treeEdges : Int32} {a_used a_px a_py a_alive a_corner a_across a_bad a_startsAt a_endsAt a_edgeU a_edgeV a_edgeLen a_treeU a_treeV a_treeLen a_leader a_order a_mark : Nat → Int32} {post : SX → Prop}
theorem xw_alone (h : ∀ lv, ld_ lv (fun i => i) → post (f_size, f_solid, f_edges, f_treeEdges, a_used, a_px, a_py, a_alive, a_corner, a_across, a_bad, a_startsAt, a_endsAt, a_edgeU, a_edgeV, a_edgeLen, a_treeU, a_treeV, a_treeLen, lv, a_order, a_mark)) : wpX_alone post (f_size, f_solid, f_edges, f_treeEdges, a_used, a_px, a_py, a_alive, a_corner, a_across, a_bad, a_startsAt, a_endsAt, a_edgeU, a_edgeV, a_edgeLen, a_treeU, a_treeV, a_treeLen, a_leader, a_order, a_mark) := by
  unfold wpX_alone
  dsimp only
  have L : ∀ n k : Nat, k ≤ 24 → 24 < n + k → ∀ lv : Nat → Int32, (∀ i, i < k → lv i = nI i) → wX_alone_2 post f_size f_solid f_edges f_treeEdges n (nI k) a_used a_px a_py a_alive a_corner a_across a_bad a_startsAt a_endsAt a_edgeU a_edgeV a_edgeLen a_treeU a_treeV a_treeLen lv a_order a_mark := by
    intro n
    induction n with
    | zero => intro k hk hn; omega
    | succ n ih =>
      intro k hk hn lv hl
      rw [wX_alone_2]
      refine pk_le 24 k (fun z => h lv (fun i hi => ⟨i, hl i (by omega), Nat.le_refl i, rfl, fun _ => rfl⟩)) (fun z => ?_)
      rw [cl_ (n := k) (by omega), nI_1]
      refine ⟨in_ z, nm_e (nm_e (ih (k + 1) (by omega) (by omega) _ (fun i hi => ?_)))⟩
      by_cases e : i = k
      · subst e; exact pk_us
      · rw [pk_un e]; exact hl i (by omega)
  exact ⟨25, L 25 0 (by omega) (by omega) a_leader (fun i hi => by omega)⟩
end
section
variable {f_size f_solid f_edges f_treeEdges : Int32} {a_used a_px a_py a_alive a_corner a_across a_bad a_startsAt a_endsAt a_edgeU a_edgeV a_edgeLen a_treeU a_treeV a_treeLen a_leader a_order a_mark : Nat → Int32} {post : Int32 → SX → Prop} {r : Nat → Nat}
theorem xw_find {a : Nat} (ha : a < 24) (l : ld_ a_leader r) (h : ∀ lv, ld_ lv r → post (nI (r a)) (f_size, f_solid, f_edges, f_treeEdges, a_used, a_px, a_py, a_alive, a_corner, a_across, a_bad, a_startsAt, a_endsAt, a_edgeU, a_edgeV, a_edgeLen, a_treeU, a_treeV, a_treeLen, lv, a_order, a_mark)) : wpX_find post (f_size, f_solid, f_edges, f_treeEdges, a_used, a_px, a_py, a_alive, a_corner, a_across, a_bad, a_startsAt, a_endsAt, a_edgeU, a_edgeV, a_edgeLen, a_treeU, a_treeV, a_treeLen, a_leader, a_order, a_mark) (nI a) := by
  unfold wpX_find
  dsimp only
  have L : ∀ n k p : Nat, p + k ≤ 23 → 24 ≤ n + k → r p = r a → ∀ lv : Nat → Int32, ld_ lv r → wX_find_4 post f_size f_solid f_edges f_treeEdges n (nI p) (nI k) a_used a_px a_py a_alive a_corner a_across a_bad a_startsAt a_endsAt a_edgeU a_edgeV a_edgeLen a_treeU a_treeV a_treeLen lv a_order a_mark := by
    intro n
    induction n with
    | zero => intro k p hk hn; omega
    | succ n ih =>
      intro k p hk hn hr lv l
      rw [wX_find_4]
      refine pk_le 24 k (fun z => by omega) (fun z => ?_)
      obtain ⟨j, j1, j2, j3, j4⟩ := l p (by omega)
      obtain ⟨jj, q1, q2, q3, q4⟩ := l j (by omega)
      rw [cl_ (n := p) (by omega), j1, cl_ (n := j) (by omega), q1]
      refine ⟨in_ (by omega), br_c (fun w => ?_) (fun w => ?_)⟩
      · rw [nI_ne (by omega) (by omega)] at w
        have e : p = r a := by
          have := j4 w
          omega
        rw [e]
        exact h lv l
      · rw [nI_ne (by omega) (by omega)] at w
        refine ⟨in_ (by omega), in_ (by omega), in_ (by omega), nm_e ⟨in_ (by omega), ?_⟩⟩
        rw [pk_us, nI_1]
        refine nm_e (nm_e (ih (k + 1) jj (by omega) (by omega) (by rw [q3, j3]; exact hr) _ (fun i hi => ?_)))
        by_cases e : i = p
        · subst e
          rw [pk_us]
          exact ⟨jj, rfl, by omega, by rw [q3, j3], fun z2 => by omega⟩
        · rw [pk_un e]
          exact l i hi
  exact ⟨24, L 24 0 a (by omega) (by omega) rfl a_leader l⟩
theorem xw_join {a b : Nat} (ha : a < 24) (hb : b < 24) (rt : rt_ r) (l : ld_ a_leader r)
    (h0 : r a = r b → ∀ lv, ld_ lv (ms_mg r a b) → post 0 (f_size, f_solid, f_edges, f_treeEdges, a_used, a_px, a_py, a_alive, a_corner, a_across, a_bad, a_startsAt, a_endsAt, a_edgeU, a_edgeV, a_edgeLen, a_treeU, a_treeV, a_treeLen, lv, a_order, a_mark)) (h1 : r a ≠ r b → ∀ lv, ld_ lv (ms_mg r a b) → post 1 (f_size, f_solid, f_edges, f_treeEdges, a_used, a_px, a_py, a_alive, a_corner, a_across, a_bad, a_startsAt, a_endsAt, a_edgeU, a_edgeV, a_edgeLen, a_treeU, a_treeV, a_treeLen, lv, a_order, a_mark)) : wpX_join post (f_size, f_solid, f_edges, f_treeEdges, a_used, a_px, a_py, a_alive, a_corner, a_across, a_bad, a_startsAt, a_endsAt, a_edgeU, a_edgeV, a_edgeLen, a_treeU, a_treeV, a_treeLen, a_leader, a_order, a_mark) (nI a) (nI b) := by
  unfold wpX_join
  dsimp only
  have ra := rt a
  have rb := rt b
  refine xw_find ha l (fun lv l2 => ?_)
  dsimp only
  refine xw_find hb l2 (fun lv l3 => ?_)
  dsimp only
  have key : ∀ hi lo : Nat, hi = max (r a) (r b) → lo = min (r a) (r b) → r a ≠ r b → ld_ (upd lv hi (nI lo)) (ms_mg r a b) := by
    intro hi lo e1 e2 ne i hi'
    have rlo : r lo = lo := by
      by_cases z : r a ≤ r b
      · rw [e2, Nat.min_eq_left z]; exact ra.2
      · rw [e2, Nat.min_eq_right (by omega)]; exact rb.2
    have rhi : r hi = hi := by
      by_cases z : r a ≤ r b
      · rw [e1, Nat.max_eq_right z]; exact rb.2
      · rw [e1, Nat.max_eq_left (by omega)]; exact ra.2
    have mlo : ms_mg r a b lo = lo := by
      unfold ms_mg
      rw [if_neg (by rw [rlo]; omega), rlo]
    by_cases e : i = hi
    · subst e
      rw [pk_us]
      refine ⟨lo, rfl, by omega, ?_, fun z => by omega⟩
      rw [mlo]
      unfold ms_mg
      rw [if_pos (by rw [rhi]; exact e1)]
      exact e2
    · rw [pk_un e]
      obtain ⟨j, j1, j2, j3, j4⟩ := l3 i hi'
      refine ⟨j, j1, j2, mg_eq j3, fun z => ?_⟩
      have := j4 z
      unfold ms_mg
      rw [if_neg (by omega)]
      exact this
  refine br_c (fun z => ?_) (fun z => ?_)
  · rw [nI_ne (by omega) (by omega)] at z
    exact h0 z lv (ld_cg (fun i _ => mg_same z i) l3)
  · rw [nI_ne (by omega) (by omega)] at z
    refine pk_le (r b) (r a) (fun q => ⟨in_ (by omega), ?_⟩) (fun q => ⟨in_ (by omega), ?_⟩)
    · rw [cl_ (n := r a) (by omega)]
      exact nm_e (h1 z _ (key _ _ (by omega) (by omega) z))
    · rw [cl_ (n := r b) (by omega)]
      exact nm_e (h1 z _ (key _ _ (by omega) (by omega) z))
end
/-- the edge list as the arrays hold it -/
def el_Ok (a_px a_py : Nat → Int32) (Q : Nat → Nat → Prop) (m : Nat) (a_edgeU a_edgeV a_edgeLen : Nat → Int32) : Prop :=
  (∀ i, i < m → ∃ u v, a_edgeU i = nI u ∧ a_edgeV i = nI v ∧ u < 24 ∧ v < 24 ∧ Q u v ∧ a_edgeLen i = s32_ a_px a_py u v) ∧
  (∀ i j, i ≤ j → j < m → a_edgeLen i ≤ a_edgeLen j) ∧
  (∀ u v, Q u v → ∃ i, i < m ∧ a_edgeU i = nI u ∧ a_edgeV i = nI v)
/-- the tree as the arrays hold it -/
def te_Ok (x y : Nat → Int) (U : Nat → Prop) (k : Nat) (a_treeU a_treeV a_treeLen : Nat → Int32) : Prop :=
  rg_ a_treeU k 24 ∧ rg_ a_treeV k 24 ∧ ms_Ok x y U k (cn_ a_treeU) (cn_ a_treeV) (xi_ a_treeLen) ∧ k ≤ 23
theorem el_ed {a_px a_py : Nat → Int32} {U : Nat → Prop} {Q : Nat → Nat → Prop} {m : Nat} {a_edgeU a_edgeV a_edgeLen : Nat → Int32} (B : ge_Bd (xi_ a_px) (xi_ a_py)) (E : el_Ok a_px a_py Q m a_edgeU a_edgeV a_edgeLen)
    (hU : ∀ i, U i → i < 24) (hQ : ∀ u v, Q u v → U u ∧ U v ∧ u ≠ v) (hK : ∀ a b, U a → U b → a ≠ b → ln_K (xi_ a_px) (xi_ a_py) U a b → Q a b ∨ Q b a) :
    ed_Ok (xi_ a_px) (xi_ a_py) U m (cn_ a_edgeU) (cn_ a_edgeV) (xi_ a_edgeLen) := by
  obtain ⟨e1, e2, e3⟩ := E
  refine ⟨fun i hi => ?_, fun i j hij hj => ?_, fun a b ua ub ab hk => ?_⟩
  · obtain ⟨u, v, q1, q2, q3, q4, q5, q6⟩ := e1 i hi
    rw [cn_of q1 (by omega), cn_of q2 (by omega)]
    have h := hQ u v q5
    refine ⟨h.1, h.2.1, h.2.2, ?_⟩
    show (a_edgeLen i).toInt = _
    rw [q6, s32_i B q3 q4]
  · exact Int32.le_iff_toInt_le.mp (e2 i j hij hj)
  · have sm : ∀ u v, Q u v → ∃ i, i < m ∧ cn_ a_edgeU i = u ∧ cn_ a_edgeV i = v := by
      intro u v q
      obtain ⟨i, hi, i1, i2⟩ := e3 u v q
      have lu := hU u (hQ u v q).1
      have lv := hU v (hQ u v q).2.1
      exact ⟨i, hi, cn_of i1 (by omega), cn_of i2 (by omega)⟩
    rcases hK a b ua ub ab hk with q | q
    · obtain ⟨i, hi, h1, h2⟩ := sm a b q
      exact ⟨i, hi, Or.inl ⟨h1, h2⟩⟩
    · obtain ⟨i, hi, h1, h2⟩ := sm b a q
      exact ⟨i, hi, Or.inr ⟨h1, h2⟩⟩
section
variable {f_size f_solid f_edges f_treeEdges : Int32} {a_used a_px a_py a_alive a_corner a_across a_bad a_startsAt a_endsAt a_edgeU a_edgeV a_edgeLen a_treeU a_treeV a_treeLen a_leader a_order a_mark : Nat → Int32} {post : SX → Prop} {U : Nat → Prop}
theorem xw_pickTree {m : Nat} (hm : m ≤ 80) (hU : ∀ i, U i → i < 24) (N : ge_Ne (xi_ a_px) (xi_ a_py) U) (re : ∀ i, i < m → a_edgeU i = nI (cn_ a_edgeU i) ∧ a_edgeV i = nI (cn_ a_edgeV i))
    (E : ed_Ok (xi_ a_px) (xi_ a_py) U m (cn_ a_edgeU) (cn_ a_edgeV) (xi_ a_edgeLen))
    (h : ∀ k tu tv tl lv, te_Ok (xi_ a_px) (xi_ a_py) U k tu tv tl → post (f_size, f_solid, nI m, nI k, a_used, a_px, a_py, a_alive, a_corner, a_across, a_bad, a_startsAt, a_endsAt, a_edgeU, a_edgeV, a_edgeLen, tu, tv, tl, lv, a_order, a_mark)) : wpX_pickTree post (f_size, f_solid, nI m, f_treeEdges, a_used, a_px, a_py, a_alive, a_corner, a_across, a_bad, a_startsAt, a_endsAt, a_edgeU, a_edgeV, a_edgeLen, a_treeU, a_treeV, a_treeLen, a_leader, a_order, a_mark) := by
  unfold wpX_pickTree
  dsimp only
  refine xw_alone (fun lv l0 => ?_)
  dsimp only
  have L : ∀ n i : Nat, i ≤ m → m < n + i → ∀ k tu tv tl lv, rg_ tu k 24 → rg_ tv k 24 → ms_I (xi_ a_px) (xi_ a_py) U (cn_ a_edgeU) (cn_ a_edgeV) (xi_ a_edgeLen) i k (cn_ tu) (cn_ tv) (xi_ tl) → ld_ lv (ms_r (cn_ tu) (cn_ tv) k) →
      wX_pickTree_11 post n (nI i) f_size f_solid (nI m) (nI k) a_used a_px a_py a_alive a_corner a_across a_bad a_startsAt a_endsAt a_edgeU a_edgeV a_edgeLen tu tv tl lv a_order a_mark := by
    intro n
    induction n with
    | zero => intro i hi hn; omega
    | succ n ih =>
      intro i hi hn k tu tv tl lv ru rv I l
      rw [wX_pickTree_11]
      have room := ms_room hU I
      refine pk_le m i (fun z => ?_) (fun z => ?_)
      · have e : i = m := by omega
        subst e
        exact h k tu tv tl lv ⟨ru, rv, ms_fin N E I, room⟩
      · have ei := E.1 i z
        have lu := hU _ ei.1
        have lw := hU _ ei.2.1
        have ri := re i z
        rw [cl_ (n := i) (by omega), ri.1, ri.2]
        refine ⟨in_ (by omega), in_ (by omega), xw_join lu lw (mr_rt _ _ _) l (fun q lv2 l2 => ?_) (fun q lv2 l2 => ?_)⟩
        · dsimp only
          refine br_t rfl ?_
          rw [nI_1]
          exact nm_e (ih (i + 1) (by omega) (by omega) k tu tv tl lv2 ru rv (ms_skip E.2.1 z I q) (ld_cg (fun j _ => (mg_same q j).symm) l2))
        · dsimp only
          refine br_f (by decide) (pk_le 24 k (fun w => by omega) (fun w => ?_))
          rw [cl_ (n := k) (by omega), ri.1, ri.2, nI_1, nI_1]
          refine ⟨in_ (by omega), in_ w, nm_e ⟨in_ (by omega), in_ w, nm_e ⟨in_ (by omega), in_ w, nm_e (nm_e (nm_e (ih (i + 1) (by omega) (by omega) (k + 1) _ _ _ lv2 ?_ ?_ ?_ ?_)))⟩⟩⟩
          · intro e he
            by_cases z2 : e = k
            · subst z2
              rw [cn_s (by omega), pk_us]; exact ⟨rfl, lu⟩
            · rw [cn_n z2, pk_un z2]; exact ru e (by omega)
          · intro e he
            by_cases z2 : e = k
            · subst z2
              rw [cn_s (by omega), pk_us]; exact ⟨rfl, lw⟩
            · rw [cn_n z2, pk_un z2]; exact rv e (by omega)
          · refine ms_take E.2.1 z I ⟨ei.1, ei.2.1, ei.2.2.2⟩ q (fun j hj => cn_n (by omega)) (cn_s (by omega)) (fun j hj => cn_n (by omega)) (cn_s (by omega)) (fun j hj => ?_) ?_
            · unfold xi_
              rw [pk_un (by omega)]
            · unfold xi_
              rw [pk_us]
          · show ld_ lv2 (ms_mg (ms_r _ _ k) _ _)
            rw [mr_cg (u := cn_ tu) (v := cn_ tv) k (fun j hj => cn_n (by omega)) (fun j hj => cn_n (by omega)), cn_s (by omega), cn_s (by omega)]
            exact l2
  exact ⟨m + 1, L (m + 1) 0 (by omega) (by omega) 0 _ _ _ lv (fun e he => by omega) (fun e he => by omega) ms_0 l0⟩
end
end
section
/-! the component's addEdge and the edges of the triangulation -/
section
variable {f_size f_solid f_edges f_treeEdges : Int32} {a_used a_px a_py a_alive a_corner a_across a_bad a_startsAt a_endsAt a_edgeU a_edgeV a_edgeLen a_treeU a_treeV a_treeLen a_leader a_order a_mark : Nat → Int32} {post : SX → Prop} {Q : Nat → Nat → Prop}
theorem xw_add95 {u v m k : Nat} {len : Int32} (hk : k < 80) (h : post (f_size, f_solid, nI (m + 1), f_treeEdges, a_used, a_px, a_py, a_alive, a_corner, a_across, a_bad, a_startsAt, a_endsAt, upd a_edgeU k (nI u), upd a_edgeV k (nI v), upd a_edgeLen k len, a_treeU, a_treeV, a_treeLen, a_leader, a_order, a_mark)) : wX_addEdge_95 post (nI u) (nI v) len (nI k) f_size f_solid (nI m) f_treeEdges a_used a_px a_py a_alive a_corner a_across a_bad a_startsAt a_endsAt a_edgeU a_edgeV a_edgeLen a_treeU a_treeV a_treeLen a_leader a_order a_mark := by
  unfold wX_addEdge_95
  rw [cl_ (n := k) (by omega), nI_1]
  exact ⟨in_ hk, nm_e ⟨in_ hk, nm_e ⟨in_ hk, nm_e (nm_e h)⟩⟩⟩
theorem xw_add23 {u v m : Nat} {len : Int32} (hm : m < 80)
    (h : ∀ k eu ev el, k ≤ m → (∀ i, i < k → eu i = a_edgeU i ∧ ev i = a_edgeV i ∧ el i = a_edgeLen i) → (eu k = nI u ∧ ev k = nI v ∧ el k = len) → (∀ i, k ≤ i → i < m → eu (i + 1) = a_edgeU i ∧ ev (i + 1) = a_edgeV i ∧ el (i + 1) = a_edgeLen i) →
      (∀ i, k ≤ i → i < m → len < a_edgeLen i) → (∀ i, i + 1 = k → a_edgeLen i ≤ len) → post (f_size, f_solid, nI (m + 1), f_treeEdges, a_used, a_px, a_py, a_alive, a_corner, a_across, a_bad, a_startsAt, a_endsAt, eu, ev, el, a_treeU, a_treeV, a_treeLen, a_leader, a_order, a_mark)) :
    ∀ k n : Nat, k ≤ m → k < n → ∀ eu ev el : Nat → Int32, (∀ i, i < k → eu i = a_edgeU i ∧ ev i = a_edgeV i ∧ el i = a_edgeLen i) → (∀ i, k ≤ i → i < m → eu (i + 1) = a_edgeU i ∧ ev (i + 1) = a_edgeV i ∧ el (i + 1) = a_edgeLen i) →
      (∀ i, k ≤ i → i < m → len < a_edgeLen i) → wX_addEdge_23 post (nI u) (nI v) len f_size f_solid (nI m) f_treeEdges n (nI k) a_used a_px a_py a_alive a_corner a_across a_bad a_startsAt a_endsAt eu ev el a_treeU a_treeV a_treeLen a_leader a_order a_mark := by
  intro k
  induction k with
  | zero =>
    intro n hk hn eu ev el g1 g2 g3
    obtain ⟨n, rfl⟩ : ∃ n', n = n' + 1 := ⟨n - 1, by omega⟩
    rw [wX_addEdge_23]
    refine br_t (by decide) (xw_add95 (by omega) (h 0 _ _ _ (by omega) (fun i hi => by omega) ⟨pk_us, pk_us, pk_us⟩ (fun i h1 h2 => ?_) g3 (fun i hi => by omega)))
    rw [pk_un (by omega), pk_un (by omega), pk_un (by omega)]
    exact g2 i h1 h2
  | succ k ih =>
    intro n hk hn eu ev el g1 g2 g3
    obtain ⟨n, rfl⟩ : ∃ n', n = n' + 1 := ⟨n - 1, by omega⟩
    rw [wX_addEdge_23]
    dsimp only
    have gk := g1 k (by omega)
    rw [nI_pred, cl_ (n := k) (by omega), cl_ (n := k + 1) (by omega), pk_m1, gk.1, gk.2.1, gk.2.2]
    refine br_f (nI_nle (by omega) (by omega)) ⟨in_ (by omega), br_c (fun q => xw_add95 (by omega) (h (k + 1) _ _ _ hk (fun i hi => ?_) ⟨pk_us, pk_us, pk_us⟩ (fun i h1 h2 => ?_) g3 (fun i hi => ?_))) (fun q => ⟨in_ (by omega), in_ (by omega), nm_e ⟨in_ (by omega), in_ (by omega), nm_e ⟨in_ (by omega), in_ (by omega), nm_e (nm_e (ih n (by omega) (by omega) _ _ _ (fun i hi => ?_) (fun i h1 h2 => ?_) (fun i h1 h2 => ?_)))⟩⟩⟩)⟩
    · rw [pk_un (by omega), pk_un (by omega), pk_un (by omega)]
      exact g1 i hi
    · rw [pk_un (by omega), pk_un (by omega), pk_un (by omega)]
      exact g2 i h1 h2
    · have e : i = k := by omega
      rw [e]; exact q
    · rw [pk_un (by omega), pk_un (by omega), pk_un (by omega)]
      exact g1 i (by omega)
    · by_cases e : i = k
      · subst e
        exact ⟨pk_us, pk_us, pk_us⟩
      · rw [pk_un (by omega), pk_un (by omega), pk_un (by omega)]
        exact g2 i (by omega) h2
    · by_cases e : i = k
      · subst e; exact Int32.not_le.mp q
      · exact g3 i (by omega) h2
theorem xw_addEdge {u v m : Nat} (hm : m < 80) (hu : u < 24) (hv : v < 24) (E : el_Ok a_px a_py Q m a_edgeU a_edgeV a_edgeLen)
    (h : ∀ eu ev el, el_Ok a_px a_py (fun a b => Q a b ∨ (a = u ∧ b = v)) (m + 1) eu ev el → post (f_size, f_solid, nI (m + 1), f_treeEdges, a_used, a_px, a_py, a_alive, a_corner, a_across, a_bad, a_startsAt, a_endsAt, eu, ev, el, a_treeU, a_treeV, a_treeLen, a_leader, a_order, a_mark)) : wpX_addEdge post (f_size, f_solid, nI m, f_treeEdges, a_used, a_px, a_py, a_alive, a_corner, a_across, a_bad, a_startsAt, a_endsAt, a_edgeU, a_edgeV, a_edgeLen, a_treeU, a_treeV, a_treeLen, a_leader, a_order, a_mark) (nI u) (nI v) := by
  unfold wpX_addEdge
  dsimp only
  obtain ⟨e1, e2, e3⟩ := E
  refine pk_lt m 80 (fun z => ?_) (fun z => by omega)
  refine xw_dist hu hv ⟨m + 1, xw_add23 hm (fun k eu ev el hk g1 g2 g3 g4 g5 => h eu ev el ⟨fun i hi => ?_, fun i j hij hj => ?_, fun a b q => ?_⟩) m (m + 1) (by omega) (by omega) _ _ _ (fun i _ => ⟨rfl, rfl, rfl⟩) (fun i h1 h2 => by omega) (fun i h1 h2 => by omega)⟩
  · by_cases c1 : i < k
    · rw [(g1 i c1).1, (g1 i c1).2.1, (g1 i c1).2.2]
      obtain ⟨u', v', q1, q2, q3, q4, q5, q6⟩ := e1 i (by omega)
      exact ⟨u', v', q1, q2, q3, q4, Or.inl q5, q6⟩
    by_cases c2 : i = k
    · subst c2
      exact ⟨u, v, g2.1, g2.2.1, hu, hv, Or.inr ⟨rfl, rfl⟩, g2.2.2⟩
    · obtain ⟨j, rfl⟩ : ∃ j, i = j + 1 := ⟨i - 1, by omega⟩
      have := g3 j (by omega) (by omega)
      rw [this.1, this.2.1, this.2.2]
      obtain ⟨u', v', q1, q2, q3, q4, q5, q6⟩ := e1 j (by omega)
      exact ⟨u', v', q1, q2, q3, q4, Or.inl q5, q6⟩
  · by_cases c1 : j < k
    · rw [(g1 i (by omega)).2.2, (g1 j c1).2.2]
      exact e2 i j hij (by omega)
    by_cases c2 : j = k
    · subst c2
      rw [g2.2.2]
      by_cases c3 : i = j
      · subst c3; rw [g2.2.2]; exact Int32.le_refl _
      · rw [(g1 i (by omega)).2.2]
        obtain ⟨j', rfl⟩ : ∃ j', j = j' + 1 := ⟨j - 1, by omega⟩
        exact Int32.le_trans (e2 i j' (by omega) (by omega)) (g5 j' rfl)
    · obtain ⟨j', rfl⟩ : ∃ j', j = j' + 1 := ⟨j - 1, by omega⟩
      rw [(g3 j' (by omega) (by omega)).2.2]
      by_cases c3 : i < k
      · rw [(g1 i c3).2.2]
        exact e2 i j' (by omega) (by omega)
      by_cases c4 : i = k
      · subst c4
        rw [g2.2.2]
        exact Int32.le_of_lt (g4 j' (by omega) (by omega))
      · obtain ⟨i', rfl⟩ : ∃ i', i = i' + 1 := ⟨i - 1, by omega⟩
        rw [(g3 i' (by omega) (by omega)).2.2]
        exact e2 i' j' (by omega) (by omega)
  · rcases q with q | ⟨q1, q2⟩
    · obtain ⟨i, hi, h1, h2⟩ := e3 a b q
      by_cases c1 : i < k
      · exact ⟨i, by omega, by rw [(g1 i c1).1]; exact h1, by rw [(g1 i c1).2.1]; exact h2⟩
      · have := g3 i (by omega) hi
        exact ⟨i + 1, by omega, by rw [this.1]; exact h1, by rw [this.2.1]; exact h2⟩
    · subst q1 q2
      exact ⟨k, by omega, g2.1, g2.2.1⟩
end
theorem el_cg {a_px a_py : Nat → Int32} {Q Q' : Nat → Nat → Prop} {m : Nat} {a_edgeU a_edgeV a_edgeLen : Nat → Int32} (h : ∀ u v, Q u v ↔ Q' u v) (E : el_Ok a_px a_py Q m a_edgeU a_edgeV a_edgeLen) : el_Ok a_px a_py Q' m a_edgeU a_edgeV a_edgeLen := by
  have e : Q = Q' := by
    funext u v
    exact propext (h u v)
  rw [← e]; exact E
theorem el_0 {a_px a_py a_edgeU a_edgeV a_edgeLen : Nat → Int32} {Q : Nat → Nat → Prop} (h : ∀ u v, ¬ Q u v) : el_Ok a_px a_py Q 0 a_edgeU a_edgeV a_edgeLen :=
  ⟨fun i hi => by omega, fun i j _ hj => by omega, fun u v q => absurd q (h u v)⟩
/-! counting the edges of a triangulation -/
theorem fc_up {P : Nat → Prop} {k : Nat} : ∀ n, k ≤ n → fc_n P k ≤ fc_n P n := by
  intro n
  induction n with
  | zero => intro h; rw [show k = 0 by omega]; exact Nat.le_refl _
  | succ n ih =>
    intro h
    by_cases e : k = n + 1
    · rw [e]; exact Nat.le_refl _
    · have := ih (by omega)
      show _ ≤ fc_n P n + fc_b (P n)
      omega
theorem fc_dis {P Q R : Nat → Prop} : ∀ n, (∀ i, i < n → P i → R i) → (∀ i, i < n → Q i → R i) → (∀ i, i < n → P i → ¬ Q i) → fc_n P n + fc_n Q n ≤ fc_n R n := by
  intro n
  induction n with
  | zero => intro _ _ _; exact Nat.le_refl _
  | succ n ih =>
    intro h1 h2 h3
    have := ih (fun i hi => h1 i (by omega)) (fun i hi => h2 i (by omega)) (fun i hi => h3 i (by omega))
    show fc_n P n + fc_b (P n) + (fc_n Q n + fc_b (Q n)) ≤ fc_n R n + fc_b (R n)
    by_cases p : P n
    · rw [fc_bt p, fc_bf (h3 n (by omega) p), fc_bt (h1 n (by omega) p)]; omega
    · rw [fc_bf p]
      by_cases q : Q n
      · rw [fc_bt q, fc_bt (h2 n (by omega) q)]; omega
      · rw [fc_bf q]; omega
theorem fc_3 {P : Nat → Prop} : ∀ n, fc_n (fun e => P (e / 3)) (3 * n) = 3 * fc_n P n := by
  intro n
  induction n with
  | zero => rfl
  | succ n ih =>
    show fc_n (fun e => P (e / 3)) (3 * n) + fc_b (P (3 * n / 3)) + fc_b (P ((3 * n + 1) / 3)) + fc_b (P ((3 * n + 2) / 3)) = 3 * (fc_n P n + fc_b (P n))
    rw [ih, show 3 * n / 3 = n by omega, show (3 * n + 1) / 3 = n by omega, show (3 * n + 2) / 3 = n by omega]
    omega
def se_ (al : Nat → Prop) (C : Nat → Nat) (e : Nat) : Prop := al (e / 3) ∧ C e < C (nx_ e) ∧ C (nx_ e) ≠ 24
theorem sl_edges {al : Nat → Prop} {C A : Nat → Nat} {F : Nat → Nat → Nat → Prop} (O : sl_Ok al C A F) (n : fc_n al 72 ≤ 48) : fc_n (se_ al C) 216 ≤ 72 := by
  have R : ∀ e, ∃ f, e < 216 → al (e / 3) → f < 216 ∧ al (f / 3) ∧ C f = C (nx_ e) ∧ C (nx_ f) = C e := by
    intro e
    by_cases h : e < 216 ∧ al (e / 3)
    · obtain ⟨q1, q2, f, hf, f3, f1, f2⟩ := O.2.2.2 e h.1 h.2
      exact ⟨f, fun _ _ => ⟨hf, by rw [f3]; exact q2, f1, f2⟩⟩
    · exact ⟨0, fun h1 h2 => absurd ⟨h1, h2⟩ h⟩
  obtain ⟨f, hf⟩ := Classical.skolem.mp R
  have h1 := fc_inj (P := se_ al C) f (m := 216) 216 (fun e => al (e / 3) ∧ C (nx_ e) < C e)
    (fun i hi h => ⟨(hf i hi h.1).1, (hf i hi h.1).2.1, by rw [(hf i hi h.1).2.2.1, (hf i hi h.1).2.2.2]; exact h.2.1⟩)
    (fun i j hi hj h1 h2 e => O.2.2.1 i j hi hj h1.1 h2.1 (by rw [← (hf i hi h1.1).2.2.2, ← (hf j hj h2.1).2.2.2, e]) (by rw [← (hf i hi h1.1).2.2.1, ← (hf j hj h2.1).2.2.1, e]))
  have h2 := fc_dis (P := se_ al C) (Q := fun e => al (e / 3) ∧ C (nx_ e) < C e) (R := fun e => al (e / 3)) 216 (fun i _ h => h.1) (fun i _ h => h.1) (fun i _ h g => by
    have := h.2.1
    have := g.2
    omega)
  have h3 := fc_3 (P := al) 72
  have h3' : fc_n (fun e => al (e / 3)) 216 = 3 * fc_n al 72 := h3
  omega
/-- the pairs that a triangulation joins, smaller name first -/
def qe_ (al : Nat → Prop) (C : Nat → Nat) (k u v : Nat) : Prop := ∃ e, e < k ∧ se_ al C e ∧ C e = u ∧ C (nx_ e) = v
section
variable {f_size f_solid f_edges f_treeEdges : Int32} {a_used a_px a_py a_alive a_corner a_across a_bad a_startsAt a_endsAt a_edgeU a_edgeV a_edgeLen a_treeU a_treeV a_treeLen a_leader a_order a_mark : Nat → Int32} {post : SX → Prop}
theorem xw_ce14 (rc : rg_ a_corner 216 25) (cnt : fc_n (se_ (al_ a_alive) (cn_ a_corner)) 216 ≤ 72)
    (h : ∀ m eu ev el, m ≤ 80 → el_Ok a_px a_py (qe_ (al_ a_alive) (cn_ a_corner) 216) m eu ev el → wX_collectEdges_79 post f_size f_solid (nI m) f_treeEdges a_used a_px a_py a_alive a_corner a_across a_bad a_startsAt a_endsAt eu ev el a_treeU a_treeV a_treeLen a_leader a_order a_mark) :
    ∀ n k : Nat, k ≤ 216 → 216 < n + k → ∀ m eu ev el, m = fc_n (se_ (al_ a_alive) (cn_ a_corner)) k → el_Ok a_px a_py (qe_ (al_ a_alive) (cn_ a_corner) k) m eu ev el → wX_collectEdges_14 post n (nI k) f_size f_solid (nI m) f_treeEdges a_used a_px a_py a_alive a_corner a_across a_bad a_startsAt a_endsAt eu ev el a_treeU a_treeV a_treeLen a_leader a_order a_mark := by
  intro n
  induction n with
  | zero => intro k hk hn; omega
  | succ n ih =>
    intro k hk hn m eu ev el hm E
    have up := fc_up (P := se_ (al_ a_alive) (cn_ a_corner)) (k := k) 216 hk
    rw [wX_collectEdges_14]
    refine pk_le 216 k (fun z => ?_) (fun z => ?_)
    · have e : k = 216 := by omega
      subst e
      exact h m eu ev el (by omega) E
    have ln := nx_lt z
    have c1 := rc k z
    have c2 := rc _ ln
    have skip : ¬ se_ (al_ a_alive) (cn_ a_corner) k → wX_collectEdges_14 post n (nI (k + 1)) f_size f_solid (nI m) f_treeEdges a_used a_px a_py a_alive a_corner a_across a_bad a_startsAt a_endsAt eu ev el a_treeU a_treeV a_treeLen a_leader a_order a_mark := by
      intro ns
      refine ih (k + 1) (by omega) (by omega) m eu ev el ?_ (el_cg (fun u v => ?_) E)
      · show m = fc_n _ k + fc_b _
        rw [fc_bf ns]; omega
      · constructor
        · intro ⟨e, he, h1⟩
          exact ⟨e, by omega, h1⟩
        · intro ⟨e, he, h1⟩
          by_cases q : e = k
          · rw [q] at h1; exact absurd h1.1 ns
          · exact ⟨e, by omega, h1⟩
    rw [cl_ (n := k) (by omega), c1.1]
    refine ⟨in_ z, nm_e (xw_next (by omega) ?_)⟩
    rw [cl_ (n := nx_ k) (by omega), c2.1, i3_d (by omega), cl_ (n := k / 3) (by omega), nI_1]
    refine ⟨in_ ln, nm_e ⟨by decide, in_ (by omega), br_c (fun q => nm_e (skip (fun s => s.1 q))) (fun q => pk_le (cn_ a_corner (nx_ k)) (cn_ a_corner k) (fun q2 => nm_e (skip (fun s => by have := s.2.1; omega))) (fun q2 => pk_eq (cn_ a_corner (nx_ k)) 24 (fun q3 => nm_e (skip (fun s => s.2.2 q3))) (fun q3 => ?_)))⟩⟩
    have s : se_ (al_ a_alive) (cn_ a_corner) k := ⟨q, q2, q3⟩
    refine xw_addEdge (by omega) (by omega) (by omega) E (fun eu ev el E2 => ?_)
    dsimp only
    refine nm_e (ih (k + 1) (by omega) (by omega) (m + 1) eu ev el ?_ (el_cg (fun u v => ?_) E2))
    · show m + 1 = fc_n _ k + fc_b _
      rw [fc_bt s]; omega
    · constructor
      · rintro (⟨e, he, h1⟩ | ⟨h1, h2⟩)
        · exact ⟨e, by omega, h1⟩
        · exact ⟨k, by omega, s, h1.symm, h2.symm⟩
      · intro ⟨e, he, h1⟩
        by_cases q : e = k
        · rw [q] at h1
          exact Or.inr ⟨h1.2.1.symm, h1.2.2.symm⟩
        · exact Or.inl ⟨e, by omega, h1⟩
end
end
section
/-! points on one line; the component's collectEdges -/
def bf_ (x y : Nat → Int) (a b : Nat) : Prop := x a < x b ∨ (x a = x b ∧ y a < y b)
/-- the names below i that are points, in order along the line -/
def or_ (x y : Nat → Int) (U : Nat → Prop) (o : Nat → Int32) (n i : Nat) : Prop :=
  (∀ j, j < n → o j = nI (cn_ o j) ∧ cn_ o j < i ∧ U (cn_ o j)) ∧ (∀ j l, j < l → l < n → bf_ x y (cn_ o j) (cn_ o l)) ∧ (∀ c, c < i → U c → ∃ j, j < n ∧ cn_ o j = c) ∧ n ≤ i
def ql_ (o : Nat → Int32) (n u v : Nat) : Prop := ∃ j, j + 1 < n ∧ cn_ o j = u ∧ cn_ o (j + 1) = v
theorem li_D {dx dy ex ey : Int} (T : dx * ey - dy * ex = 0) (ab : 0 < dx ∨ (dx = 0 ∧ 0 < dy)) :
    (ex * ex + ey * ey - (dx * ex + dy * ey) < 0 ↔ ((0 < ex ∨ (ex = 0 ∧ 0 < ey)) ∧ (ex < dx ∨ (ex = dx ∧ ey < dy)))) := by
  rcases ab with h | ⟨h1, h2⟩
  · have id : dx * dx * (ex * ex + ey * ey - (dx * ex + dy * ey)) = -(ex * (dx - ex) * (dx * dx + dy * dy)) + (dx * ey - dy * ex) * (dx * ey + ex * dy - dx * dy) := by grind
    rw [T, Int.zero_mul, Int.add_zero] at id
    have d2 := Int.mul_pos h h
    have sp : 0 < dx * dx + dy * dy := by
      have := ge_sq dy
      omega
    constructor
    · intro q
      have q2 := Int.mul_neg_of_pos_of_neg d2 q
      have q3 : 0 < (dx * dx + dy * dy) * (ex * (dx - ex)) := by rw [Int.mul_comm]; omega
      have q4 := sg_pP sp q3
      by_cases z : 0 < ex
      · have := sg_pP z q4
        omega
      · have := Int.mul_nonpos_of_nonpos_of_nonneg (show ex ≤ 0 by omega) (show 0 ≤ dx - ex by omega)
        omega
    · intro ⟨q1, q2⟩
      have e1 : 0 < ex := by
        rcases q1 with q1 | ⟨q1, q3⟩
        · exact q1
        · exfalso
          rw [q1, Int.mul_zero, Int.sub_zero] at T
          have := Int.mul_pos h q3
          omega
      have e2 : ex < dx := by
        rcases q2 with q2 | ⟨q2, q3⟩
        · exact q2
        · exfalso
          rw [q2] at T
          have e : dx * (dy - ey) = 0 := by grind
          have := Int.mul_pos h (show 0 < dy - ey by omega)
          omega
      have p := Int.mul_pos (Int.mul_pos e1 (show 0 < dx - ex by omega)) sp
      exact sg_pn d2 (by omega)
  · subst h1
    have e0 : ex = 0 := by
      have : dy * ex = 0 := by omega
      rcases Int.mul_eq_zero.mp this with z | z
      · omega
      · exact z
    subst e0
    have e : (0 : Int) * 0 + ey * ey - (0 * 0 + dy * ey) = ey * (ey - dy) := by grind
    rw [e]
    constructor
    · intro q
      refine ⟨Or.inr ⟨rfl, ?_⟩, Or.inr ⟨rfl, ?_⟩⟩
      · by_cases z : 0 < ey
        · exact z
        · have := Int.mul_nonneg_of_nonpos_of_nonpos (show ey ≤ 0 by omega) (show ey - dy ≤ 0 by omega)
          omega
      · by_cases z : ey < dy
        · exact z
        · have := Int.mul_nonneg (show 0 ≤ ey by omega) (show 0 ≤ ey - dy by omega)
          omega
    · intro ⟨q1, q2⟩
      exact Int.mul_neg_of_pos_of_neg (show 0 < ey by omega) (show ey - dy < 0 by omega)
theorem bf_D {x y : Nat → Int} {a b c : Nat} (t : ge_T x y a b c = 0) (ab : bf_ x y a b) : ge_D x y a b c < 0 ↔ bf_ x y a c ∧ bf_ x y c b := by
  have e : ge_D x y a b c = (x c - x a) * (x c - x a) + (y c - y a) * (y c - y a) - ((x b - x a) * (x c - x a) + (y b - y a) * (y c - y a)) := by
    unfold ge_D
    generalize x a = xa; generalize y a = ya; generalize x b = xb; generalize y b = yb
    generalize x c = xc; generalize y c = yc
    grind
  rw [e, li_D t (by unfold bf_ at ab; omega)]
  unfold bf_
  omega
theorem bf_tot {x y : Nat → Int} {a b : Nat} (h : x a ≠ x b ∨ y a ≠ y b) : bf_ x y a b ∨ bf_ x y b a := by
  unfold bf_
  omega
theorem bf_tr {x y : Nat → Int} {a b c : Nat} (h1 : bf_ x y a b) (h2 : bf_ x y b c) : bf_ x y a c := by
  unfold bf_ at *
  omega
theorem bf_as {x y : Nat → Int} {a b : Nat} (h1 : bf_ x y a b) (h2 : bf_ x y b a) : False := by
  unfold bf_ at *
  omega
/-- on a line the joined pairs are the consecutive ones -/
theorem li_K {x y : Nat → Int} {U : Nat → Prop} {o : Nat → Int32} {n : Nat} (hU : ∀ i, U i → i < 24) (N : ge_Ne x y U) (co : co_ x y U) (O : or_ x y U o n 24) :
    (∀ u v, ql_ o n u v → U u ∧ U v ∧ u ≠ v ∧ ln_K x y U u v) ∧ (∀ a b, U a → U b → a ≠ b → ln_K x y U a b → ql_ o n a b ∨ ql_ o n b a) := by
  obtain ⟨o1, o2, o3, o4⟩ := O
  have inj : ∀ j l, j < n → l < n → cn_ o j = cn_ o l → j = l := by
    intro j l hj hl e
    by_cases z : j < l
    · exact (bf_as (e ▸ o2 j l z hl : bf_ x y (cn_ o l) (cn_ o l)) (e ▸ o2 j l z hl : bf_ x y (cn_ o l) (cn_ o l))).elim
    · by_cases z2 : l < j
      · exact (bf_as (e ▸ o2 l j z2 hj : bf_ x y (cn_ o l) (cn_ o l)) (e ▸ o2 l j z2 hj : bf_ x y (cn_ o l) (cn_ o l))).elim
      · omega
  constructor
  · intro u v ⟨j, hj, e1, e2⟩
    have uu := (o1 j (by omega)).2.2
    have uv := (o1 (j + 1) hj).2.2
    rw [e1] at uu
    rw [e2] at uv
    have b := o2 j (j + 1) (by omega) hj
    rw [e1, e2] at b
    have ne : u ≠ v := fun z => bf_as (z ▸ b : bf_ x y v v) (z ▸ b : bf_ x y v v)
    refine ⟨uu, uv, ne, fun c uc c1 c2 t => ?_, fun c d uc ud t => ?_⟩
    · have dn := ge_colne t (N u c uu uc (fun z => c1 z.symm)) (N v c uv uc (fun z => c2 z.symm)) (N u v uu uv ne)
      by_cases q : 0 < ge_D x y u v c
      · exact q
      · exfalso
        have h := (bf_D t b).mp (by omega)
        obtain ⟨l, hl, el⟩ := o3 c (hU c uc) uc
        rw [← el, ← e1, ← e2] at h
        by_cases z1 : l ≤ j
        · by_cases z3 : l = j
          · rw [z3] at h; exact bf_as h.1 h.1
          · exact bf_as h.1 (o2 l j (by omega) (by omega))
        · by_cases z3 : l = j + 1
          · rw [z3] at h; exact bf_as h.2 h.2
          · exact bf_as h.2 (o2 (j + 1) l (by omega) hl)
    · rw [co u v c uu uv uc] at t
      omega
  · have one : ∀ a b, U a → U b → a ≠ b → ln_K x y U a b → bf_ x y a b → ql_ o n a b := by
      intro a b ua ub ab hk hb
      obtain ⟨i, hi, ei⟩ := o3 a (hU a ua) ua
      obtain ⟨j, hj, ej⟩ := o3 b (hU b ub) ub
      have ij : i < j := by
        by_cases z : i < j
        · exact z
        · exfalso
          by_cases z2 : i = j
          · rw [z2, ej] at ei; exact ab ei.symm
          · have := o2 j i (by omega) hi
            rw [ei, ej] at this
            exact bf_as hb this
      by_cases z : j = i + 1
      · exact ⟨i, by omega, ei, by rw [← z]; exact ej⟩
      · exfalso
        have uc := (o1 (i + 1) (by omega)).2.2
        have b1 := o2 i (i + 1) (by omega) (by omega)
        have b2 := o2 (i + 1) j (by omega) hj
        rw [ei] at b1
        rw [ej] at b2
        have t := co a b (cn_ o (i + 1)) ua ub uc
        have h1 := (bf_D t hb).mpr ⟨b1, b2⟩
        have h2 := hk.1 (cn_ o (i + 1)) uc (fun z => by rw [z] at b1; exact bf_as b1 b1) (fun z => by rw [z] at b2; exact bf_as b2 b2) t
        omega
    intro a b ua ub ab hk
    rcases bf_tot (N a b ua ub ab) with h | h
    · exact Or.inl (one a b ua ub ab hk h)
    · exact Or.inr (one b a ub ua (fun z => ab z.symm) (ln_sym hk) h)
section
variable {f_size f_solid f_edges f_treeEdges : Int32} {a_used a_px a_py a_alive a_corner a_across a_bad a_startsAt a_endsAt a_edgeU a_edgeV a_edgeLen a_treeU a_treeV a_treeLen a_leader a_order a_mark : Nat → Int32}
theorem xw_lineBefore {post : Int32 → Prop} {a b : Nat} (ha : a < 24) (hb : b < 24) (h1 : bf_ (xi_ a_px) (xi_ a_py) a b → post 1) (h0 : ¬ bf_ (xi_ a_px) (xi_ a_py) a b → post 0) : wpX_lineBefore post (f_size, f_solid, f_edges, f_treeEdges, a_used, a_px, a_py, a_alive, a_corner, a_across, a_bad, a_startsAt, a_endsAt, a_edgeU, a_edgeV, a_edgeLen, a_treeU, a_treeV, a_treeLen, a_leader, a_order, a_mark) (nI a) (nI b) := by
  unfold wpX_lineBefore
  dsimp only
  rw [cl_ (n := a) (by omega), cl_ (n := b) (by omega)]
  have d : bf_ (xi_ a_px) (xi_ a_py) a b ↔ ((a_px a).toInt < (a_px b).toInt ∨ ((a_px a).toInt = (a_px b).toInt ∧ (a_py a).toInt < (a_py b).toInt)) := Iff.rfl
  rw [d] at h1 h0
  refine ⟨in_ ha, in_ hb, br_c (fun z => ⟨in_ ha, in_ hb, br_c (fun q => h0 ?_) (fun q => h1 ?_)⟩) (fun z => ⟨in_ ha, in_ hb, br_c (fun q => h0 ?_) (fun q => h1 ?_)⟩)⟩
  · rw [← Int32.toInt_inj] at z
    rw [Int32.le_iff_toInt_le] at q
    omega
  · rw [← Int32.toInt_inj] at z
    rw [Int32.le_iff_toInt_le] at q
    omega
  · rw [← Int32.toInt_inj] at z
    rw [Int32.le_iff_toInt_le] at q
    omega
  · rw [← Int32.toInt_inj] at z
    rw [Int32.le_iff_toInt_le] at q
    omega
variable {post : SX → Prop}
theorem xw_le24 {J : Int32 → Int32 → (Nat → Int32) → (Nat → Int32) → (Nat → Int32) → (Nat → Int32) → (Nat → Int32) → (Nat → Int32) → (Nat → Int32) → (Nat → Int32) → (Nat → Int32) → (Nat → Int32) → (Nat → Int32) → (Nat → Int32) → (Nat → Int32) → (Nat → Int32) → (Nat → Int32) → (Nat → Int32) → (Nat → Int32) → (Nat → Int32) → Prop}
    {m c : Nat} (hm : m < 24) (hc : c < 24) (ro : ∀ i, i < m → a_order i = nI (cn_ a_order i) ∧ cn_ a_order i < 24)
    (h : ∀ k ov, k ≤ m → (∀ i, i < k → ov i = a_order i) → ov k = nI c → (∀ i, k ≤ i → i < m → ov (i + 1) = a_order i) → (∀ i, k ≤ i → i < m → bf_ (xi_ a_px) (xi_ a_py) c (cn_ a_order i)) → (∀ i, i + 1 = k → ¬ bf_ (xi_ a_px) (xi_ a_py) c (cn_ a_order i)) →
      J (nI (m + 1)) (nI (c + 1)) a_used a_px a_py a_alive a_corner a_across a_bad a_startsAt a_endsAt a_edgeU a_edgeV a_edgeLen a_treeU a_treeV a_treeLen a_leader ov a_mark) :
    ∀ k n : Nat, k ≤ m → k < n → ∀ ov : Nat → Int32, (∀ i, i < k → ov i = a_order i) → (∀ i, k ≤ i → i < m → ov (i + 1) = a_order i) → (∀ i, k ≤ i → i < m → bf_ (xi_ a_px) (xi_ a_py) c (cn_ a_order i)) →
      wX_lineEdges_24 post J (nI m) (nI c) f_size f_solid f_edges f_treeEdges n (nI k) a_used a_px a_py a_alive a_corner a_across a_bad a_startsAt a_endsAt a_edgeU a_edgeV a_edgeLen a_treeU a_treeV a_treeLen a_leader ov a_mark := by
  have put : ∀ k ov, k ≤ m → (∀ i, i < k → ov i = a_order i) → (∀ i, k ≤ i → i < m → ov (i + 1) = a_order i) → (∀ i, k ≤ i → i < m → bf_ (xi_ a_px) (xi_ a_py) c (cn_ a_order i)) → (∀ i, i + 1 = k → ¬ bf_ (xi_ a_px) (xi_ a_py) c (cn_ a_order i)) →
      wX_lineEdges_64 post J (nI m) (nI c) (nI k) f_size f_solid f_edges f_treeEdges a_used a_px a_py a_alive a_corner a_across a_bad a_startsAt a_endsAt a_edgeU a_edgeV a_edgeLen a_treeU a_treeV a_treeLen a_leader ov a_mark := by
    intro k ov hk g1 g2 g3 g4
    unfold wX_lineEdges_64
    rw [cl_ (n := k) (by omega), nI_1, nI_1]
    refine ⟨in_ (by omega), nm_e (nm_e (nm_e (h k _ hk (fun i hi => ?_) pk_us (fun i h1 h2 => ?_) g3 g4)))⟩
    · rw [pk_un (by omega)]; exact g1 i hi
    · rw [pk_un (by omega)]; exact g2 i h1 h2
  intro k
  induction k with
  | zero =>
    intro n hk hn ov g1 g2 g3
    obtain ⟨n, rfl⟩ : ∃ n', n = n' + 1 := ⟨n - 1, by omega⟩
    rw [wX_lineEdges_24]
    exact br_t (by decide) (put 0 ov hk g1 g2 g3 (fun i hi => by omega))
  | succ k ih =>
    intro n hk hn ov g1 g2 g3
    obtain ⟨n, rfl⟩ : ∃ n', n = n' + 1 := ⟨n - 1, by omega⟩
    rw [wX_lineEdges_24]
    dsimp only
    have gk := g1 k (by omega)
    have rk := ro k (by omega)
    rw [nI_pred, cl_ (n := k) (by omega), cl_ (n := k + 1) (by omega), pk_m1, gk, rk.1]
    refine br_f (nI_nle (by omega) (by omega)) ⟨in_ (by omega), xw_lineBefore hc rk.2 (fun q => br_f (by decide) ⟨in_ (by omega), in_ (by omega), nm_e (nm_e (ih n (by omega) (by omega) _ (fun i hi => ?_) (fun i h1 h2 => ?_) (fun i h1 h2 => ?_)))⟩) (fun q => br_t rfl (put (k + 1) ov hk g1 g2 g3 (fun i hi => ?_)))⟩
    · rw [pk_un (by omega)]; exact g1 i (by omega)
    · by_cases e : i = k
      · subst e
        rw [pk_us]; exact rk.1.symm
      · rw [pk_un (by omega)]; exact g2 i (by omega) h2
    · by_cases e : i = k
      · subst e; exact q
      · exact g3 i (by omega) h2
    · have e : i = k := by omega
      rw [e]; exact q
/-- the edges along the line -/
theorem xw_le82 {n : Nat} (hn : n ≤ 24) (ro : ∀ i, i < n → a_order i = nI (cn_ a_order i) ∧ cn_ a_order i < 24)
    (h : ∀ m eu ev el, m ≤ 80 → el_Ok a_px a_py (ql_ a_order n) m eu ev el → post (f_size, f_solid, nI m, f_treeEdges, a_used, a_px, a_py, a_alive, a_corner, a_across, a_bad, a_startsAt, a_endsAt, eu, ev, el, a_treeU, a_treeV, a_treeLen, a_leader, a_order, a_mark)) :
    ∀ f k : Nat, k ≤ 24 → 24 < f + k → ∀ eu ev el, el_Ok a_px a_py (fun u v => ∃ j, j < k ∧ j + 1 < n ∧ cn_ a_order j = u ∧ cn_ a_order (j + 1) = v) k eu ev el →
      wX_lineEdges_82 post (nI n) f (nI k) f_size f_solid (nI k) f_treeEdges a_used a_px a_py a_alive a_corner a_across a_bad a_startsAt a_endsAt eu ev el a_treeU a_treeV a_treeLen a_leader a_order a_mark := by
  intro f
  induction f with
  | zero => intro k hk hf; omega
  | succ f ih =>
    intro k hk hf eu ev el E
    rw [wX_lineEdges_82]
    dsimp only
    rw [nI_1]
    refine pk_le n (k + 1) (fun z => ?_) (fun z => ?_)
    · refine h k eu ev el (by omega) (el_cg (fun u v => ?_) E)
      constructor
      · intro ⟨j, h1, h2⟩
        exact ⟨j, h2⟩
      · intro ⟨j, h1, h2⟩
        exact ⟨j, by omega, h1, h2⟩
    · have r1 := ro k (by omega)
      have r2 := ro (k + 1) z
      rw [cl_ (n := k) (by omega), cl_ (n := k + 1) (by omega), r1.1, r2.1]
      refine ⟨in_ (by omega), in_ (by omega), xw_addEdge (by omega) r1.2 r2.2 E (fun eu ev el E2 => ?_)⟩
      dsimp only
      refine nm_e (ih (k + 1) (by omega) (by omega) eu ev el (el_cg (fun u v => ?_) E2))
      constructor
      · rintro (⟨j, h1, h2⟩ | ⟨h1, h2⟩)
        · exact ⟨j, by omega, h2⟩
        · exact ⟨k, by omega, z, h1.symm, h2.symm⟩
      · intro ⟨j, h1, h2, h3, h4⟩
        by_cases e : j = k
        · subst e; exact Or.inr ⟨h3.symm, h4.symm⟩
        · exact Or.inl ⟨j, by omega, h2, h3, h4⟩
theorem xw_lineEdges (N : ge_Ne (xi_ a_px) (xi_ a_py) (us_ a_used))
    (h : ∀ m n eu ev el ov, m ≤ 80 → or_ (xi_ a_px) (xi_ a_py) (us_ a_used) ov n 24 → el_Ok a_px a_py (ql_ ov n) m eu ev el → post (f_size, f_solid, nI m, f_treeEdges, a_used, a_px, a_py, a_alive, a_corner, a_across, a_bad, a_startsAt, a_endsAt, eu, ev, el, a_treeU, a_treeV, a_treeLen, a_leader, ov, a_mark)) : wpX_lineEdges post (f_size, f_solid, 0, f_treeEdges, a_used, a_px, a_py, a_alive, a_corner, a_across, a_bad, a_startsAt, a_endsAt, a_edgeU, a_edgeV, a_edgeLen, a_treeU, a_treeV, a_treeLen, a_leader, a_order, a_mark) := by
  unfold wpX_lineEdges
  dsimp only
  have L : ∀ f i : Nat, i ≤ 24 → 24 < f + i → ∀ n ov, or_ (xi_ a_px) (xi_ a_py) (us_ a_used) ov n i → wX_lineEdges_4 post f_size f_solid 0 f_treeEdges f (nI n) (nI i) a_used a_px a_py a_alive a_corner a_across a_bad a_startsAt a_endsAt a_edgeU a_edgeV a_edgeLen a_treeU a_treeV a_treeLen a_leader ov a_mark := by
    intro f
    induction f with
    | zero => intro i hi hf; omega
    | succ f ih =>
      intro i hi hf n ov O
      have O' := O
      obtain ⟨o1, o2, o3, o4⟩ := O
      rw [wX_lineEdges_4]
      refine pk_le 24 i (fun z => ?_) (fun z => ?_)
      · have e : i = 24 := by omega
        subst e
        exact ⟨25, xw_le82 (by omega) (fun j hj => ⟨(o1 j hj).1, (o1 j hj).2.1⟩) (fun m eu ev el hm E => h m n eu ev el ov hm O' E) 25 0 (by omega) (by omega) _ _ _ (el_0 (fun u v ⟨j, hj, _⟩ => by omega))⟩
      · rw [cl_ (n := i) (by omega)]
        refine ⟨in_ z, br_c (fun q => ?_) (fun q => ?_)⟩
        · rw [nI_1]
          refine nm_e (ih (i + 1) (by omega) (by omega) n ov ⟨fun j hj => ⟨(o1 j hj).1, by have := (o1 j hj).2.1; omega, (o1 j hj).2.2⟩, o2, fun c hc uc => ?_, by omega⟩)
          by_cases e : c = i
          · subst e; exact absurd q uc.2
          · exact o3 c (by omega) uc
        · have ui : us_ a_used i := ⟨z, q⟩
          refine ⟨n + 1, xw_le24 (by omega) z (fun j hj => ⟨(o1 j hj).1, by have := (o1 j hj).2.1; omega⟩) (fun k ov2 hk g1 g2 g3 g4 g5 => ?_) n (n + 1) (Nat.le_refl n) (by omega) ov (fun _ _ => rfl) (fun j h1 h2 => by omega) (fun j h1 h2 => by omega)⟩
          refine ih (i + 1) (by omega) (by omega) (n + 1) ov2 ?_
          have c1 : ∀ j, j < k → cn_ ov2 j = cn_ ov j := fun j hj => by unfold cn_; rw [g1 j hj]
          have c2 : cn_ ov2 k = i := cn_of g2 (by omega)
          have c3 : ∀ j, k ≤ j → j < n → cn_ ov2 (j + 1) = cn_ ov j := fun j h1 h2 => by unfold cn_; rw [g3 j h1 h2]
          have lo : ∀ j, j < k → bf_ (xi_ a_px) (xi_ a_py) (cn_ ov j) i := by
            intro j hj
            have last : bf_ (xi_ a_px) (xi_ a_py) (cn_ ov (k - 1)) i := by
              have n1 := g5 (k - 1) (by omega)
              have o := o1 (k - 1) (by omega)
              exact (bf_tot (N _ _ o.2.2 ui (by have := o.2.1; omega))).resolve_right n1
            by_cases e : j = k - 1
            · rw [e]; exact last
            · exact bf_tr (o2 j (k - 1) (by omega) (by omega)) last
          refine ⟨fun j hj => ?_, fun j l hjl hl => ?_, fun c hc uc => ?_, by omega⟩
          · by_cases e1 : j < k
            · rw [c1 j e1, g1 j e1]
              have := o1 j (by omega)
              exact ⟨this.1, by omega, this.2.2⟩
            by_cases e2 : j = k
            · rw [e2, c2, g2]; exact ⟨rfl, by omega, ui⟩
            · obtain ⟨j', rfl⟩ : ∃ j', j = j' + 1 := ⟨j - 1, by omega⟩
              rw [c3 j' (by omega) (by omega), g3 j' (by omega) (by omega)]
              have := o1 j' (by omega)
              exact ⟨this.1, by omega, this.2.2⟩
          · by_cases e1 : l < k
            · rw [c1 j (by omega), c1 l e1]; exact o2 j l hjl (by omega)
            by_cases e2 : l = k
            · rw [e2, c2, c1 j (by omega)]; exact lo j (by omega)
            · obtain ⟨l', rfl⟩ : ∃ l', l = l' + 1 := ⟨l - 1, by omega⟩
              rw [c3 l' (by omega) (by omega)]
              by_cases e3 : j < k
              · rw [c1 j e3]; exact o2 j l' (by omega) (by omega)
              by_cases e4 : j = k
              · rw [e4, c2]; exact g4 l' (by omega) (by omega)
              · obtain ⟨j', rfl⟩ : ∃ j', j = j' + 1 := ⟨j - 1, by omega⟩
                rw [c3 j' (by omega) (by omega)]; exact o2 j' l' (by omega) (by omega)
          · by_cases e : c = i
            · exact ⟨k, by omega, by rw [c2]; exact e.symm⟩
            · obtain ⟨j, hj, ej⟩ := o3 c (by omega) uc
              by_cases e1 : j < k
              · exact ⟨j, by omega, by rw [c1 j e1]; exact ej⟩
              · exact ⟨j + 1, by omega, by rw [c3 j (by omega) hj]; exact ej⟩
  exact ⟨25, L 25 0 (by omega) (by omega) 0 a_order ⟨fun j hj => by omega, fun j l _ hl => by omega, fun c hc => by omega, by omega⟩⟩
end
end
section
/-! the component's collectEdges as a whole -/
/-- the edge list and the tree of the points U -/
def eg_Ok (a_px a_py : Nat → Int32) (U : Nat → Prop) (line : Prop) (m : Nat) (a_edgeU a_edgeV a_edgeLen : Nat → Int32) : Prop :=
  m ≤ 80 ∧ ∃ Q : Nat → Nat → Prop, el_Ok a_px a_py Q m a_edgeU a_edgeV a_edgeLen ∧ (∀ u v, Q u v → U u ∧ U v ∧ u ≠ v) ∧
    (∀ a b, U a → U b → a ≠ b → ln_K (xi_ a_px) (xi_ a_py) U a b → Q a b ∨ Q b a) ∧ (line → ∀ u v, Q u v → ln_K (xi_ a_px) (xi_ a_py) U u v)
section
variable {f_size f_solid f_edges f_treeEdges : Int32} {a_used a_px a_py a_alive a_corner a_across a_bad a_startsAt a_endsAt a_edgeU a_edgeV a_edgeLen a_treeU a_treeV a_treeLen a_leader a_order a_mark : Nat → Int32} {post : SX → Prop}
theorem xw_ce79 {m : Nat} {U : Nat → Prop} {line : Prop} (Bd : ge_Bd (xi_ a_px) (xi_ a_py)) (hU : ∀ i, U i → i < 24) (N : ge_Ne (xi_ a_px) (xi_ a_py) U) (G : eg_Ok a_px a_py U line m a_edgeU a_edgeV a_edgeLen)
    (h : ∀ k tu tv tl lv, te_Ok (xi_ a_px) (xi_ a_py) U k tu tv tl → post (f_size, f_solid, nI m, nI k, a_used, a_px, a_py, a_alive, a_corner, a_across, a_bad, a_startsAt, a_endsAt, a_edgeU, a_edgeV, a_edgeLen, tu, tv, tl, lv, a_order, a_mark)) : wX_collectEdges_79 post f_size f_solid (nI m) f_treeEdges a_used a_px a_py a_alive a_corner a_across a_bad a_startsAt a_endsAt a_edgeU a_edgeV a_edgeLen a_treeU a_treeV a_treeLen a_leader a_order a_mark := by
  unfold wX_collectEdges_79
  obtain ⟨hm, Q, E, q1, q2, q3⟩ := G
  refine xw_pickTree hm hU N (fun i hi => ?_) (el_ed Bd E hU q1 q2) (fun k tu tv tl lv T => h k tu tv tl lv T)
  obtain ⟨u, v, e1, e2, e3, e4, e5, e6⟩ := E.1 i hi
  rw [cn_of e1 (by omega), cn_of e2 (by omega)]
  exact ⟨e1, e2⟩
theorem xw_collect0 (Bd : ge_Bd (xi_ a_px) (xi_ a_py)) (N : ge_Ne (xi_ a_px) (xi_ a_py) (us_ a_used)) (co : co_ (xi_ a_px) (xi_ a_py) (us_ a_used))
    (h : ∀ m k eu ev el tu tv tl lv ov, eg_Ok a_px a_py (us_ a_used) True m eu ev el → te_Ok (xi_ a_px) (xi_ a_py) (us_ a_used) k tu tv tl →
      post (f_size, 0, nI m, nI k, a_used, a_px, a_py, a_alive, a_corner, a_across, a_bad, a_startsAt, a_endsAt, eu, ev, el, tu, tv, tl, lv, ov, a_mark)) : wpX_collectEdges post (f_size, 0, f_edges, f_treeEdges, a_used, a_px, a_py, a_alive, a_corner, a_across, a_bad, a_startsAt, a_endsAt, a_edgeU, a_edgeV, a_edgeLen, a_treeU, a_treeV, a_treeLen, a_leader, a_order, a_mark) := by
  unfold wpX_collectEdges
  dsimp only
  refine br_t rfl (xw_lineEdges N (fun m n eu ev el ov hm O E => ?_))
  dsimp only
  have K := li_K (fun i h => h.1) N co O
  have G : eg_Ok a_px a_py (us_ a_used) True m eu ev el := ⟨hm, _, E, fun u v q => ⟨(K.1 u v q).1, (K.1 u v q).2.1, (K.1 u v q).2.2.1⟩, K.2, fun _ u v q => (K.1 u v q).2.2.2⟩
  exact xw_ce79 Bd (fun i h => h.1) N G (fun k tu tv tl lv T => h m k eu ev el tu tv tl lv ov G T)
theorem xw_collect1 (Bd : ge_Bd (xi_ a_px) (xi_ a_py)) (N : ge_Ne (xi_ a_px) (xi_ a_py) (us_ a_used)) (T : tx_Ok a_px a_py a_alive a_corner a_across (us_ a_used))
    (h : ∀ m k eu ev el tu tv tl lv, eg_Ok a_px a_py (us_ a_used) False m eu ev el → te_Ok (xi_ a_px) (xi_ a_py) (us_ a_used) k tu tv tl →
      post (f_size, 1, nI m, nI k, a_used, a_px, a_py, a_alive, a_corner, a_across, a_bad, a_startsAt, a_endsAt, eu, ev, el, tu, tv, tl, lv, a_order, a_mark)) : wpX_collectEdges post (f_size, 1, f_edges, f_treeEdges, a_used, a_px, a_py, a_alive, a_corner, a_across, a_bad, a_startsAt, a_endsAt, a_edgeU, a_edgeV, a_edgeLen, a_treeU, a_treeV, a_treeLen, a_leader, a_order, a_mark) := by
  obtain ⟨T, rc, ra⟩ := T
  have cnt := tr_cnt T
  obtain ⟨w, W, s1, s2, s3, P, O⟩ := T
  have ce := sl_edges O cnt
  unfold wpX_collectEdges
  dsimp only
  refine br_f (by decide) ⟨217, xw_ce14 rc ce (fun m eu ev el hm E => ?_) 217 0 (by omega) (by omega) 0 _ _ _ rfl (el_0 (fun u v ⟨e, he, _⟩ => by omega))⟩
  have G : eg_Ok a_px a_py (us_ a_used) False m eu ev el := by
    refine ⟨hm, _, E, fun u v ⟨e, he, s, e1, e2⟩ => ?_, fun a b ua ub ab hk => ?_, fun z => z.elim⟩
    · have F := O.1 e he s.1
      rw [e1, e2] at F
      have l1 := s.2.1
      have l2 := s.2.2
      rw [e1, e2] at l1
      rw [e2] at l2
      obtain ⟨su, sv, _, uv, _⟩ := F
      refine ⟨?_, sv.resolve_right l2, uv⟩
      rcases su with su | su
      · exact su
      · rcases sv with sv | sv
        · have := sv.1
          omega
        · exact absurd sv l2
    · obtain ⟨c, F⟩ := fa_K P ua ub ab hk
      have la := ua.1
      have lb := ub.1
      by_cases z : a < b
      · obtain ⟨e, he, ea, e1, e2, e3⟩ := O.2.1 a b c F
        exact Or.inl ⟨e, he, ⟨ea, by rw [e1, e2]; exact z, by rw [e2]; omega⟩, e1, e2⟩
      · obtain ⟨d, F2⟩ := fa_rev P F
        obtain ⟨e, he, ea, e1, e2, e3⟩ := O.2.1 b a d F2
        exact Or.inr ⟨e, he, ⟨ea, by rw [e1, e2]; omega, by rw [e2]; omega⟩, e1, e2⟩
  exact xw_ce79 Bd (fun i h => h.1) N G (fun k tu tv tl lv T => h m k eu ev el tu tv tl lv G T)
end
end
section
/-! the relation -/
def re_Ok (f_size f_solid f_edges f_treeEdges : Int32) (a_used a_px a_py a_alive a_corner a_across a_edgeU a_edgeV a_edgeLen a_treeU a_treeV a_treeLen : Nat → Int32) : Prop :=
  ge_Bd (xi_ a_px) (xi_ a_py) ∧ ge_Ne (xi_ a_px) (xi_ a_py) (us_ a_used) ∧ f_size = nI (fc_n (us_ a_used) 24) ∧ (rg_ a_corner 216 25 ∧ rg_ a_across 216 72) ∧
  ((f_solid = 0 ∧ co_ (xi_ a_px) (xi_ a_py) (us_ a_used)) ∨ (f_solid = 1 ∧ tx_Ok a_px a_py a_alive a_corner a_across (us_ a_used))) ∧
  (∃ m, f_edges = nI m ∧ eg_Ok a_px a_py (us_ a_used) (f_solid = 0) m a_edgeU a_edgeV a_edgeLen) ∧
  (∃ k, f_treeEdges = nI k ∧ te_Ok (xi_ a_px) (xi_ a_py) (us_ a_used) k a_treeU a_treeV a_treeLen)
def i_Rel (k : Nat) (u : SX) (v : SY) : Prop := match u, v with
  | (f_size, f_solid, f_edges, f_treeEdges, a_used, a_px, a_py, a_alive, a_corner, a_across, a_bad, a_startsAt, a_endsAt, a_edgeU, a_edgeV, a_edgeLen, a_treeU, a_treeV, a_treeLen, a_leader, a_order, a_mark), (a_here, a_xs, a_ys, a_way) => a_here = a_used ∧ a_xs = a_px ∧ a_ys = a_py ∧ re_Ok f_size f_solid f_edges f_treeEdges a_used a_px a_py a_alive a_corner a_across a_edgeU a_edgeV a_edgeLen a_treeU a_treeV a_treeLen
theorem zz_el {k : Nat} {P : SX → SY → Prop} (h : ∀ (f_size f_solid f_edges f_treeEdges : Int32) (a_used a_px a_py a_alive a_corner a_across a_bad a_startsAt a_endsAt a_edgeU a_edgeV a_edgeLen a_treeU a_treeV a_treeLen a_leader a_order a_mark a_way : Nat → Int32),
      re_Ok f_size f_solid f_edges f_treeEdges a_used a_px a_py a_alive a_corner a_across a_edgeU a_edgeV a_edgeLen a_treeU a_treeV a_treeLen → P (f_size, f_solid, f_edges, f_treeEdges, a_used, a_px, a_py, a_alive, a_corner, a_across, a_bad, a_startsAt, a_endsAt, a_edgeU, a_edgeV, a_edgeLen, a_treeU, a_treeV, a_treeLen, a_leader, a_order, a_mark) (a_used, a_px, a_py, a_way)) {u : SX} {v : SY} (I : i_Rel k u v) : P u v := by
  obtain ⟨f_size, f_solid, f_edges, f_treeEdges, a_used, a_px, a_py, a_alive, a_corner, a_across, a_bad, a_startsAt, a_endsAt, a_edgeU, a_edgeV, a_edgeLen, a_treeU, a_treeV, a_treeLen, a_leader, a_order, a_mark⟩ := u
  obtain ⟨a_here, a_xs, a_ys, a_way⟩ := v
  unfold i_Rel at I
  dsimp only at I
  obtain ⟨e1, e2, e3, R⟩ := I
  subst e1 e2 e3
  exact h _ _ _ _ _ _ _ _ _ _ _ _ _ _ _ _ _ _ _ _ _ _ _ R
theorem zz_mk {k : Nat} {f_size f_solid f_edges f_treeEdges : Int32} {a_used a_px a_py a_alive a_corner a_across a_bad a_startsAt a_endsAt a_edgeU a_edgeV a_edgeLen a_treeU a_treeV a_treeLen a_leader a_order a_mark : Nat → Int32} {a_way : Nat → Int32} (R : re_Ok f_size f_solid f_edges f_treeEdges a_used a_px a_py a_alive a_corner a_across a_edgeU a_edgeV a_edgeLen a_treeU a_treeV a_treeLen) : i_Rel k (f_size, f_solid, f_edges, f_treeEdges, a_used, a_px, a_py, a_alive, a_corner, a_across, a_bad, a_startsAt, a_endsAt, a_edgeU, a_edgeV, a_edgeLen, a_treeU, a_treeV, a_treeLen, a_leader, a_order, a_mark) (a_used, a_px, a_py, a_way) := by
  unfold i_Rel
  dsimp only
  exact ⟨rfl, rfl, rfl, R⟩
theorem i_up {k : Nat} {u : SX} {v : SY} (h : i_Rel k u v) : i_Rel (k + 4) u v := h
/-! the reference's small methods -/
section
variable {a_here a_xs a_ys a_way : Nat → Int32} {post : Int32 → Prop} {a b c d : Nat}
theorem yw_outside {p q : Int32} (h1 : ¬ ((0 ≤ p.toInt ∧ p.toInt ≤ 127) ∧ (0 ≤ q.toInt ∧ q.toInt ≤ 127)) → post 1) (h0 : (0 ≤ p.toInt ∧ p.toInt ≤ 127) ∧ (0 ≤ q.toInt ∧ q.toInt ≤ 127) → post 0) : wpY_outside post (a_here, a_xs, a_ys, a_way) p q := by
  unfold wpY_outside
  dsimp only
  have e : (127 : Int32).toInt = 127 := by decide
  refine br_c (fun z => h1 ?_) (fun z => br_c (fun z2 => h1 ?_) (fun z2 => br_c (fun z3 => h1 ?_) (fun z3 => br_c (fun z4 => h0 ?_) (fun z4 => h1 ?_))))
  · rw [i_lt0] at z; omega
  · rw [Int32.lt_iff_toInt_lt, e] at z2; omega
  · rw [i_lt0] at z3; omega
  · rw [i_lt0] at z z3
    rw [Int32.lt_iff_toInt_lt, e] at z2
    rw [Int32.le_iff_toInt_le, e] at z4
    omega
  · rw [Int32.le_iff_toInt_le, e] at z4
    omega
theorem yw_is {p : Int32} (h0 : (∀ i, i < 24 → p = nI i → a_here i = 0) → post 0) (h1 : ∀ i, i < 24 → p = nI i → ¬ a_here i = 0 → post 1) : wpY_is post (a_here, a_xs, a_ys, a_way) p := by
  unfold wpY_is
  dsimp only
  refine br_c (fun z => h0 (fun i hi e => ?_)) (fun z => br_c (fun q => h0 (fun i hi e => ?_)) (fun q => ?_))
  · rw [e] at z
    exact absurd z (nI_pos (by omega))
  · rw [e] at q
    exact absurd q (nI_ge (a := i) (b := 24) (by omega) (by omega))
  · obtain ⟨i, hi, e⟩ := nI_of z
    subst e
    have hi2 : i < 24 := by
      by_cases w : i < 24
      · exact w
      · exact absurd (nI_le (a := 24) (b := i) (by omega) hi) q
    rw [cl_ (by omega)]
    refine ⟨in_ (by omega), br_c (fun u => h0 (fun j hj e => ?_)) (fun u => h1 i (by omega) rfl u)⟩
    rw [nI_ne (by omega) (by omega)] at e
    rw [← e]; exact u
theorem yw_square (ha : a < 24) (hb : b < 24) (h : post (s32_ a_xs a_ys a b)) : wpY_square post (a_here, a_xs, a_ys, a_way) (nI a) (nI b) := by
  unfold wpY_square
  dsimp only
  rw [cl_ (n := a) (by omega), cl_ (n := b) (by omega)]
  exact ⟨in_ ha, in_ hb, nm_e ⟨in_ ha, in_ hb, nm_e h⟩⟩
theorem yw_turn (ha : a < 24) (hb : b < 24) (hc : c < 24) (h : post (t32_ a_xs a_ys a b c)) : wpY_turn post (a_here, a_xs, a_ys, a_way) (nI a) (nI b) (nI c) := by
  unfold wpY_turn
  dsimp only
  rw [cl_ (n := a) (by omega), cl_ (n := b) (by omega), cl_ (n := c) (by omega)]
  exact ⟨in_ hb, in_ ha, in_ hc, in_ ha, in_ hb, in_ ha, in_ hc, in_ ha, h⟩
theorem yw_between (B : ge_Bd (xi_ a_xs) (xi_ a_ys)) (ha : a < 24) (hb : b < 24) (hc : c < 24) (h1 : ge_D (xi_ a_xs) (xi_ a_ys) a b c ≤ 0 → post 1) (h0 : ¬ ge_D (xi_ a_xs) (xi_ a_ys) a b c ≤ 0 → post 0) : wpY_between post (a_here, a_xs, a_ys, a_way) (nI a) (nI b) (nI c) := by
  unfold wpY_between
  dsimp only
  rw [cl_ (n := a) (by omega), cl_ (n := b) (by omega), cl_ (n := c) (by omega)]
  have e := d32_i B ha hb hc
  refine ⟨in_ ha, in_ hc, in_ hb, in_ hc, in_ ha, in_ hc, in_ hb, in_ hc, nm_r (e' := d32_ a_xs a_ys a b c) rfl (br_c (fun z => h0 ?_) (fun z => h1 ?_))⟩
  · rw [i_0lt, e] at z; omega
  · rw [i_0lt, e] at z; omega
theorem yw_circle {post : Int64 → Prop} (B : ge_Bd (xi_ a_xs) (xi_ a_ys)) (ha : a < 24) (hb : b < 24) (hc : c < 24) (hd : d < 24) (h : ∀ r : Int64, r.toInt = ge_ic (xi_ a_xs) (xi_ a_ys) a b c d * ge_T (xi_ a_xs) (xi_ a_ys) a b c → post r) : wpY_circle post (a_here, a_xs, a_ys, a_way) (nI a) (nI b) (nI c) (nI d) := by
  have e1 := c64_i B ha hb hc hd
  have e2 := t32_i B ha hb hc
  have tb := ge_Tb B ha hb hc
  have m := ge_mb (p := ge_ic (xi_ a_xs) (xi_ a_ys) a b c d) (q := ge_T (xi_ a_xs) (xi_ a_ys) a b c) (k := 6000000000) (l := 32258) (by omega) (by omega) tb.1 tb.2
  have key : (c64_ a_xs a_ys a b c d * (t32_ a_xs a_ys a b c).toInt64).toInt = ge_ic (xi_ a_xs) (xi_ a_ys) a b c d * ge_T (xi_ a_xs) (xi_ a_ys) a b c := by
    rw [al_mul, Int32.toInt_toInt64, e1.1, e2]
    · rw [Int32.toInt_toInt64, e1.1, e2]; omega
    · rw [Int32.toInt_toInt64, e1.1, e2]; omega
  unfold wpY_circle
  dsimp only
  rw [cl_ (n := a) (by omega), cl_ (n := b) (by omega), cl_ (n := c) (by omega), cl_ (n := d) (by omega)]
  exact ⟨in_ ha, in_ hd, nm_e ⟨in_ ha, in_ hd, nm_e ⟨in_ hb, in_ hd, nm_e ⟨in_ hb, in_ hd, nm_e ⟨in_ hc, in_ hd, nm_e ⟨in_ hc, in_ hd, nm_e (nm_e (nm_e (nm_e (nm_e (yw_turn ha hb hc (h _ key))))))⟩⟩⟩⟩⟩⟩
theorem yw_size (h : post (nI (fc_n (us_ a_here) 24))) : wpY_size post (a_here, a_xs, a_ys, a_way) := by
  unfold wpY_size
  dsimp only
  have L : ∀ n k : Nat, k ≤ 24 → 24 < n + k → wY_size_4 post a_here a_xs a_ys a_way n (nI (fc_n (us_ a_here) k)) (nI k) := by
    intro n
    induction n with
    | zero => intro k hk hn; omega
    | succ n ih =>
      intro k hk hn
      rw [wY_size_4]
      refine pk_le 24 k (fun z => ?_) (fun z => ?_)
      · have e : k = 24 := by omega
        subst e; exact h
      · rw [cl_ (n := k) (by omega)]
        refine ⟨in_ z, br_c (fun q => ?_) (fun q => ?_)⟩
        · rw [nI_1]
          have g := ih (k + 1) (by omega) (by omega)
          rw [show fc_n (us_ a_here) (k + 1) = fc_n (us_ a_here) k + fc_b (us_ a_here k) from rfl, fc_bf (fun w => w.2 q), Nat.add_zero] at g
          exact nm_e g
        · rw [nI_1, nI_1]
          have g := ih (k + 1) (by omega) (by omega)
          rw [show fc_n (us_ a_here) (k + 1) = fc_n (us_ a_here) k + fc_b (us_ a_here k) from rfl, fc_bt (show us_ a_here k from ⟨z, q⟩)] at g
          exact nm_e (nm_e g)
  exact ⟨25, L 25 0 (by omega) (by omega)⟩
end
end
section
/-! the owed statements about the set itself -/
section
variable {f_size f_solid f_edges f_treeEdges : Int32} {a_used a_px a_py a_alive a_corner a_across a_bad a_startsAt a_endsAt a_edgeU a_edgeV a_edgeLen a_treeU a_treeV a_treeLen a_leader a_order a_mark : Nat → Int32}
theorem re_bd (R : re_Ok f_size f_solid f_edges f_treeEdges a_used a_px a_py a_alive a_corner a_across a_edgeU a_edgeV a_edgeLen a_treeU a_treeV a_treeLen) : ge_Bd (xi_ a_px) (xi_ a_py) := R.1
/-- build and collect -/
theorem xw_bc {post : SX → Prop} {P : SX → Prop} (Bd : ge_Bd (xi_ a_px) (xi_ a_py)) (N : ge_Ne (xi_ a_px) (xi_ a_py) (us_ a_used)) (hs : f_size = nI (fc_n (us_ a_used) 24)) (rc : rg_ a_corner 216 25) (ra : rg_ a_across 216 72)
    (h : ∀ f_solid f_edges f_treeEdges a_alive a_corner a_across a_bad a_startsAt a_endsAt a_edgeU a_edgeV a_edgeLen a_treeU a_treeV a_treeLen a_leader a_order, re_Ok f_size f_solid f_edges f_treeEdges a_used a_px a_py a_alive a_corner a_across a_edgeU a_edgeV a_edgeLen a_treeU a_treeV a_treeLen → post (f_size, f_solid, f_edges, f_treeEdges, a_used, a_px, a_py, a_alive, a_corner, a_across, a_bad, a_startsAt, a_endsAt, a_edgeU, a_edgeV, a_edgeLen, a_treeU, a_treeV, a_treeLen, a_leader, a_order, a_mark))
    (hP : ∀ u, wpX_collectEdges post u → P u) : wpX_build P (f_size, f_solid, f_edges, f_treeEdges, a_used, a_px, a_py, a_alive, a_corner, a_across, a_bad, a_startsAt, a_endsAt, a_edgeU, a_edgeV, a_edgeLen, a_treeU, a_treeV, a_treeLen, a_leader, a_order, a_mark) := by
  refine xw_build Bd N rc ra (fun av cv cr bv sv ev T => hP _ ?_) (fun av co => hP _ ?_)
  · refine xw_collect1 Bd N T (fun m k eu ew el tu tv tl lv G E => h _ _ _ _ _ _ _ _ _ _ _ _ _ _ _ _ _ ?_)
    obtain ⟨hm, Q, g1, g2, g3, g4⟩ := G
    exact ⟨Bd, N, hs, T.2, Or.inr ⟨rfl, T⟩, ⟨m, rfl, hm, Q, g1, g2, g3, fun z => absurd z (by decide)⟩, ⟨k, rfl, E⟩⟩
  · refine xw_collect0 Bd N co (fun m k eu ew el tu tv tl lv ov G E => h _ _ _ _ _ _ _ _ _ _ _ _ _ _ _ _ _ ?_)
    obtain ⟨hm, Q, g1, g2, g3, g4⟩ := G
    exact ⟨Bd, N, hs, ⟨rc, ra⟩, Or.inl ⟨rfl, co⟩, ⟨m, rfl, hm, Q, g1, g2, g3, fun _ => g4 trivial⟩, ⟨k, rfl, E⟩⟩
end
theorem us_up {a : Nat → Int32} {f : Nat} (hf : f < 24) (i : Nat) : us_ (upd a f 1) i ↔ us_ a i ∨ i = f := by
  unfold us_
  by_cases e : i = f
  · subst e
    rw [pk_us]
    exact ⟨fun _ => Or.inr rfl, fun _ => ⟨hf, by decide⟩⟩
  · rw [pk_un e]
    exact ⟨fun h => Or.inl h, fun h => h.resolve_right e⟩
theorem us_dn {a : Nat → Int32} {f : Nat} (i : Nat) : us_ (upd a f 0) i ↔ us_ a i ∧ i ≠ f := by
  unfold us_
  by_cases e : i = f
  · subst e
    rw [pk_us]
    exact ⟨fun h => absurd rfl h.2, fun h => absurd rfl h.2⟩
  · rw [pk_un e]
    exact ⟨fun h => ⟨h, e⟩, fun h => h.1⟩
theorem xi_s {a : Nat → Int32} {k : Nat} {v : Int32} : xi_ (upd a k v) k = v.toInt := by
  unfold xi_
  rw [pk_us]
theorem xi_n {a : Nat → Int32} {k i : Nat} {v : Int32} (h : i ≠ k) : xi_ (upd a k v) i = xi_ a i := by
  unfold xi_
  rw [pk_un h]
section
variable {f_size f_solid f_edges f_treeEdges : Int32} {a_used a_px a_py a_alive a_corner a_across a_bad a_startsAt a_endsAt a_edgeU a_edgeV a_edgeLen a_treeU a_treeV a_treeLen a_leader a_order a_mark : Nat → Int32}
theorem xw_put {post : Int32 → SX → Prop} {f : Nat} {x1 x2 : Int32} (R : re_Ok f_size f_solid f_edges f_treeEdges a_used a_px a_py a_alive a_corner a_across a_edgeU a_edgeV a_edgeLen a_treeU a_treeV a_treeLen)
    (hf : f < 24) (uf : a_used f = 0) (hx : 0 ≤ x1.toInt ∧ x1.toInt ≤ 127) (hy : 0 ≤ x2.toInt ∧ x2.toInt ≤ 127) (nd : ∀ i, i < 24 → ¬ a_used i = 0 → ¬ (a_px i = x1 ∧ a_py i = x2))
    (h : ∀ f_size f_solid f_edges f_treeEdges a_alive a_corner a_across a_bad a_startsAt a_endsAt a_edgeU a_edgeV a_edgeLen a_treeU a_treeV a_treeLen a_leader a_order, re_Ok f_size f_solid f_edges f_treeEdges (upd a_used f 1) (upd a_px f x1) (upd a_py f x2) a_alive a_corner a_across a_edgeU a_edgeV a_edgeLen a_treeU a_treeV a_treeLen → post (nI f) (f_size, f_solid, f_edges, f_treeEdges, upd a_used f 1, upd a_px f x1, upd a_py f x2, a_alive, a_corner, a_across, a_bad, a_startsAt, a_endsAt, a_edgeU, a_edgeV, a_edgeLen, a_treeU, a_treeV, a_treeLen, a_leader, a_order, a_mark))
    {P Q : SX → Prop} (hP : ∀ u, wpX_collectEdges (fun u => post (nI f) u) u → P u) (hQ : ∀ u, wpX_collectEdges (fun u => post (nI f) u) u → Q u) :
    (f_solid = 0 → wpX_build P (f_size + 1, f_solid, f_edges, f_treeEdges, upd a_used f 1, upd a_px f x1, upd a_py f x2, a_alive, a_corner, a_across, a_bad, a_startsAt, a_endsAt, a_edgeU, a_edgeV, a_edgeLen, a_treeU, a_treeV, a_treeLen, a_leader, a_order, a_mark)) ∧ (¬ f_solid = 0 → wpX_insert Q (f_size + 1, f_solid, f_edges, f_treeEdges, upd a_used f 1, upd a_px f x1, upd a_py f x2, a_alive, a_corner, a_across, a_bad, a_startsAt, a_endsAt, a_edgeU, a_edgeV, a_edgeLen, a_treeU, a_treeV, a_treeLen, a_leader, a_order, a_mark) (nI f)) := by
  obtain ⟨Bd, N, hs, ⟨rc, ra⟩, hsol, _, _⟩ := R
  have nuf : ¬ us_ a_used f := fun z => z.2 uf
  have Bd2 : ge_Bd (xi_ (upd a_px f x1)) (xi_ (upd a_py f x2)) := by
    intro i hi
    by_cases e : i = f
    · subst e; rw [xi_s, xi_s]; exact ⟨hx, hy⟩
    · rw [xi_n e, xi_n e]; exact Bd i hi
  have ap : ∀ i, us_ a_used i → xi_ (upd a_px f x1) i ≠ xi_ (upd a_px f x1) f ∨ xi_ (upd a_py f x2) i ≠ xi_ (upd a_py f x2) f := by
    intro i ui
    have e : i ≠ f := fun z => nuf (z ▸ ui)
    rw [xi_n e, xi_n e, xi_s, xi_s]
    have := nd i ui.1 ui.2
    rw [← Int32.toInt_inj, ← Int32.toInt_inj] at this
    show (a_px i).toInt ≠ x1.toInt ∨ (a_py i).toInt ≠ x2.toInt
    omega
  have N2 : ge_Ne (xi_ (upd a_px f x1)) (xi_ (upd a_py f x2)) (us_ (upd a_used f 1)) := by
    intro i j ui0 uj0 ij
    rcases (us_up hf i).mp ui0 with ui | ui
    · rcases (us_up hf j).mp uj0 with uj | uj
      · have e1 : i ≠ f := fun z => nuf (z ▸ ui)
        have e2 : j ≠ f := fun z => nuf (z ▸ uj)
        rw [xi_n e1, xi_n e1, xi_n e2, xi_n e2]
        exact N i j ui uj ij
      · rw [uj]; exact ap i ui
    · rcases (us_up hf j).mp uj0 with uj | uj
      · rw [ui]
        have := ap j uj
        omega
      · exact absurd (ui.trans uj.symm) ij
  have hs2 : f_size + 1 = nI (fc_n (us_ (upd a_used f 1)) 24) := by
    rw [hs, nI_1, fc_in (P := us_ a_used) (Q := us_ (upd a_used f 1)) hf nuf (fun i _ => us_up hf i)]
  refine ⟨fun z => xw_bc Bd2 N2 hs2 rc ra (fun _ _ _ _ _ _ _ _ _ _ _ _ _ _ _ _ _ R2 => h _ _ _ _ _ _ _ _ _ _ _ _ _ _ _ _ _ _ R2) hP, fun z => ?_⟩
  rcases hsol with ⟨s0, _⟩ | ⟨s1, T⟩
  · exact absurd s0 z
  · subst s1
    have T2 : tx_Ok (upd a_px f x1) (upd a_py f x2) a_alive a_corner a_across (us_ a_used) := by
      refine ⟨tr_cg (fun i ui => ?_) (fun i ui => ?_) Bd2 T.1, T.2⟩
      · exact xi_n (fun e => nuf (e ▸ ui))
      · exact xi_n (fun e => nuf (e ▸ ui))
    refine xw_insert T2 hf nuf ap (fun av cv cr bv sv ev T3 => hQ _ ?_)
    have T4 := tx_cgU (fun i => (us_up (a := a_used) hf i).symm) T3
    refine xw_collect1 Bd2 N2 T4 (fun m k eu ew el tu tv tl lv G E => h _ _ _ _ _ _ _ _ _ _ _ _ _ _ _ _ _ _ ?_)
    obtain ⟨hm, Q, g1, g2, g3, g4⟩ := G
    exact ⟨Bd2, N2, hs2, T4.2, Or.inr ⟨rfl, T4⟩, ⟨m, rfl, hm, Q, g1, g2, g3, fun z => absurd z (by decide)⟩, ⟨k, rfl, E⟩⟩
/-- the search for a free name -/
theorem xw_add22 {post : Int32 → SX → Prop} {x1 x2 : Int32} (R : re_Ok f_size f_solid f_edges f_treeEdges a_used a_px a_py a_alive a_corner a_across a_edgeU a_edgeV a_edgeLen a_treeU a_treeV a_treeLen)
    (hx : 0 ≤ x1.toInt ∧ x1.toInt ≤ 127) (hy : 0 ≤ x2.toInt ∧ x2.toInt ≤ 127)
    (hd : (∃ i, i < 24 ∧ ¬ a_used i = 0 ∧ a_px i = x1 ∧ a_py i = x2) → post (-2) (f_size, f_solid, f_edges, f_treeEdges, a_used, a_px, a_py, a_alive, a_corner, a_across, a_bad, a_startsAt, a_endsAt, a_edgeU, a_edgeV, a_edgeLen, a_treeU, a_treeV, a_treeLen, a_leader, a_order, a_mark)) (hF : (∀ i, i < 24 → ¬ a_used i = 0 ∧ ¬ (a_px i = x1 ∧ a_py i = x2)) → post (-3) (f_size, f_solid, f_edges, f_treeEdges, a_used, a_px, a_py, a_alive, a_corner, a_across, a_bad, a_startsAt, a_endsAt, a_edgeU, a_edgeV, a_edgeLen, a_treeU, a_treeV, a_treeLen, a_leader, a_order, a_mark))
    (h : ∀ f, f < 24 → a_used f = 0 → (∀ j, j < f → ¬ a_used j = 0) → (∀ i, i < 24 → ¬ a_used i = 0 → ¬ (a_px i = x1 ∧ a_py i = x2)) →
      ∀ f_size f_solid f_edges f_treeEdges a_alive a_corner a_across a_bad a_startsAt a_endsAt a_edgeU a_edgeV a_edgeLen a_treeU a_treeV a_treeLen a_leader a_order, re_Ok f_size f_solid f_edges f_treeEdges (upd a_used f 1) (upd a_px f x1) (upd a_py f x2) a_alive a_corner a_across a_edgeU a_edgeV a_edgeLen a_treeU a_treeV a_treeLen → post (nI f) (f_size, f_solid, f_edges, f_treeEdges, upd a_used f 1, upd a_px f x1, upd a_py f x2, a_alive, a_corner, a_across, a_bad, a_startsAt, a_endsAt, a_edgeU, a_edgeV, a_edgeLen, a_treeU, a_treeV, a_treeLen, a_leader, a_order, a_mark)) :
    wpX_add post (f_size, f_solid, f_edges, f_treeEdges, a_used, a_px, a_py, a_alive, a_corner, a_across, a_bad, a_startsAt, a_endsAt, a_edgeU, a_edgeV, a_edgeLen, a_treeU, a_treeV, a_treeLen, a_leader, a_order, a_mark) x1 x2 := by
  have stop : ∀ n r, ((r = -1 ∧ ∀ i, i < 24 → ¬ a_used i = 0) ∨ ∃ f, r = nI f ∧ f < 24 ∧ a_used f = 0 ∧ ∀ j, j < f → ¬ a_used j = 0) → (∀ i, i < 24 → ¬ a_used i = 0 → ¬ (a_px i = x1 ∧ a_py i = x2)) → wX_add_22 post x1 x2 f_size f_solid f_edges f_treeEdges a_used a_px a_py a_alive a_corner a_across a_bad a_startsAt a_endsAt a_edgeU a_edgeV a_edgeLen a_treeU a_treeV a_treeLen a_leader a_order a_mark (n + 1) r (-1) := by
    intro n r hr nd
    rw [wX_add_22]
    refine br_t (by decide) ?_
    rcases hr with ⟨e, hr⟩ | ⟨f, e, hf, uf, hj⟩
    · subst e
      exact br_f (by decide) (hF (fun i hi => ⟨hr i hi, nd i hi (hr i hi)⟩))
    · subst e
      rw [cl_ (n := f) (by omega), vb1_]
      refine br_t (nI_pos' (by omega)) ⟨in_ hf, nm_e ⟨in_ hf, nm_e ⟨in_ hf, nm_e (nm_e (xw_put R hf uf hx hy nd (h f hf uf hj nd) (fun u hu => ?_) (fun u hu => ?_)))⟩⟩⟩
      · obtain ⟨f_size, f_solid, f_edges, f_treeEdges, a_used, a_px, a_py, a_alive, a_corner, a_across, a_bad, a_startsAt, a_endsAt, a_edgeU, a_edgeV, a_edgeLen, a_treeU, a_treeV, a_treeLen, a_leader, a_order, a_mark⟩ := u
        exact hu
      · obtain ⟨f_size, f_solid, f_edges, f_treeEdges, a_used, a_px, a_py, a_alive, a_corner, a_across, a_bad, a_startsAt, a_endsAt, a_edgeU, a_edgeV, a_edgeLen, a_treeU, a_treeV, a_treeLen, a_leader, a_order, a_mark⟩ := u
        exact hu
  have L : ∀ i n r, i < 24 → i + 1 < n → ((r = -1 ∧ ∀ j, i < j → j < 24 → ¬ a_used j = 0) ∨ ∃ f, r = nI f ∧ f < 24 ∧ i < f ∧ a_used f = 0 ∧ ∀ j, i < j → j < f → ¬ a_used j = 0) → (∀ j, i < j → j < 24 → ¬ a_used j = 0 → ¬ (a_px j = x1 ∧ a_py j = x2)) → wX_add_22 post x1 x2 f_size f_solid f_edges f_treeEdges a_used a_px a_py a_alive a_corner a_across a_bad a_startsAt a_endsAt a_edgeU a_edgeV a_edgeLen a_treeU a_treeV a_treeLen a_leader a_order a_mark n r (nI i) := by
    intro i
    induction i with
    | zero =>
      intro n r hi hn hr nd
      obtain ⟨n, rfl⟩ : ∃ n', n = n' + 2 := ⟨n - 2, by omega⟩
      rw [wX_add_22]
      have j62 : (¬ a_used 0 = 0 → ¬ (a_px 0 = x1 ∧ a_py 0 = x2)) → wX_add_62 post (wX_add_22 post x1 x2 f_size f_solid f_edges f_treeEdges a_used a_px a_py a_alive a_corner a_across a_bad a_startsAt a_endsAt a_edgeU a_edgeV a_edgeLen a_treeU a_treeV a_treeLen a_leader a_order a_mark (n + 1)) x1 x2 r (nI 0) f_size f_solid f_edges f_treeEdges a_used a_px a_py a_alive a_corner a_across a_bad a_startsAt a_endsAt a_edgeU a_edgeV a_edgeLen a_treeU a_treeV a_treeLen a_leader a_order a_mark := by
        intro nz
        unfold wX_add_62
        have nd' : ∀ i, i < 24 → ¬ a_used i = 0 → ¬ (a_px i = x1 ∧ a_py i = x2) := by
          intro i hi ui
          by_cases e : i = 0
          · subst e; exact nz ui
          · exact nd i (by omega) hi ui
        rw [cl_ (n := 0) (by omega), show nI 0 + (-1) = -1 by decide]
        refine ⟨in_ (by omega), br_c (fun q => nm_e (stop n _ (Or.inr ⟨0, rfl, by omega, q, fun j hj => by omega⟩) nd')) (fun q => nm_e (stop n r ?_ nd'))⟩
        rcases hr with ⟨e, hr⟩ | ⟨f, e, hf, f0, uf, hj⟩
        · refine Or.inl ⟨e, fun j hj => ?_⟩
          by_cases z : j = 0
          · rw [z]; exact q
          · exact hr j (by omega) hj
        · refine Or.inr ⟨f, e, hf, uf, fun j hj' => ?_⟩
          by_cases z : j = 0
          · rw [z]; exact q
          · exact hj j (by omega) hj'
      dsimp only
      rw [cl_ (n := 0) (by omega)]
      refine br_f (by decide) ⟨in_ (by omega), br_c (fun q => j62 (fun z => absurd q z)) (fun q => ⟨in_ (by omega), br_c (fun q1 => ⟨in_ (by omega), br_c (fun q2 => hd ⟨0, by omega, q, q1, q2⟩) (fun q2 => j62 (fun _ z => q2 z.2))⟩) (fun q1 => j62 (fun _ z => q1 z.1))⟩)⟩
    | succ i ih =>
      intro n r hi hn hr nd
      obtain ⟨n, rfl⟩ : ∃ n', n = n' + 1 := ⟨n - 1, by omega⟩
      rw [wX_add_22]
      have j62 : (¬ a_used (i + 1) = 0 → ¬ (a_px (i + 1) = x1 ∧ a_py (i + 1) = x2)) → wX_add_62 post (wX_add_22 post x1 x2 f_size f_solid f_edges f_treeEdges a_used a_px a_py a_alive a_corner a_across a_bad a_startsAt a_endsAt a_edgeU a_edgeV a_edgeLen a_treeU a_treeV a_treeLen a_leader a_order a_mark n) x1 x2 r (nI (i + 1)) f_size f_solid f_edges f_treeEdges a_used a_px a_py a_alive a_corner a_across a_bad a_startsAt a_endsAt a_edgeU a_edgeV a_edgeLen a_treeU a_treeV a_treeLen a_leader a_order a_mark := by
        intro nz
        unfold wX_add_62
        have nd' : ∀ j, i < j → j < 24 → ¬ a_used j = 0 → ¬ (a_px j = x1 ∧ a_py j = x2) := by
          intro j h1 h2 uj
          by_cases e : j = i + 1
          · subst e; exact nz uj
          · exact nd j (by omega) h2 uj
        rw [cl_ (n := i + 1) (by omega), pk_m1]
        refine ⟨in_ (by omega), br_c (fun q => nm_e (ih n _ (by omega) (by omega) (Or.inr ⟨i + 1, rfl, by omega, by omega, q, fun j h1 h2 => by omega⟩) nd')) (fun q => nm_e (ih n r (by omega) (by omega) ?_ nd'))⟩
        rcases hr with ⟨e, hr⟩ | ⟨f, e, hf, f0, uf, hj⟩
        · refine Or.inl ⟨e, fun j h1 h2 => ?_⟩
          by_cases z : j = i + 1
          · rw [z]; exact q
          · exact hr j (by omega) h2
        · refine Or.inr ⟨f, e, hf, by omega, uf, fun j h1 h2 => ?_⟩
          by_cases z : j = i + 1
          · rw [z]; exact q
          · exact hj j (by omega) h2
      dsimp only
      rw [cl_ (n := i + 1) (by omega)]
      refine br_f (nI_pos (by omega)) ⟨in_ (by omega), br_c (fun q => j62 (fun z => absurd q z)) (fun q => ⟨in_ (by omega), br_c (fun q1 => ⟨in_ (by omega), br_c (fun q2 => hd ⟨i + 1, by omega, q, q1, q2⟩) (fun q2 => j62 (fun _ z => q2 z.2))⟩) (fun q1 => j62 (fun _ z => q1 z.1))⟩)⟩
  unfold wpX_add
  dsimp only
  refine xw_offGrid (fun z => absurd hx z) (fun _ => br_t rfl (xw_offGrid (fun z => absurd hy z) (fun _ => br_t rfl ⟨26, L 23 26 (-1) (by omega) (by omega) (Or.inl ⟨rfl, fun j h1 h2 => by omega⟩) (fun j h1 h2 => by omega)⟩)))
end
section
variable {a_here a_xs a_ys a_way : Nat → Int32}
theorem yw_add22 {post : Int32 → SY → Prop} {x1 x2 : Int32} (hx : 0 ≤ x1.toInt ∧ x1.toInt ≤ 127) (hy : 0 ≤ x2.toInt ∧ x2.toInt ≤ 127)
    (hd : (∃ i, i < 24 ∧ ¬ a_here i = 0 ∧ a_xs i = x1 ∧ a_ys i = x2) → post (-2) (a_here, a_xs, a_ys, a_way)) (hF : (∀ i, i < 24 → ¬ a_here i = 0 ∧ ¬ (a_xs i = x1 ∧ a_ys i = x2)) → post (-3) (a_here, a_xs, a_ys, a_way))
    (h : ∀ f, f < 24 → a_here f = 0 → (∀ j, j < f → ¬ a_here j = 0) → (∀ i, i < 24 → ¬ a_here i = 0 → ¬ (a_xs i = x1 ∧ a_ys i = x2)) → post (nI f) (upd a_here f 1, upd a_xs f x1, upd a_ys f x2, a_way)) :
    wpY_add post (a_here, a_xs, a_ys, a_way) x1 x2 := by
  have stop : ∀ n r, ((r = -1 ∧ ∀ i, i < 24 → ¬ a_here i = 0) ∨ ∃ f, r = nI f ∧ f < 24 ∧ a_here f = 0 ∧ ∀ j, j < f → ¬ a_here j = 0) → (∀ i, i < 24 → ¬ a_here i = 0 → ¬ (a_xs i = x1 ∧ a_ys i = x2)) → wY_add_17 post x1 x2 a_here a_xs a_ys a_way (n + 1) r (-1) := by
    intro n r hr nd
    rw [wY_add_17]
    refine br_t (by decide) ?_
    rcases hr with ⟨e, hr⟩ | ⟨f, e, hf, uf, hj⟩
    · subst e
      exact br_f (by decide) (hF (fun i hi => ⟨hr i hi, nd i hi (hr i hi)⟩))
    · subst e
      rw [cl_ (n := f) (by omega), vb1_]
      exact br_t (nI_pos' (by omega)) ⟨in_ hf, nm_e ⟨in_ hf, nm_e ⟨in_ hf, nm_e (h f hf uf hj nd)⟩⟩⟩
  have L : ∀ i n r, i < 24 → i + 1 < n → ((r = -1 ∧ ∀ j, i < j → j < 24 → ¬ a_here j = 0) ∨ ∃ f, r = nI f ∧ f < 24 ∧ i < f ∧ a_here f = 0 ∧ ∀ j, i < j → j < f → ¬ a_here j = 0) → (∀ j, i < j → j < 24 → ¬ a_here j = 0 → ¬ (a_xs j = x1 ∧ a_ys j = x2)) → wY_add_17 post x1 x2 a_here a_xs a_ys a_way n r (nI i) := by
    intro i
    induction i with
    | zero =>
      intro n r hi hn hr nd
      obtain ⟨n, rfl⟩ : ∃ n', n = n' + 2 := ⟨n - 2, by omega⟩
      rw [wY_add_17]
      have j62 : (¬ a_here 0 = 0 → ¬ (a_xs 0 = x1 ∧ a_ys 0 = x2)) → wY_add_57 post (wY_add_17 post x1 x2 a_here a_xs a_ys a_way (n + 1)) x1 x2 r (nI 0) a_here a_xs a_ys a_way := by
        intro nz
        unfold wY_add_57
        have nd' : ∀ i, i < 24 → ¬ a_here i = 0 → ¬ (a_xs i = x1 ∧ a_ys i = x2) := by
          intro i hi ui
          by_cases e : i = 0
          · subst e; exact nz ui
          · exact nd i (by omega) hi ui
        rw [cl_ (n := 0) (by omega), show nI 0 + (-1) = -1 by decide]
        refine ⟨in_ (by omega), br_c (fun q => nm_e (stop n _ (Or.inr ⟨0, rfl, by omega, q, fun j hj => by omega⟩) nd')) (fun q => nm_e (stop n r ?_ nd'))⟩
        rcases hr with ⟨e, hr⟩ | ⟨f, e, hf, f0, uf, hj⟩
        · refine Or.inl ⟨e, fun j hj => ?_⟩
          by_cases z : j = 0
          · rw [z]; exact q
          · exact hr j (by omega) hj
        · refine Or.inr ⟨f, e, hf, uf, fun j hj' => ?_⟩
          by_cases z : j = 0
          · rw [z]; exact q
          · exact hj j (by omega) hj'
      dsimp only
      rw [cl_ (n := 0) (by omega)]
      refine br_f (by decide) ⟨in_ (by omega), br_c (fun q => j62 (fun z => absurd q z)) (fun q => ⟨in_ (by omega), br_c (fun q1 => ⟨in_ (by omega), br_c (fun q2 => hd ⟨0, by omega, q, q1, q2⟩) (fun q2 => j62 (fun _ z => q2 z.2))⟩) (fun q1 => j62 (fun _ z => q1 z.1))⟩)⟩
    | succ i ih =>
      intro n r hi hn hr nd
      obtain ⟨n, rfl⟩ : ∃ n', n = n' + 1 := ⟨n - 1, by omega⟩
      rw [wY_add_17]
      have j62 : (¬ a_here (i + 1) = 0 → ¬ (a_xs (i + 1) = x1 ∧ a_ys (i + 1) = x2)) → wY_add_57 post (wY_add_17 post x1 x2 a_here a_xs a_ys a_way n) x1 x2 r (nI (i + 1)) a_here a_xs a_ys a_way := by
        intro nz
        unfold wY_add_57
        have nd' : ∀ j, i < j → j < 24 → ¬ a_here j = 0 → ¬ (a_xs j = x1 ∧ a_ys j = x2) := by
          intro j h1 h2 uj
          by_cases e : j = i + 1
          · subst e; exact nz uj
          · exact nd j (by omega) h2 uj
        rw [cl_ (n := i + 1) (by omega), pk_m1]
        refine ⟨in_ (by omega), br_c (fun q => nm_e (ih n _ (by omega) (by omega) (Or.inr ⟨i + 1, rfl, by omega, by omega, q, fun j h1 h2 => by omega⟩) nd')) (fun q => nm_e (ih n r (by omega) (by omega) ?_ nd'))⟩
        rcases hr with ⟨e, hr⟩ | ⟨f, e, hf, f0, uf, hj⟩
        · refine Or.inl ⟨e, fun j h1 h2 => ?_⟩
          by_cases z : j = i + 1
          · rw [z]; exact q
          · exact hr j (by omega) h2
        · refine Or.inr ⟨f, e, hf, by omega, uf, fun j h1 h2 => ?_⟩
          by_cases z : j = i + 1
          · rw [z]; exact q
          · exact hj j (by omega) h2
      dsimp only
      rw [cl_ (n := i + 1) (by omega)]
      refine br_f (nI_pos (by omega)) ⟨in_ (by omega), br_c (fun q => j62 (fun z => absurd q z)) (fun q => ⟨in_ (by omega), br_c (fun q1 => ⟨in_ (by omega), br_c (fun q2 => hd ⟨i + 1, by omega, q, q1, q2⟩) (fun q2 => j62 (fun _ z => q2 z.2))⟩) (fun q1 => j62 (fun _ z => q1 z.1))⟩)⟩
  unfold wpY_add
  dsimp only
  exact yw_outside (fun z => absurd ⟨hx, hy⟩ z) (fun _ => br_t rfl ⟨26, L 23 26 (-1) (by omega) (by omega) (Or.inl ⟨rfl, fun j h1 h2 => by omega⟩) (fun j h1 h2 => by omega)⟩)
end
theorem i_vc_add {k : Nat} {u : SX} {v : SY} (I : i_Rel k u v) (hk : k + 4 ≤ 2048) (v1 : Int32) (v2 : Int32) : wpX_add (fun r u' => wpY_add (fun r' v' => r' = r ∧ i_Rel (k + 4) u' v') v v1 v2) u v1 v2 := by
  refine zz_el (P := fun u v => wpX_add (fun r u' => wpY_add (fun r' v' => r' = r ∧ i_Rel (k + 4) u' v') v v1 v2) u v1 v2) ?_ I
  intro f_size f_solid f_edges f_treeEdges a_used a_px a_py a_alive a_corner a_across a_bad a_startsAt a_endsAt a_edgeU a_edgeV a_edgeLen a_treeU a_treeV a_treeLen a_leader a_order a_mark a_way R
  by_cases hg : (0 ≤ v1.toInt ∧ v1.toInt ≤ 127) ∧ (0 ≤ v2.toInt ∧ v2.toInt ≤ 127)
  · refine xw_add22 R hg.1 hg.2 (fun q => ?_) (fun q => ?_) (fun f hf uf hj nd fs fo fe ft av cv cr bv sv ev eu ew el tu tv tl lv ov R2 => ?_)
    · refine yw_add22 hg.1 hg.2 (fun _ => ⟨rfl, zz_mk R⟩) (fun w => ?_) (fun f hf uf hj nd => ?_)
      · obtain ⟨i, hi, h1, h2⟩ := q
        exact absurd h2 (w i hi).2
      · obtain ⟨i, hi, h1, h2⟩ := q
        exact absurd h2 (nd i hi h1)
    · refine yw_add22 hg.1 hg.2 (fun ⟨i, hi, h1, h2⟩ => absurd h2 (q i hi).2) (fun _ => ⟨rfl, zz_mk R⟩) (fun f hf uf hj nd => absurd uf (q f hf).1)
    · refine yw_add22 hg.1 hg.2 (fun ⟨i, hi, h1, h2⟩ => absurd h2 (nd i hi h1)) (fun w => absurd uf (w f hf).1) (fun f' hf' uf' hj' nd' => ?_)
      have e : f' = f := by
        by_cases z1 : f' < f
        · exact absurd uf' (hj f' z1)
        · by_cases z2 : f < f'
          · exact absurd uf (hj' f z2)
          · omega
      subst e
      exact ⟨rfl, zz_mk R2⟩
  · have yo : wpY_add (fun r' v' => r' = (-1 : Int32) ∧ i_Rel (k + 4) (f_size, f_solid, f_edges, f_treeEdges, a_used, a_px, a_py, a_alive, a_corner, a_across, a_bad, a_startsAt, a_endsAt, a_edgeU, a_edgeV, a_edgeLen, a_treeU, a_treeV, a_treeLen, a_leader, a_order, a_mark) v') (a_used, a_px, a_py, a_way) v1 v2 := by
      unfold wpY_add
      dsimp only
      exact yw_outside (fun _ => br_f (by decide) ⟨rfl, zz_mk R⟩) (fun z => absurd z hg)
    unfold wpX_add
    dsimp only
    refine xw_offGrid (fun z => br_f (by decide) yo) (fun z => br_t rfl (xw_offGrid (fun z2 => br_f (by decide) yo) (fun z2 => absurd ⟨z, z2⟩ hg)))
end
section
/-! the owed statements: start, remove, clear, size, coordinates -/
theorem re_0 : re_Ok 0 0 0 0 (fun _ => 0) (fun _ => 0) (fun _ => 0) (fun _ => 0) (fun _ => 0) (fun _ => 0) (fun _ => 0) (fun _ => 0) (fun _ => 0) (fun _ => 0) (fun _ => 0) (fun _ => 0) := by
  have nu : ∀ i, ¬ us_ (fun _ => 0) i := fun i h => h.2 rfl
  have rg : ∀ n m : Nat, 0 < m → rg_ (fun _ => 0) n m := by
    intro n m hm e he
    have z : cn_ (fun _ => 0) e = 0 := by
      show (0 : Int32).toNatClampNeg = 0
      decide
    rw [z]
    exact ⟨rfl, hm⟩
  refine ⟨fun i hi => ?_, fun i j ui => absurd ui (nu i), ?_, ⟨rg _ _ (by omega), rg _ _ (by omega)⟩, Or.inl ⟨rfl, fun a b c ua => absurd ua (nu a)⟩, ⟨0, rfl, by omega, fun _ _ => False, el_0 (fun _ _ z => z), fun u v z => z.elim, fun a b ua => absurd ua (nu a), fun _ u v z => z.elim⟩, ⟨0, rfl, fun e he => by omega, fun e he => by omega, ⟨fun j hj => by omega, fun i j _ hj => by omega, fun k' L _ _ _ a b ua => absurd ua (nu a)⟩, by omega⟩⟩
  · show (0 ≤ (0 : Int32).toInt ∧ (0 : Int32).toInt ≤ 127) ∧ (0 ≤ (0 : Int32).toInt ∧ (0 : Int32).toInt ≤ 127)
    decide
  · rw [fc_z 24 (fun i _ => nu i)]
    rfl
theorem i_vc0 : wpX_init (fun u => wpY_init (fun v => i_Rel 0 u v)) := by
  unfold wpX_init wpY_init
  exact zz_mk re_0
theorem i_vc_remove {k : Nat} {u : SX} {v : SY} (I : i_Rel k u v) (hk : k + 4 ≤ 2048) (v1 : Int32) : wpX_remove (fun r u' => wpY_remove (fun r' v' => r' = r ∧ i_Rel (k + 4) u' v') v v1) u v1 := by
  refine zz_el (P := fun u v => wpX_remove (fun r u' => wpY_remove (fun r' v' => r' = r ∧ i_Rel (k + 4) u' v') v v1) u v1) ?_ I
  intro f_size f_solid f_edges f_treeEdges a_used a_px a_py a_alive a_corner a_across a_bad a_startsAt a_endsAt a_edgeU a_edgeV a_edgeLen a_treeU a_treeV a_treeLen a_leader a_order a_mark a_way R
  unfold wpX_remove
  dsimp only
  refine xw_noPoint (fun w => br_f (by decide) ?_) (fun i hi e ui => br_t rfl ?_)
  · unfold wpY_remove
    dsimp only
    refine yw_is (fun _ => br_t rfl ⟨rfl, zz_mk R⟩) (fun i hi e ui => absurd (w i hi e) ui)
  · subst e
    obtain ⟨Bd, N, hs, ⟨rc, ra⟩, hsol, _, _⟩ := R
    rw [cl_ (n := i) (by omega), vb0_]
    have us : us_ a_used i := ⟨hi, ui⟩
    have fo := fc_out (P := us_ a_used) (k := i) us 24 hi
    have e2 : fc_n (fun j => us_ a_used j ∧ j ≠ i) 24 = fc_n (us_ (upd a_used i 0)) 24 := fc_c 24 (fun j _ => (us_dn j).symm)
    have N2 : ge_Ne (xi_ a_px) (xi_ a_py) (us_ (upd a_used i 0)) := fun a b ua ub ab => N a b ((us_dn a).mp ua).1 ((us_dn b).mp ub).1 ab
    have hs2 : f_size - 1 = nI (fc_n (us_ (upd a_used i 0)) 24) := by
      rw [hs, fo, nI_pred, e2]
    refine ⟨in_ hi, nm_e (nm_e (xw_bc (post := fun u => wpY_remove (fun r' v' => r' = u.1 ∧ i_Rel (k + 4) u v') (a_used, a_px, a_py, a_way) (nI i)) Bd N2 hs2 rc ra ?_ ?_))⟩
    · intro _ _ _ _ _ _ _ _ _ _ _ _ _ _ _ _ _ R2
      unfold wpY_remove
      dsimp only
      rw [cl_ (n := i) (by omega), vb0_]
      refine yw_is (fun w => absurd (w i hi rfl) ui) (fun j hj e uj => br_f (by decide) ⟨in_ hi, nm_e (yw_size ⟨?_, zz_mk R2⟩)⟩)
      exact hs2.symm
    · intro u hu
      obtain ⟨f_size, f_solid, f_edges, f_treeEdges, a_used, a_px, a_py, a_alive, a_corner, a_across, a_bad, a_startsAt, a_endsAt, a_edgeU, a_edgeV, a_edgeLen, a_treeU, a_treeV, a_treeLen, a_leader, a_order, a_mark⟩ := u
      exact hu
/-- all names free -/
def cr_ (a : Nat → Int32) (n : Nat) : Nat → Int32 := fun j => if j < n then 0 else a j
theorem cr_s (a : Nat → Int32) (n : Nat) : upd (cr_ a n) n 0 = cr_ a (n + 1) := by
  funext j
  unfold cr_ upd
  split
  · next h => rw [if_pos (by omega)]
  · next h =>
    dsimp only
    by_cases z : j < n
    · rw [if_pos z, if_pos (by omega)]
    · rw [if_neg z, if_neg (by omega)]
theorem cr_0 (a : Nat → Int32) : cr_ a 0 = a := by
  funext j
  exact if_neg (by omega)
theorem i_vc_clear {k : Nat} {u : SX} {v : SY} (I : i_Rel k u v) (hk : k + 4 ≤ 2048) : wpX_clear (fun u' => wpY_clear (fun v' => i_Rel (k + 4) u' v') v) u := by
  refine zz_el (P := fun u v => wpX_clear (fun u' => wpY_clear (fun v' => i_Rel (k + 4) u' v') v) u) ?_ I
  intro f_size f_solid f_edges f_treeEdges a_used a_px a_py a_alive a_corner a_across a_bad a_startsAt a_endsAt a_edgeU a_edgeV a_edgeLen a_treeU a_treeV a_treeLen a_leader a_order a_mark a_way R
  obtain ⟨Bd, N, hs, ⟨rc, ra⟩, hsol, _, _⟩ := R
  have nu : ∀ i, ¬ us_ (cr_ a_used 24) i := fun i h => h.2 (if_pos h.1)
  have YL : ∀ (post : SY → Prop), post (cr_ a_used 24, a_px, a_py, a_way) → wpY_clear post (a_used, a_px, a_py, a_way) := by
    intro post hp
    unfold wpY_clear
    dsimp only
    have L : ∀ n i : Nat, i ≤ 24 → 24 < n + i → wY_clear_2 post n (nI i) (cr_ a_used i) a_px a_py a_way := by
      intro n
      induction n with
      | zero => intro i hi hn; omega
      | succ n ih =>
        intro i hi hn
        rw [wY_clear_2]
        refine pk_le 24 i (fun z => ?_) (fun z => ?_)
        · have e : i = 24 := by omega
          subst e; exact hp
        · rw [cl_ (n := i) (by omega), vb0_, nI_1, cr_s]
          exact ⟨in_ z, nm_e (nm_e (ih (i + 1) (by omega) (by omega)))⟩
    have := L 25 0 (by omega) (by omega)
    rw [cr_0] at this
    exact ⟨25, this⟩
  unfold wpX_clear
  dsimp only
  have L : ∀ n i : Nat, i ≤ 24 → 24 < n + i → wX_clear_2 (fun u' => wpY_clear (fun v' => i_Rel (k + 4) u' v') (a_used, a_px, a_py, a_way)) f_size f_solid f_edges f_treeEdges n (nI i) (cr_ a_used i) a_px a_py a_alive a_corner a_across a_bad a_startsAt a_endsAt a_edgeU a_edgeV a_edgeLen a_treeU a_treeV a_treeLen a_leader a_order a_mark := by
    intro n
    induction n with
    | zero => intro i hi hn; omega
    | succ n ih =>
      intro i hi hn
      rw [wX_clear_2]
      refine pk_le 24 i (fun z => ?_) (fun z => ?_)
      · have e : i = 24 := by omega
        subst e
        refine xw_bc (post := fun u => wpY_clear (fun v' => i_Rel (k + 4) u v') (a_used, a_px, a_py, a_way)) Bd (fun a b ua => absurd ua (nu a)) ?_ rc ra ?_ ?_
        · rw [fc_z 24 (fun i _ => nu i)]; rfl
        · intro _ _ _ _ _ _ _ _ _ _ _ _ _ _ _ _ _ R2
          exact YL _ (zz_mk R2)
        · intro u hu
          obtain ⟨f_size, f_solid, f_edges, f_treeEdges, a_used, a_px, a_py, a_alive, a_corner, a_across, a_bad, a_startsAt, a_endsAt, a_edgeU, a_edgeV, a_edgeLen, a_treeU, a_treeV, a_treeLen, a_leader, a_order, a_mark⟩ := u
          exact hu
      · rw [cl_ (n := i) (by omega), vb0_, nI_1, cr_s]
        exact ⟨in_ z, nm_e (nm_e (ih (i + 1) (by omega) (by omega)))⟩
  have := L 25 0 (by omega) (by omega)
  rw [cr_0] at this
  exact ⟨25, this⟩
theorem i_vc_size {k : Nat} {u : SX} {v : SY} (I : i_Rel k u v) (hk : k + 4 ≤ 2048) : wpX_size (fun r => wpY_size (fun r' => r' = r ∧ i_Rel (k + 4) u v) v) u := by
  refine zz_el (P := fun u v => wpX_size (fun r => wpY_size (fun r' => r' = r ∧ i_Rel (k + 4) u v) v) u) ?_ I
  intro f_size f_solid f_edges f_treeEdges a_used a_px a_py a_alive a_corner a_across a_bad a_startsAt a_endsAt a_edgeU a_edgeV a_edgeLen a_treeU a_treeV a_treeLen a_leader a_order a_mark a_way R
  unfold wpX_size
  dsimp only
  exact yw_size ⟨R.2.2.1.symm, zz_mk R⟩
theorem i_vc_xOf {k : Nat} {u : SX} {v : SY} (I : i_Rel k u v) (hk : k + 4 ≤ 2048) (v1 : Int32) : wpX_xOf (fun r => wpY_xOf (fun r' => r' = r ∧ i_Rel (k + 4) u v) v v1) u v1 := by
  refine zz_el (P := fun u v => wpX_xOf (fun r => wpY_xOf (fun r' => r' = r ∧ i_Rel (k + 4) u v) v v1) u v1) ?_ I
  intro f_size f_solid f_edges f_treeEdges a_used a_px a_py a_alive a_corner a_across a_bad a_startsAt a_endsAt a_edgeU a_edgeV a_edgeLen a_treeU a_treeV a_treeLen a_leader a_order a_mark a_way R
  unfold wpX_xOf wpY_xOf
  dsimp only
  refine xw_noPoint (fun w => br_f (by decide) (yw_is (fun _ => br_t rfl ⟨rfl, zz_mk R⟩) (fun i hi e ui => absurd (w i hi e) ui))) (fun i hi e ui => br_t rfl ?_)
  subst e
  exact ⟨in_ hi, yw_is (fun w => absurd (w i hi rfl) ui) (fun j hj e uj => br_f (by decide) ⟨in_ hi, rfl, zz_mk R⟩)⟩
theorem i_vc_yOf {k : Nat} {u : SX} {v : SY} (I : i_Rel k u v) (hk : k + 4 ≤ 2048) (v1 : Int32) : wpX_yOf (fun r => wpY_yOf (fun r' => r' = r ∧ i_Rel (k + 4) u v) v v1) u v1 := by
  refine zz_el (P := fun u v => wpX_yOf (fun r => wpY_yOf (fun r' => r' = r ∧ i_Rel (k + 4) u v) v v1) u v1) ?_ I
  intro f_size f_solid f_edges f_treeEdges a_used a_px a_py a_alive a_corner a_across a_bad a_startsAt a_endsAt a_edgeU a_edgeV a_edgeLen a_treeU a_treeV a_treeLen a_leader a_order a_mark a_way R
  unfold wpX_yOf wpY_yOf
  dsimp only
  refine xw_noPoint (fun w => br_f (by decide) (yw_is (fun _ => br_t rfl ⟨rfl, zz_mk R⟩) (fun i hi e ui => absurd (w i hi e) ui))) (fun i hi e ui => br_t rfl ?_)
  subst e
  exact ⟨in_ hi, yw_is (fun w => absurd (w i hi rfl) ui) (fun j hj e uj => br_f (by decide) ⟨in_ hi, rfl, zz_mk R⟩)⟩
end
section
/-! the reference's ways: least greatest hops -/
def nv_ (a : Nat → Int32) (k i j : Nat) : Int32 :=
  if a (i * 24 + j) ≤ (if a (k * 24 + j) ≤ a (i * 24 + k) then a (i * 24 + k) else a (k * 24 + j)) then a (i * 24 + j) else (if a (k * 24 + j) ≤ a (i * 24 + k) then a (i * 24 + k) else a (k * 24 + j))
theorem nv_col (a : Nat → Int32) (k i : Nat) : nv_ a k i k = a (i * 24 + k) := by
  unfold nv_
  by_cases z : a (k * 24 + k) ≤ a (i * 24 + k)
  · rw [if_pos z, if_pos (Int32.le_refl _)]
  · rw [if_neg z, if_pos (Int32.le_of_lt (Int32.not_le.mp z))]
theorem nv_row (a : Nat → Int32) (k j : Nat) : nv_ a k k j = a (k * 24 + j) := by
  unfold nv_
  by_cases z : a (k * 24 + j) ≤ a (k * 24 + k)
  · rw [if_pos z, if_pos z]
  · rw [if_neg z, if_pos (Int32.le_refl _)]
theorem nv_i (a : Nat → Int32) (k i j : Nat) : (nv_ a k i j).toInt = min (a (i * 24 + j)).toInt (max (a (i * 24 + k)).toInt (a (k * 24 + j)).toInt) := by
  unfold nv_
  have h1 : ∀ p q : Int32, p ≤ q ↔ p.toInt ≤ q.toInt := fun p q => Int32.le_iff_toInt_le
  by_cases z : a (k * 24 + j) ≤ a (i * 24 + k)
  · rw [if_pos z]
    by_cases w : a (i * 24 + j) ≤ a (i * 24 + k)
    · rw [if_pos w]
      rw [h1] at z w
      omega
    · rw [if_neg w]
      rw [h1] at z w
      omega
  · rw [if_neg z]
    by_cases w : a (i * 24 + j) ≤ a (k * 24 + j)
    · rw [if_pos w]
      rw [h1] at z w
      omega
    · rw [if_neg w]
      rw [h1] at z w
      omega
theorem i24 (i j : Nat) : nI i * 24 + nI j = nI (i * 24 + j) := by
  rw [show nI i * 24 = nI (i * 24) from pk_mul i 24, nI_add]
section
variable {a_here a_xs a_ys a_way : Nat → Int32}
theorem yw_over {post : SY → Prop} {k : Nat} (hk : k < 24) (h : ∀ av, (∀ i j, i < 24 → j < 24 → av (i * 24 + j) = nv_ a_way k i j) → post (a_here, a_xs, a_ys, av)) : wpY_over post (a_here, a_xs, a_ys, a_way) (nI k) := by
  unfold wpY_over
  dsimp only
  have L10 : ∀ (J : Int32 → (Nat → Int32) → (Nat → Int32) → (Nat → Int32) → (Nat → Int32) → Prop) (i : Nat), i < 24 →
      (∀ av, (∀ i' j', i' < 24 → j' < 24 → av (i' * 24 + j') = if i' < i + 1 then nv_ a_way k i' j' else a_way (i' * 24 + j')) → J (nI (i + 1)) a_here a_xs a_ys av) →
      ∀ n j : Nat, j ≤ 24 → 24 < n + j → ∀ av, (∀ i' j', i' < 24 → j' < 24 → av (i' * 24 + j') = if i' < i ∨ (i' = i ∧ j' < j) then nv_ a_way k i' j' else a_way (i' * 24 + j')) →
      wY_over_10 post J (nI k) (nI i) n (nI j) a_here a_xs a_ys av := by
    intro J i hi hJ n
    induction n with
    | zero => intro j hj hn; omega
    | succ n ih =>
      intro j hj hn av hav
      rw [wY_over_10]
      refine pk_le 24 j (fun z => ?_) (fun z => ?_)
      · rw [nI_1]
        refine nm_e (hJ av (fun i' j' h1 h2 => ?_))
        rw [hav i' j' h1 h2]
        by_cases w : i' < i ∨ (i' = i ∧ j' < j)
        · rw [if_pos w, if_pos (by omega)]
        · rw [if_neg w, if_neg (by omega)]
      · have e1 : av (i * 24 + k) = a_way (i * 24 + k) := by
          rw [hav i k hi hk]
          by_cases w : i < i ∨ (i = i ∧ k < j)
          · rw [if_pos w, nv_col]
          · rw [if_neg w]
        have e2 : av (k * 24 + j) = a_way (k * 24 + j) := by
          rw [hav k j hk z]
          by_cases w : k < i ∨ (k = i ∧ j < j)
          · rw [if_pos w, nv_row]
          · rw [if_neg w]
        have e3 : av (i * 24 + j) = a_way (i * 24 + j) := by
          rw [hav i j hi z, if_neg (by omega)]
        have put : ∀ m : Int32, m = (if a_way (k * 24 + j) ≤ a_way (i * 24 + k) then a_way (i * 24 + k) else a_way (k * 24 + j)) → wY_over_58 post J (wY_over_10 post J (nI k) (nI i) n) (nI k) (nI i) (nI j) m a_here a_xs a_ys av := by
          intro m hm
          unfold wY_over_58
          rw [i24, cl_ (n := i * 24 + j) (by omega), nI_1, e3]
          have nv : nv_ a_way k i j = if a_way (i * 24 + j) ≤ m then a_way (i * 24 + j) else m := by
            rw [hm]; rfl
          refine ⟨in_ (by omega), br_c (fun q => nm_e (ih (j + 1) (by omega) (by omega) av (fun i' j' h1 h2 => ?_))) (fun q => ⟨in_ (by omega), nm_e (nm_e (ih (j + 1) (by omega) (by omega) _ (fun i' j' h1 h2 => ?_)))⟩)⟩
          · rw [hav i' j' h1 h2]
            by_cases w : i' < i ∨ (i' = i ∧ j' < j)
            · rw [if_pos w, if_pos (by omega)]
            · rw [if_neg w]
              by_cases w2 : i' = i ∧ j' = j
              · rw [if_pos (by omega), w2.1, w2.2, nv, if_pos q]
              · rw [if_neg (by omega)]
          · by_cases w2 : i' = i ∧ j' = j
            · rw [w2.1, w2.2, pk_us, if_pos (by omega), nv, if_neg q]
            · rw [pk_un (by omega), hav i' j' h1 h2]
              by_cases w : i' < i ∨ (i' = i ∧ j' < j)
              · rw [if_pos w, if_pos (by omega)]
              · rw [if_neg w, if_neg (by omega)]
        rw [i24, i24, cl_ (n := i * 24 + k) (by omega), cl_ (n := k * 24 + j) (by omega), e1, e2]
        refine ⟨in_ (by omega), nm_e ⟨in_ (by omega), br_c (fun q => put _ ?_) (fun q => ⟨in_ (by omega), nm_e (put _ ?_)⟩)⟩⟩
        · rw [if_pos q]
        · rw [if_neg q]
  have L2 : ∀ n i : Nat, i ≤ 24 → 24 < n + i → ∀ av, (∀ i' j', i' < 24 → j' < 24 → av (i' * 24 + j') = if i' < i then nv_ a_way k i' j' else a_way (i' * 24 + j')) → wY_over_2 post (nI k) n (nI i) a_here a_xs a_ys av := by
    intro n
    induction n with
    | zero => intro i hi hn; omega
    | succ n ih =>
      intro i hi hn av hav
      rw [wY_over_2]
      refine pk_le 24 i (fun z => ?_) (fun z => ?_)
      · refine h av (fun i' j' h1 h2 => ?_)
        rw [hav i' j' h1 h2, if_pos (by omega)]
      · refine ⟨25, L10 _ i z (fun av2 h2 => ih (i + 1) (by omega) (by omega) av2 h2) 25 0 (by omega) (by omega) av (fun i' j' h1 h2 => ?_)⟩
        rw [hav i' j' h1 h2]
        by_cases w : i' < i
        · rw [if_pos w, if_pos (by omega)]
        · rw [if_neg w, if_neg (by omega)]
  exact ⟨25, L2 25 0 (by omega) (by omega) a_way (fun i' j' _ _ => by rw [if_neg (by omega)])⟩
/-- the ways with the points below k allowed between -/
def wi_ (x y : Nat → Int) (U : Nat → Prop) (a : Nat → Int32) (k : Nat) : Prop :=
  (∀ i j, i < 24 → j < 24 → (a (i * 24 + j)).toInt = (a (j * 24 + i)).toInt) ∧ (∀ i j, U i → U j → ms_R x y U (a (i * 24 + j)).toInt i j) ∧
  (∀ i j, i < 24 → j < 24 → 0 ≤ (a (i * 24 + j)).toInt ∧ (a (i * 24 + j)).toInt ≤ ge_S x y i j) ∧
  (∀ m, m < k → U m → ∀ i j, i < 24 → j < 24 → (a (i * 24 + j)).toInt ≤ max (a (i * 24 + m)).toInt (a (m * 24 + j)).toInt)
def wy_ (x y : Nat → Int) (U : Nat → Prop) (a : Nat → Int32) : Prop :=
  (∀ i j, U i → U j → i ≠ j → ∀ L : Int, ((a (i * 24 + j)).toInt ≤ L ↔ ms_R x y U L i j)) ∧ (∀ i, U i → a (i * 24 + i) = 0) ∧ (∀ i j, U i → U j → i ≠ j → 0 < (a (i * 24 + j)).toInt)
theorem ge_S0 (x y : Nat → Int) (a : Nat) : ge_S x y a a = 0 := by
  unfold ge_S
  rw [Int.sub_self, Int.sub_self]
  omega
theorem wi_fin {x y : Nat → Int} {U : Nat → Prop} {a : Nat → Int32} (hU : ∀ i, U i → i < 24) (N : ge_Ne x y U) (w : wi_ x y U a 24) : wy_ x y U a := by
  obtain ⟨w1, w2, w3, w4⟩ := w
  have key : ∀ i j, U i → U j → i ≠ j → ∀ L : Int, ((a (i * 24 + j)).toInt ≤ L ↔ ms_R x y U L i j) := by
    intro i j ui uj ij L
    constructor
    · intro h
      exact mr_mono h (w2 i j ui uj)
    · intro R
      by_cases L0 : 0 ≤ L
      · have e := R (fun b => fc_b ((a (b * 24 + j)).toInt ≤ L)) (fun p q up uq s => ?_)
        · have jj := (w3 j j (hU j uj) (hU j uj)).2
          rw [ge_S0] at jj
          rw [fc_bt (show (a (j * 24 + j)).toInt ≤ L by omega)] at e
          by_cases z : (a (i * 24 + j)).toInt ≤ L
          · exact z
          · rw [fc_bf z] at e; omega
        · have lp := hU p up
          have lq := hU q uq
          have lj := hU j uj
          have s1 := (w3 p q lp lq).2
          have s2 := w1 p q lp lq
          have t1 := w4 q lq uq p j lp lj
          have t2 := w4 p lp up q j lq lj
          exact fc_bi (by omega)
      · exfalso
        have e := R (fun b => b) (fun p q up uq s => ?_)
        · exact ij e
        · exfalso
          have := (w3 p q (hU p up) (hU q uq))
          omega
  refine ⟨key, fun i ui => ?_, fun i j ui uj ij => ?_⟩
  · have := w3 i i (hU i ui) (hU i ui)
    rw [ge_S0] at this
    rw [i_eq0]
    omega
  · by_cases z : 0 < (a (i * 24 + j)).toInt
    · exact z
    · exfalso
      have R := (key i j ui uj ij 0).mp (by omega)
      have e := R (fun b => b) (fun p q up uq s => ?_)
      · exact ij e
      · by_cases pq : p = q
        · exact pq
        · exfalso
          have := ge_Sp N up uq pq
          omega
theorem wi_step {x y : Nat → Int} {U : Nat → Prop} {a b : Nat → Int32} {k : Nat} (hU : ∀ i, U i → i < 24) (uk : U k) (w : wi_ x y U a k) (h : ∀ i j, i < 24 → j < 24 → b (i * 24 + j) = nv_ a k i j) : wi_ x y U b (k + 1) := by
  obtain ⟨w1, w2, w3, w4⟩ := w
  have lk := hU k uk
  have hb : ∀ i j, i < 24 → j < 24 → (b (i * 24 + j)).toInt = min (a (i * 24 + j)).toInt (max (a (i * 24 + k)).toInt (a (k * 24 + j)).toInt) := by
    intro i j hi hj
    rw [h i j hi hj, nv_i]
  refine ⟨fun i j hi hj => ?_, fun i j ui uj => ?_, fun i j hi hj => ?_, fun m hm um i j hi hj => ?_⟩
  · rw [hb i j hi hj, hb j i hj hi]
    have e1 := w1 i j hi hj
    have e2 := w1 i k hi lk
    have e3 := w1 k j lk hj
    omega
  · rw [hb i j (hU i ui) (hU j uj)]
    by_cases z : (a (i * 24 + j)).toInt ≤ max (a (i * 24 + k)).toInt (a (k * 24 + j)).toInt
    · exact mr_mono (by omega) (w2 i j ui uj)
    · exact mr_tr (mr_mono (by omega) (w2 i k ui uk)) (mr_mono (by omega) (w2 k j uk uj))
  · rw [hb i j hi hj]
    have e1 := w3 i j hi hj
    have e2 := w3 i k hi lk
    omega
  · have lm := hU m um
    rw [hb i j hi hj, hb i m hi lm, hb m j lm hj]
    by_cases mk : m = k
    · subst mk
      omega
    · have t1 := w4 m (by omega) um i j hi hj
      have t2 := w4 m (by omega) um k j lk hj
      have t3 := w4 m (by omega) um i k hi lk
      omega
theorem yw_ways {post : SY → Prop} (B : ge_Bd (xi_ a_xs) (xi_ a_ys)) (N : ge_Ne (xi_ a_xs) (xi_ a_ys) (us_ a_here)) (h : ∀ av, wy_ (xi_ a_xs) (xi_ a_ys) (us_ a_here) av → post (a_here, a_xs, a_ys, av)) : wpY_ways post (a_here, a_xs, a_ys, a_way) := by
  unfold wpY_ways
  dsimp only
  have L47 : ∀ n k : Nat, k ≤ 24 → 24 < n + k → ∀ av, wi_ (xi_ a_xs) (xi_ a_ys) (us_ a_here) av k → wY_ways_47 post n (nI k) a_here a_xs a_ys av := by
    intro n
    induction n with
    | zero => intro k hk hn; omega
    | succ n ih =>
      intro k hk hn av w
      rw [wY_ways_47]
      refine pk_le 24 k (fun z => ?_) (fun z => ?_)
      · have e : k = 24 := by omega
        subst e
        exact h av (wi_fin (fun i h => h.1) N w)
      · rw [cl_ (n := k) (by omega)]
        refine ⟨in_ z, br_c (fun q => ?_) (fun q => yw_over z (fun av2 h2 => ?_))⟩
        · rw [nI_1]
          refine nm_e (ih (k + 1) (by omega) (by omega) av ⟨w.1, w.2.1, w.2.2.1, fun m hm um => ?_⟩)
          by_cases e : m = k
          · subst e; exact absurd q um.2
          · exact w.2.2.2 m (by omega) um
        · dsimp only
          rw [nI_1]
          exact nm_e (ih (k + 1) (by omega) (by omega) av2 (wi_step (fun i h => h.1) ⟨z, q⟩ w h2))
  have L10 : ∀ (J : Int32 → (Nat → Int32) → (Nat → Int32) → (Nat → Int32) → (Nat → Int32) → Prop) (i : Nat), i < 24 →
      (∀ av, (∀ i' j', i' < i + 1 → j' < 24 → av (i' * 24 + j') = s32_ a_xs a_ys i' j') → J (nI (i + 1)) a_here a_xs a_ys av) →
      ∀ n j : Nat, j ≤ 24 → 24 < n + j → ∀ av, (∀ i' j', i' < 24 → j' < 24 → (i' < i ∨ (i' = i ∧ j' < j)) → av (i' * 24 + j') = s32_ a_xs a_ys i' j') →
      wY_ways_10 post J (nI i) n (nI j) a_here a_xs a_ys av := by
    intro J i hi hJ n
    induction n with
    | zero => intro j hj hn; omega
    | succ n ih =>
      intro j hj hn av hav
      rw [wY_ways_10]
      refine pk_le 24 j (fun z => ?_) (fun z => ?_)
      · rw [nI_1]
        exact nm_e (hJ av (fun i' j' h1 h2 => hav i' j' (by omega) h2 (by omega)))
      · refine yw_square hi z ?_
        rw [i24, cl_ (n := i * 24 + j) (by omega), nI_1]
        refine ⟨in_ (by omega), nm_e (nm_e (ih (j + 1) (by omega) (by omega) _ (fun i' j' h1 h2 h3 => ?_)))⟩
        by_cases w : i' = i ∧ j' = j
        · rw [w.1, w.2, pk_us]
        · rw [pk_un (by omega)]; exact hav i' j' h1 h2 (by omega)
  have L2 : ∀ n i : Nat, i ≤ 24 → 24 < n + i → ∀ av, (∀ i' j', i' < i → j' < 24 → av (i' * 24 + j') = s32_ a_xs a_ys i' j') → wY_ways_2 post n (nI i) a_here a_xs a_ys av := by
    intro n
    induction n with
    | zero => intro i hi hn; omega
    | succ n ih =>
      intro i hi hn av hav
      rw [wY_ways_2]
      refine pk_le 24 i (fun z => ?_) (fun z => ?_)
      · refine ⟨25, L47 25 0 (by omega) (by omega) av ⟨fun i' j' h1 h2 => ?_, fun i' j' u1 u2 => ?_, fun i' j' h1 h2 => ?_, fun m hm => by omega⟩⟩
        · rw [hav i' j' (by omega) h2, hav j' i' (by omega) h1, s32_i B h1 h2, s32_i B h2 h1, ge_Sc]
        · have l1 := u1.1
          have l2 := u2.1
          rw [hav i' j' (by omega) l2, s32_i B l1 l2]
          exact mr_e u1 u2 (Int.le_refl _)
        · rw [hav i' j' (by omega) h2, s32_i B h1 h2]
          exact ⟨(ge_Sb B h1 h2).1, Int.le_refl _⟩
      · exact ⟨25, L10 _ i z (fun av2 h2 => ih (i + 1) (by omega) (by omega) av2 h2) 25 0 (by omega) (by omega) av (fun i' j' h1 h2 h3 => hav i' j' (by omega) h2)⟩
  exact ⟨25, L2 25 0 (by omega) (by omega) a_way (fun i' j' h1 => by omega)⟩
end
end
section
/-! counting the tree's edges within a limit -/
theorem fc_lt {k : Nat} : ∀ n, k ≤ n → fc_n (fun j => j < k) n = k := by
  intro n
  induction n with
  | zero => intro h; rw [show k = 0 by omega]; rfl
  | succ n ih =>
    intro h
    show fc_n (fun j => j < k) n + fc_b (n < k) = k
    by_cases e : k = n + 1
    · subst e
      rw [fc_bt (by omega), fc_c (P := fun j => j < n + 1) (Q := fun _ => True) n (fun i hi => ⟨fun _ => trivial, fun _ => by omega⟩), fc_all]
    · rw [ih (by omega), fc_bf (by omega)]
      omega
theorem fc_sp {P Q : Nat → Prop} : ∀ n, fc_n P n = fc_n (fun i => P i ∧ Q i) n + fc_n (fun i => P i ∧ ¬ Q i) n := by
  intro n
  induction n with
  | zero => rfl
  | succ n ih =>
    show fc_n P n + fc_b (P n) = fc_n (fun i => P i ∧ Q i) n + fc_b (P n ∧ Q n) + (fc_n (fun i => P i ∧ ¬ Q i) n + fc_b (P n ∧ ¬ Q n))
    rw [ih]
    by_cases p : P n
    · by_cases q : Q n
      · rw [fc_bt p, fc_bt ⟨p, q⟩, fc_bf (fun z => z.2 q)]; omega
      · rw [fc_bt p, fc_bf (fun z => q z.2), fc_bt ⟨p, q⟩]; omega
    · rw [fc_bf p, fc_bf (fun z => p z.1), fc_bf (fun z => p z.1)]; omega
theorem so_k {f : Nat → Int} {n : Nat} (hs : ∀ i j, i ≤ j → j < n → f i ≤ f j) (L : Int) : ∃ k, k ≤ n ∧ (∀ j, j < k → f j ≤ L) ∧ (∀ l, k ≤ l → l < n → L < f l) ∧ fc_n (fun j => f j ≤ L) n = k := by
  obtain ⟨k, hk, hl⟩ := pk_least (fun j => n ≤ j ∨ L < f j) ⟨n, Or.inl (Nat.le_refl n)⟩
  have kn : k ≤ n := by
    by_cases z : k ≤ n
    · exact z
    · exact absurd (Or.inl (Nat.le_refl n)) (hl n (by omega))
  have h1 : ∀ j, j < k → f j ≤ L := by
    intro j hj
    have := hl j hj
    by_cases z : f j ≤ L
    · exact z
    · exact absurd (Or.inr (by omega)) this
  have h2 : ∀ l, k ≤ l → l < n → L < f l := by
    intro l hkl hln
    rcases hk with h | h
    · omega
    · have := hs k l hkl hln
      omega
  refine ⟨k, kn, h1, h2, ?_⟩
  rw [fc_c (P := fun j => f j ≤ L) (Q := fun j => j < k) n (fun i hi => ⟨fun q => ?_, fun q => h1 i q⟩), fc_lt n kn]
  by_cases z : i < k
  · exact z
  · have := h2 i (by omega) hi
    omega
/-- sums -/
def sm_ (f : Nat → Int) : Nat → Int
  | 0 => 0
  | n + 1 => sm_ f n + f n
theorem sm_c {f g : Nat → Int} : ∀ n, (∀ i, i < n → f i = g i) → sm_ f n = sm_ g n := by
  intro n
  induction n with
  | zero => intro _; rfl
  | succ n ih =>
    intro h
    show sm_ f n + f n = sm_ g n + g n
    rw [ih (fun i hi => h i (by omega)), h n (by omega)]
theorem sm_a {f g : Nat → Int} : ∀ n, sm_ (fun i => f i + g i) n = sm_ f n + sm_ g n := by
  intro n
  induction n with
  | zero => rfl
  | succ n ih =>
    show sm_ (fun i => f i + g i) n + (f n + g n) = sm_ f n + f n + (sm_ g n + g n)
    rw [ih]
    omega
theorem sm_b {P : Nat → Prop} : ∀ n, sm_ (fun i => (fc_b (P i) : Int)) n = (fc_n P n : Int) := by
  intro n
  induction n with
  | zero => rfl
  | succ n ih =>
    show sm_ (fun i => (fc_b (P i) : Int)) n + (fc_b (P n) : Int) = ((fc_n P n + fc_b (P n) : Nat) : Int)
    rw [ih]
    omega
theorem sm_0 : ∀ n, sm_ (fun _ => 0) n = 0 := by
  intro n
  induction n with
  | zero => rfl
  | succ n ih =>
    show sm_ (fun _ => 0) n + 0 = 0
    rw [ih]
    rfl
theorem sm_cnt {M : Nat} : ∀ (n : Nat) (f : Nat → Int), (∀ i, i < n → 0 ≤ f i ∧ f i ≤ M) → sm_ f n = sm_ (fun L => (fc_n (fun i => (L : Int) < f i) n : Int)) M := by
  intro n
  induction n with
  | zero =>
    intro f _
    show 0 = sm_ (fun L => ((0 : Nat) : Int)) M
    exact (sm_0 M).symm
  | succ n ih =>
    intro f h
    show sm_ f n + f n = sm_ (fun L => ((fc_n (fun i => (L : Int) < f i) n + fc_b ((L : Int) < f n) : Nat) : Int)) M
    rw [sm_c (f := fun L => ((fc_n (fun i => (L : Int) < f i) n + fc_b ((L : Int) < f n) : Nat) : Int)) (g := fun L => (fc_n (fun i => (L : Int) < f i) n : Int) + (fc_b ((L : Int) < f n) : Int)) M (fun i _ => by omega), sm_a, ← ih f (fun i hi => h i (by omega)), sm_b]
    have := h n (by omega)
    rw [fc_c (P := fun L : Nat => (L : Int) < f n) (Q := fun L => L < (f n).toNat) M (fun i hi => by omega), fc_lt M (by omega)]
    omega
section
variable {x y : Nat → Int} {U : Nat → Prop} {k : Nat} {tU tV : Nat → Nat} {tL : Nat → Int}
/-- leaders are the least names of their groups -/
theorem ms_root (hU : ∀ i, U i → i < 24) (T : ms_Ok x y U k tU tV tL) {L : Int} {k' : Nat} (hk : k' ≤ k) (h1 : ∀ j, j < k' → tL j ≤ L) (h2 : ∀ l, k' ≤ l → l < k → L < tL l) {i : Nat} (ui : U i) :
    U (ms_r tU tV k' i) ∧ ms_r tU tV k' i ≤ i ∧ ms_R x y U L i (ms_r tU tV k' i) ∧ ∀ j, U j → ms_R x y U L i j → ms_r tU tV k' i ≤ j := by
  obtain ⟨t1, t2, t3⟩ := T
  have rt := mr_rt tU tV k'
  have cl := mr_cl (u := tU) (v := tV) (V := U) k' (fun j hj => ⟨(t1 j (by omega)).1, (t1 j (by omega)).2.1⟩) i ui
  refine ⟨cl, (rt i).1, (t3 k' L hk h1 h2 i _ ui cl).mp (rt i).2.symm, fun j uj R => ?_⟩
  rw [(t3 k' L hk h1 h2 i j ui uj).mpr R]
  exact (rt j).1
theorem ms_rootN (hU : ∀ i, U i → i < 24) (T : ms_Ok x y U k tU tV tL) {L : Int} {k' : Nat} (hk : k' ≤ k) (h1 : ∀ j, j < k' → tL j ≤ L) (h2 : ∀ l, k' ≤ l → l < k → L < tL l) {i : Nat} (ui : U i) :
    ms_r tU tV k' i = i ↔ ¬ ∃ j, j < i ∧ U j ∧ ms_R x y U L i j := by
  have r := ms_root hU T hk h1 h2 ui
  constructor
  · intro e ⟨j, hj, uj, R⟩
    have := r.2.2.2 j uj R
    omega
  · intro n
    by_cases e : ms_r tU tV k' i = i
    · exact e
    · exact absurd ⟨_, by have := r.2.1; omega, r.1, r.2.2.1⟩ n
theorem ms_cntL (hU : ∀ i, U i → i < 24) (T : ms_Ok x y U k tU tV tL) (L : Int) : fc_n (fun i => U i ∧ ∃ j, j < i ∧ U j ∧ ms_R x y U L i j) 24 = fc_n (fun j => tL j ≤ L) k := by
  obtain ⟨k', hk, h1, h2, h3⟩ := so_k T.2.1 L
  rw [h3]
  have c := mr_cnt (u := tU) (v := tV) (V := U) hU k' (fun j hj => ⟨(T.1 j (by omega)).1, (T.1 j (by omega)).2.1, (T.1 j (by omega)).2.2.2⟩)
  have s := fc_sp (P := U) (Q := fun i => ms_r tU tV k' i = i) 24
  rw [fc_c (P := fun i => U i ∧ ∃ j, j < i ∧ U j ∧ ms_R x y U L i j) (Q := fun i => U i ∧ ¬ ms_r tU tV k' i = i) 24 (fun i hi => ?_)]
  · omega
  · constructor
    · intro ⟨ui, h⟩
      exact ⟨ui, fun e => (ms_rootN hU T hk h1 h2 ui).mp e h⟩
    · intro ⟨ui, h⟩
      refine ⟨ui, ?_⟩
      by_cases z : ∃ j, j < i ∧ U j ∧ ms_R x y U L i j
      · exact z
      · exact absurd ((ms_rootN hU T hk h1 h2 ui).mpr z) h
theorem ms_tb (B : ge_Bd x y) (hU : ∀ i, U i → i < 24) (N : ge_Ne x y U) (T : ms_Ok x y U k tU tV tL) {j : Nat} (hj : j < k) : 0 < tL j ∧ tL j ≤ 32258 := by
  have t := T.1 j hj
  rw [t.2.2.1]
  refine ⟨ge_Sp N t.1 t.2.1 (fun e => t.2.2.2 (by rw [e])), (ge_Sb B (hU _ t.1) (hU _ t.2.1)).2⟩
/-- a tree over n points has n - 1 edges -/
theorem ms_size (B : ge_Bd x y) (hU : ∀ i, U i → i < 24) (N : ge_Ne x y U) (T : ms_Ok x y U k tU tV tL) : (fc_n U 24 = 0 ∧ k = 0) ∨ fc_n U 24 = k + 1 := by
  by_cases z : ∃ i, U i
  · obtain ⟨i0, u0, h0⟩ := pk_least U z
    right
    have c := mr_cnt (u := tU) (v := tV) (V := U) hU k (fun j hj => ⟨(T.1 j (by omega)).1, (T.1 j (by omega)).2.1, (T.1 j (by omega)).2.2.2⟩)
    have b := fc_in (P := fun _ => False) (Q := fun i => U i ∧ ms_r tU tV k i = i) (k := i0) (n := 24) (hU i0 u0) (fun z => z) (fun i hi => ?_)
    · rw [fc_z (P := fun _ => False) 24 (fun _ _ z => z)] at b
      omega
    · have ev : ∀ j, j < k → tL j ≤ 32258 := fun j hj => (ms_tb B hU N T hj).2
      constructor
      · intro ⟨ui, e⟩
        right
        have n := (ms_rootN hU T (Nat.le_refl k) ev (fun l h1 h2 => by omega) ui).mp e
        by_cases q : i0 < i
        · exact absurd ⟨i0, q, u0, mr_e ui u0 (ge_Sb B (hU i ui) (hU i0 u0)).2⟩ n
        · by_cases q2 : i < i0
          · exact absurd ui (h0 i q2)
          · omega
      · rintro (f | e)
        · exact f.elim
        · subst e
          exact ⟨u0, (ms_rootN hU T (Nat.le_refl k) ev (fun l h1 h2 => by omega) u0).mpr (fun ⟨j, hj, uj, _⟩ => h0 j hj uj)⟩
  · left
    refine ⟨fc_z 24 (fun i _ ui => z ⟨i, ui⟩), ?_⟩
    by_cases q : k = 0
    · exact q
    · exact absurd ⟨_, (T.1 0 (by omega)).1⟩ z
end
/-! the least way back -/
def bm_ (h w : Nat → Int32) (i : Nat) : Nat → Int32
  | 0 => -1
  | n + 1 => if h n = 0 then bm_ h w i n else if bm_ h w i n < 0 then w (i * 24 + n) else if bm_ h w i n ≤ w (i * 24 + n) then bm_ h w i n else w (i * 24 + n)
def bk_f (h w : Nat → Int32) (i : Nat) : Int32 := if h i = 0 then -1 else bm_ h w i i
theorem bm_sp {h w : Nat → Int32} {x y : Nat → Int} (W : wy_ x y (us_ h) w) {i : Nat} (ui : us_ h i) : ∀ n, n ≤ i → (bm_ h w i n = -1 ∧ ∀ j, j < n → ¬ us_ h j) ∨ (0 < (bm_ h w i n).toInt ∧ ∀ L : Int, ((bm_ h w i n).toInt ≤ L ↔ ∃ j, j < n ∧ us_ h j ∧ (w (i * 24 + j)).toInt ≤ L)) := by
  have li := ui.1
  intro n
  induction n with
  | zero => intro _; exact Or.inl ⟨rfl, fun j hj => by omega⟩
  | succ n ih =>
    intro hn
    have g := ih (by omega)
    have e : bm_ h w i (n + 1) = if h n = 0 then bm_ h w i n else if bm_ h w i n < 0 then w (i * 24 + n) else if bm_ h w i n ≤ w (i * 24 + n) then bm_ h w i n else w (i * 24 + n) := rfl
    by_cases z : h n = 0
    · rw [e, if_pos z]
      have nu : ¬ us_ h n := fun q => q.2 z
      rcases g with ⟨g1, g2⟩ | ⟨g1, g2⟩
      · refine Or.inl ⟨g1, fun j hj => ?_⟩
        by_cases q : j = n
        · rw [q]; exact nu
        · exact g2 j (by omega)
      · refine Or.inr ⟨g1, fun L => ?_⟩
        rw [g2 L]
        constructor
        · intro ⟨j, h1, h2⟩
          exact ⟨j, by omega, h2⟩
        · intro ⟨j, h1, h2, h3⟩
          by_cases q : j = n
          · rw [q] at h2; exact absurd h2 nu
          · exact ⟨j, by omega, h2, h3⟩
    · have un : us_ h n := ⟨by omega, z⟩
      have wp := W.2.2 i n ui un (by omega)
      rw [e, if_neg z]
      rcases g with ⟨g1, g2⟩ | ⟨g1, g2⟩
      · rw [g1, if_pos (by decide)]
        refine Or.inr ⟨wp, fun L => ⟨fun q => ⟨n, by omega, un, q⟩, fun ⟨j, h1, h2, h3⟩ => ?_⟩⟩
        by_cases q : j = n
        · rw [q] at h3; exact h3
        · exact absurd h2 (g2 j (by omega))
      · rw [if_neg (by rw [i_lt0]; omega)]
        by_cases c : bm_ h w i n ≤ w (i * 24 + n)
        · rw [if_pos c]
          rw [Int32.le_iff_toInt_le] at c
          refine Or.inr ⟨g1, fun L => ?_⟩
          constructor
          · intro q
            obtain ⟨j, h1, h2⟩ := (g2 L).mp q
            exact ⟨j, by omega, h2⟩
          · intro ⟨j, h1, h2, h3⟩
            by_cases q : j = n
            · rw [q] at h3; omega
            · exact (g2 L).mpr ⟨j, by omega, h2, h3⟩
        · rw [if_neg c]
          rw [Int32.le_iff_toInt_le] at c
          refine Or.inr ⟨wp, fun L => ⟨fun q => ⟨n, by omega, un, q⟩, fun ⟨j, h1, h2, h3⟩ => ?_⟩⟩
          by_cases q : j = n
          · rw [q] at h3; exact h3
          · have := (g2 L).mpr ⟨j, by omega, h2, h3⟩
            omega
/-- a back way within a limit -/
theorem bk_iff {h w : Nat → Int32} {x y : Nat → Int} (W : wy_ x y (us_ h) w) {i : Nat} (hi : i < 24) (L : Int) : (0 < (bk_f h w i).toInt ∧ (bk_f h w i).toInt ≤ L) ↔ (us_ h i ∧ ∃ j, j < i ∧ us_ h j ∧ ms_R x y (us_ h) L i j) := by
  unfold bk_f
  by_cases z : h i = 0
  · rw [if_pos z]
    constructor
    · intro q
      have : (-1 : Int32).toInt = -1 := by decide
      omega
    · intro q
      exact absurd z q.1.2
  · rw [if_neg z]
    have ui : us_ h i := ⟨hi, z⟩
    have cv : ∀ j, j < i → us_ h j → ((w (i * 24 + j)).toInt ≤ L ↔ ms_R x y (us_ h) L i j) := fun j hj uj => W.1 i j ui uj (by omega) L
    rcases bm_sp W ui i (Nat.le_refl i) with ⟨g1, g2⟩ | ⟨g1, g2⟩
    · rw [g1]
      constructor
      · intro q
        have : (-1 : Int32).toInt = -1 := by decide
        omega
      · intro ⟨_, j, h1, h2, _⟩
        exact absurd h2 (g2 j h1)
    · constructor
      · intro ⟨_, q⟩
        obtain ⟨j, h1, h2, h3⟩ := (g2 L).mp q
        exact ⟨ui, j, h1, h2, (cv j h1 h2).mp h3⟩
      · intro ⟨_, j, h1, h2, h3⟩
        exact ⟨g1, (g2 L).mpr ⟨j, h1, h2, (cv j h1 h2).mpr h3⟩⟩
theorem bk_b {h w : Nat → Int32} {x y : Nat → Int} (B : ge_Bd x y) (W : wy_ x y (us_ h) w) {i : Nat} (hi : i < 24) (p : 0 < (bk_f h w i).toInt) : (bk_f h w i).toInt ≤ 32258 := by
  obtain ⟨ui, j, hj, uj, _⟩ := (bk_iff W hi _).mp ⟨p, Int.le_refl _⟩
  exact ((bk_iff W hi 32258).mpr ⟨ui, j, hj, uj, mr_e ui uj (ge_Sb B ui.1 uj.1).2⟩).2
/-- the tree's lengths are the ways back -/
theorem bk_cnt {h w : Nat → Int32} {x y : Nat → Int} {k : Nat} {tU tV : Nat → Nat} {tL : Nat → Int} (W : wy_ x y (us_ h) w) (T : ms_Ok x y (us_ h) k tU tV tL) (L : Int) :
    fc_n (fun i => 0 < (bk_f h w i).toInt ∧ (bk_f h w i).toInt ≤ L) 24 = fc_n (fun j => tL j ≤ L) k := by
  rw [← ms_cntL (fun i h => h.1) T L]
  exact fc_c 24 (fun i hi => bk_iff W hi L)
theorem bk_sum {h w : Nat → Int32} {x y : Nat → Int} {k : Nat} {tU tV : Nat → Nat} {tL : Nat → Int} (B : ge_Bd x y) (N : ge_Ne x y (us_ h)) (W : wy_ x y (us_ h) w) (T : ms_Ok x y (us_ h) k tU tV tL) :
    sm_ (fun i => if (bk_f h w i).toInt ≤ 0 then 0 else (bk_f h w i).toInt) 24 = sm_ tL k := by
  have tb := fun j hj => ms_tb B (fun i h => h.1) N T (j := j) hj
  rw [sm_cnt (M := 32258) 24 (fun i => if (bk_f h w i).toInt ≤ 0 then 0 else (bk_f h w i).toInt) (fun i hi => ?_), sm_cnt (M := 32258) k tL (fun j hj => ⟨by have := tb j hj; omega, by have := tb j hj; omega⟩)]
  · refine sm_c 32258 (fun L hL => ?_)
    have c1 := bk_cnt W T (L : Int)
    have c2 := bk_cnt W T 32258
    rw [fc_c (P := fun j => tL j ≤ 32258) (Q := fun _ => True) k (fun j hj => ⟨fun _ => trivial, fun _ => (tb j hj).2⟩), fc_all] at c2
    have s1 := fc_sp (P := fun _ => True) (Q := fun j => tL j ≤ (L : Int)) k
    rw [fc_all, fc_c (P := fun j => True ∧ tL j ≤ (L : Int)) (Q := fun j => tL j ≤ (L : Int)) k (fun j _ => ⟨fun q => q.2, fun q => ⟨trivial, q⟩⟩), fc_c (P := fun j => True ∧ ¬ tL j ≤ (L : Int)) (Q := fun j => (L : Int) < tL j) k (fun j _ => ⟨fun q => Int.not_le.mp q.2, fun q => ⟨trivial, Int.not_le.mpr q⟩⟩)] at s1
    have s2 := fc_sp (P := fun i => 0 < (bk_f h w i).toInt ∧ (bk_f h w i).toInt ≤ 32258) (Q := fun i => (bk_f h w i).toInt ≤ (L : Int)) 24
    rw [fc_c (P := fun i => (0 < (bk_f h w i).toInt ∧ (bk_f h w i).toInt ≤ 32258) ∧ (bk_f h w i).toInt ≤ (L : Int)) (Q := fun i => 0 < (bk_f h w i).toInt ∧ (bk_f h w i).toInt ≤ (L : Int)) 24 (fun i _ => by omega)] at s2
    have e3 : fc_n (fun i => (L : Int) < if (bk_f h w i).toInt ≤ 0 then 0 else (bk_f h w i).toInt) 24 = fc_n (fun i => (0 < (bk_f h w i).toInt ∧ (bk_f h w i).toInt ≤ 32258) ∧ ¬ (bk_f h w i).toInt ≤ (L : Int)) 24 := by
      refine fc_c 24 (fun i hi => ?_)
      have bb := bk_b B W hi
      split
      · omega
      · omega
    rw [e3]
    omega
  · have bb := bk_b B W hi
    split
    · omega
    · omega
end
section
/-! the owed statements about the shortest tree -/
theorem mr_up {u v : Nat → Nat} {a b k : Nat} (h : ms_r u v k a = ms_r u v k b) : ∀ i, k ≤ i → ms_r u v i a = ms_r u v i b := by
  intro i
  induction i with
  | zero => intro hi; rw [show k = 0 by omega] at h; exact h
  | succ i ih =>
    intro hi
    by_cases e : k = i + 1
    · rw [← e]; exact h
    · exact mg_eq (ih (by omega))
section
variable {f_size f_solid f_edges f_treeEdges : Int32} {a_used a_px a_py a_alive a_corner a_across a_bad a_startsAt a_endsAt a_edgeU a_edgeV a_edgeLen a_treeU a_treeV a_treeLen a_leader a_order a_mark : Nat → Int32} {post : Int32 → SX → Prop}
theorem xw_joinUpTo {U : Nat → Prop} {x y : Nat → Int} {k : Nat} {l : Int32} (hU : ∀ i, U i → i < 24) (T : te_Ok x y U k a_treeU a_treeV a_treeLen)
    (h : ∀ k' lv, k' ≤ k → (∀ j, j < k' → xi_ a_treeLen j ≤ l.toInt) → (∀ j, k' ≤ j → j < k → l.toInt < xi_ a_treeLen j) → ld_ lv (ms_r (cn_ a_treeU) (cn_ a_treeV) k') → post (nI k') (f_size, f_solid, f_edges, nI k, a_used, a_px, a_py, a_alive, a_corner, a_across, a_bad, a_startsAt, a_endsAt, a_edgeU, a_edgeV, a_edgeLen, a_treeU, a_treeV, a_treeLen, lv, a_order, a_mark)) : wpX_joinUpTo post (f_size, f_solid, f_edges, nI k, a_used, a_px, a_py, a_alive, a_corner, a_across, a_bad, a_startsAt, a_endsAt, a_edgeU, a_edgeV, a_edgeLen, a_treeU, a_treeV, a_treeLen, a_leader, a_order, a_mark) l := by
  obtain ⟨ru, rv, M, k23⟩ := T
  unfold wpX_joinUpTo
  dsimp only
  refine xw_alone (fun lv l0 => ?_)
  dsimp only
  have L : ∀ n j : Nat, j ≤ k → k < n + j → (∀ i, i < j → xi_ a_treeLen i ≤ l.toInt) → ∀ lv, ld_ lv (ms_r (cn_ a_treeU) (cn_ a_treeV) j) → wX_joinUpTo_8 post l n (nI j) (nI j) f_size f_solid f_edges (nI k) a_used a_px a_py a_alive a_corner a_across a_bad a_startsAt a_endsAt a_edgeU a_edgeV a_edgeLen a_treeU a_treeV a_treeLen lv a_order a_mark := by
    intro n
    induction n with
    | zero => intro j hj hn; omega
    | succ n ih =>
      intro j hj hn hl lv ld
      rw [wX_joinUpTo_8]
      refine pk_le k j (fun z => h j lv hj hl (fun i h1 h2 => by omega) ld) (fun z => ?_)
      have c1 := ru j z
      have c2 := rv j z
      rw [cl_ (n := j) (by omega), c1.1, c2.1, nI_1]
      refine ⟨in_ (by omega), br_c (fun q => h j lv hj hl (fun i h1 h2 => ?_) ld) (fun q => ⟨in_ (by omega), in_ (by omega), xw_join c1.2 c2.2 (mr_rt _ _ _) ld (fun _ lv2 l2 => ?_) (fun _ lv2 l2 => ?_)⟩)⟩
      · rw [Int32.lt_iff_toInt_lt] at q
        have := M.2.1 j i h1 h2
        unfold xi_ at this ⊢
        omega
      · rw [Int32.lt_iff_toInt_lt] at q
        refine nm_e (nm_e (ih (j + 1) (by omega) (by omega) (fun i hi => ?_) lv2 l2))
        by_cases e : i = j
        · subst e
          unfold xi_
          omega
        · exact hl i (by omega)
      · rw [Int32.lt_iff_toInt_lt] at q
        refine nm_e (nm_e (ih (j + 1) (by omega) (by omega) (fun i hi => ?_) lv2 l2))
        by_cases e : i = j
        · subst e
          unfold xi_
          omega
        · exact hl i (by omega)
  exact ⟨k + 1, L (k + 1) 0 (by omega) (by omega) (fun i hi => by omega) lv l0⟩
theorem xw_hop32 {U : Nat → Prop} {x y : Nat → Int} {k a b : Nat} (B : ge_Bd x y) (N : ge_Ne x y U) (hU : ∀ i, U i → i < 24) (T : te_Ok x y U k a_treeU a_treeV a_treeLen) (ua : U a) (ub : U b) (ab : a ≠ b)
    (h : ∀ i lv, i < k → ms_r (cn_ a_treeU) (cn_ a_treeV) (i + 1) a = ms_r (cn_ a_treeU) (cn_ a_treeV) (i + 1) b → ms_r (cn_ a_treeU) (cn_ a_treeV) i a ≠ ms_r (cn_ a_treeU) (cn_ a_treeV) i b → post (a_treeLen i) (f_size, f_solid, f_edges, nI k, a_used, a_px, a_py, a_alive, a_corner, a_across, a_bad, a_startsAt, a_endsAt, a_edgeU, a_edgeV, a_edgeLen, a_treeU, a_treeV, a_treeLen, lv, a_order, a_mark)) :
    ∀ n i : Nat, i ≤ k → k < n + i → ms_r (cn_ a_treeU) (cn_ a_treeV) i a ≠ ms_r (cn_ a_treeU) (cn_ a_treeV) i b → ∀ lv, ld_ lv (ms_r (cn_ a_treeU) (cn_ a_treeV) i) → wX_hop_32 post (nI a) (nI b) n (nI i) f_size f_solid f_edges (nI k) a_used a_px a_py a_alive a_corner a_across a_bad a_startsAt a_endsAt a_edgeU a_edgeV a_edgeLen a_treeU a_treeV a_treeLen lv a_order a_mark := by
  obtain ⟨ru, rv, M, k23⟩ := T
  intro n
  induction n with
  | zero => intro i hi hn; omega
  | succ n ih =>
    intro i hi hn ne lv ld
    rw [wX_hop_32]
    refine pk_le k i (fun z => ?_) (fun z => ?_)
    · exfalso
      have e : i = k := by omega
      subst e
      exact ne ((M.2.2 i 32258 (Nat.le_refl i) (fun j hj => (ms_tb B hU N M hj).2) (fun l h1 h2 => by omega) a b ua ub).mpr (mr_e ua ub (ge_Sb B (hU a ua) (hU b ub)).2))
    · have c1 := ru i z
      have c2 := rv i z
      have fin : ∀ lv2, ld_ lv2 (ms_r (cn_ a_treeU) (cn_ a_treeV) (i + 1)) → wpX_find (fun r_99 u => match u with | (f_size, f_solid, f_edges, f_treeEdges, a_used, a_px, a_py, a_alive, a_corner, a_across, a_bad, a_startsAt, a_endsAt, a_edgeU, a_edgeV, a_edgeLen, a_treeU, a_treeV, a_treeLen, a_leader, a_order, a_mark) => (wpX_find (fun r_122 u => match u with | (f_size, f_solid, f_edges, f_treeEdges, a_used, a_px, a_py, a_alive, a_corner, a_across, a_bad, a_startsAt, a_endsAt, a_edgeU, a_edgeV, a_edgeLen, a_treeU, a_treeV, a_treeLen, a_leader, a_order, a_mark) => (((r_99 = r_122 → (vp_in (nI i) 24 ∧ (post (a_treeLen i) (f_size, f_solid, f_edges, f_treeEdges, a_used, a_px, a_py, a_alive, a_corner, a_across, a_bad, a_startsAt, a_endsAt, a_edgeU, a_edgeV, a_edgeLen, a_treeU, a_treeV, a_treeLen, a_leader, a_order, a_mark)))) ∧ (¬ r_99 = r_122 → (∀ x3_146 : Int32, x3_146 = nI (i + 1) → (wX_hop_32 post (nI a) (nI b) n x3_146 f_size f_solid f_edges f_treeEdges a_used a_px a_py a_alive a_corner a_across a_bad a_startsAt a_endsAt a_edgeU a_edgeV a_edgeLen a_treeU a_treeV a_treeLen a_leader a_order a_mark)))))) (f_size, f_solid, f_edges, f_treeEdges, a_used, a_px, a_py, a_alive, a_corner, a_across, a_bad, a_startsAt, a_endsAt, a_edgeU, a_edgeV, a_edgeLen, a_treeU, a_treeV, a_treeLen, a_leader, a_order, a_mark) (nI b))) (f_size, f_solid, f_edges, nI k, a_used, a_px, a_py, a_alive, a_corner, a_across, a_bad, a_startsAt, a_endsAt, a_edgeU, a_edgeV, a_edgeLen, a_treeU, a_treeV, a_treeLen, lv2, a_order, a_mark) (nI a) := by
        intro lv2 l2
        have la := hU a ua
        have lb := hU b ub
        have r1 := (mr_rt (cn_ a_treeU) (cn_ a_treeV) (i + 1) a).1
        have r2 := (mr_rt (cn_ a_treeU) (cn_ a_treeV) (i + 1) b).1
        refine xw_find la l2 (fun lv3 l3 => ?_)
        dsimp only
        refine xw_find lb l3 (fun lv4 l4 => ?_)
        dsimp only
        refine br_c (fun q => ⟨in_ (by omega), ?_⟩) (fun q => nm_e ?_)
        · rw [nI_ne (by omega) (by omega)] at q
          exact h i lv4 z q ne
        · rw [nI_ne (by omega) (by omega)] at q
          exact ih (i + 1) (by omega) (by omega) q lv4 l4
      rw [cl_ (n := i) (by omega), c1.1, c2.1, nI_1]
      exact ⟨in_ (by omega), in_ (by omega), xw_join c1.2 c2.2 (mr_rt _ _ _) ld (fun _ lv2 l2 => fin lv2 l2) (fun _ lv2 l2 => fin lv2 l2)⟩
end
end
section
/-! the owed statements about the shortest tree, second part -/
theorem of_a (s : Int) (r : Int32) : Int32.ofInt s + r = Int32.ofInt (s + r.toInt) := by
  rw [Int32.ofInt_add, Int32.ofInt_toInt]
section
variable {a_here a_xs a_ys a_way : Nat → Int32}
theorem yw_back {post : Int32 → Prop} {i : Nat} (hi : i < 24) (h : post (bk_f a_here a_way i)) : wpY_back post (a_here, a_xs, a_ys, a_way) (nI i) := by
  unfold wpY_back
  dsimp only
  rw [cl_ (n := i) (by omega)]
  unfold bk_f at h
  refine ⟨in_ hi, br_c (fun z => ?_) (fun z => ?_)⟩
  · rw [if_pos z] at h; exact h
  · rw [if_neg z] at h
    have L : ∀ n j : Nat, j ≤ i → i < n + j → wY_back_15 post (nI i) a_here a_xs a_ys a_way n (bm_ a_here a_way i j) (nI j) := by
      intro n
      induction n with
      | zero => intro j hj hn; omega
      | succ n ih =>
        intro j hj hn
        rw [wY_back_15]
        have g : bm_ a_here a_way i (j + 1) = if a_here j = 0 then bm_ a_here a_way i j else if bm_ a_here a_way i j < 0 then a_way (i * 24 + j) else if bm_ a_here a_way i j ≤ a_way (i * 24 + j) then bm_ a_here a_way i j else a_way (i * 24 + j) := rfl
        refine pk_le i j (fun q => ?_) (fun q => ?_)
        · have e : j = i := by omega
          subst e; exact h
        · rw [cl_ (n := j) (by omega), i24, cl_ (n := i * 24 + j) (by omega), nI_1]
          have nx := ih (j + 1) (by omega) (by omega)
          rw [g] at nx
          have put : (bm_ a_here a_way i (j + 1) = a_way (i * 24 + j)) → wY_back_48 post (wY_back_15 post (nI i) a_here a_xs a_ys a_way n) (nI i) (nI j) a_here a_xs a_ys a_way := by
            intro e
            unfold wY_back_48
            rw [i24, cl_ (n := i * 24 + j) (by omega), nI_1]
            refine ⟨in_ (by omega), nm_e (nm_e ?_)⟩
            rw [← e]
            exact ih (j + 1) (by omega) (by omega)
          refine ⟨in_ (by omega), br_c (fun c => ?_) (fun c => br_c (fun d => put ?_) (fun d => ⟨in_ (by omega), br_c (fun e => ?_) (fun e => put ?_)⟩))⟩
          · rw [if_pos c] at nx
            exact nm_e nx
          · rw [g, if_neg c, if_pos d]
          · rw [if_neg c, if_neg d, if_pos e] at nx
            exact nm_e nx
          · rw [g, if_neg c, if_neg d, if_neg e]
    exact ⟨i + 1, L (i + 1) 0 (by omega) (by omega)⟩
theorem yw_groupOf {post : Int32 → SY → Prop} {id : Nat} {l : Int32} (B : ge_Bd (xi_ a_xs) (xi_ a_ys)) (N : ge_Ne (xi_ a_xs) (xi_ a_ys) (us_ a_here)) (hi : id < 24)
    (h0 : ¬ us_ a_here id → post (-4) (a_here, a_xs, a_ys, a_way)) (h1 : us_ a_here id → ∀ r av, r ≤ id → us_ a_here r → (r = id ∨ ms_R (xi_ a_xs) (xi_ a_ys) (us_ a_here) l.toInt id r) → (∀ j, j < r → us_ a_here j → ¬ ms_R (xi_ a_xs) (xi_ a_ys) (us_ a_here) l.toInt id j) → post (nI r) (a_here, a_xs, a_ys, av)) : wpY_groupOf post (a_here, a_xs, a_ys, a_way) (nI id) l := by
  unfold wpY_groupOf
  dsimp only
  refine yw_is (fun w => br_t rfl (h0 (fun u => u.2 (w id hi rfl)))) (fun i hi' e ui => br_f (by decide) (yw_ways B N (fun av W => ?_)))
  rw [nI_ne (by omega) (by omega)] at e
  subst e
  have ud : us_ a_here id := ⟨hi, ui⟩
  have h1' := h1 ud
  dsimp only
  have L : ∀ n j : Nat, j ≤ id → id < n + j → (∀ j', j' < j → us_ a_here j' → ¬ ms_R (xi_ a_xs) (xi_ a_ys) (us_ a_here) l.toInt id j') → wY_groupOf_17 post (nI id) l a_here a_xs a_ys av n (nI j) := by
    intro n
    induction n with
    | zero => intro j hj hn; omega
    | succ n ih =>
      intro j hj hn hj'
      rw [wY_groupOf_17]
      refine pk_le id j (fun z => ?_) (fun z => ?_)
      · have e : j = id := by omega
        subst e
        exact h1' j av (Nat.le_refl j) ud (Or.inl rfl) hj'
      · rw [cl_ (n := j) (by omega), i24, cl_ (n := id * 24 + j) (by omega), nI_1]
        refine ⟨in_ (by omega), br_c (fun q => nm_e (ih (j + 1) (by omega) (by omega) (fun j2 h2 u2 => ?_))) (fun q => ⟨in_ (by omega), br_c (fun c => nm_e (ih (j + 1) (by omega) (by omega) (fun j2 h2 u2 => ?_))) (fun c => ?_)⟩)⟩
        · by_cases e : j2 = j
          · rw [e] at u2; exact absurd q u2.2
          · exact hj' j2 (by omega) u2
        · by_cases e : j2 = j
          · subst e
            rw [Int32.lt_iff_toInt_lt] at c
            rw [← W.1 id j2 ud u2 (by omega)]
            omega
          · exact hj' j2 (by omega) u2
        · rw [Int32.lt_iff_toInt_lt] at c
          have uj : us_ a_here j := ⟨by omega, q⟩
          exact h1' j av hj uj (Or.inr ((W.1 id j ud uj (by omega) _).mp (by omega))) hj'
  exact ⟨id + 1, L (id + 1) 0 (by omega) (by omega) (fun j' hj' => by omega)⟩
theorem yw_groups {post : Int32 → SY → Prop} {l : Int32} (B : ge_Bd (xi_ a_xs) (xi_ a_ys)) (N : ge_Ne (xi_ a_xs) (xi_ a_ys) (us_ a_here))
    (h : ∀ av, post (nI (fc_n (fun i => us_ a_here i ∧ ¬ ∃ j, j < i ∧ us_ a_here j ∧ ms_R (xi_ a_xs) (xi_ a_ys) (us_ a_here) l.toInt i j) 24)) (a_here, a_xs, a_ys, av)) : wpY_groups post (a_here, a_xs, a_ys, a_way) l := by
  unfold wpY_groups
  dsimp only
  have L : ∀ n i : Nat, i ≤ 24 → 24 < n + i → ∀ av, wY_groups_4 post l n (nI (fc_n (fun i => us_ a_here i ∧ ¬ ∃ j, j < i ∧ us_ a_here j ∧ ms_R (xi_ a_xs) (xi_ a_ys) (us_ a_here) l.toInt i j) i)) (nI i) a_here a_xs a_ys av := by
    intro n
    induction n with
    | zero => intro i hi hn; omega
    | succ n ih =>
      intro i hi hn av
      rw [wY_groups_4]
      have c24 := fc_le (fun i => us_ a_here i ∧ ¬ ∃ j, j < i ∧ us_ a_here j ∧ ms_R (xi_ a_xs) (xi_ a_ys) (us_ a_here) l.toInt i j) i
      refine pk_le 24 i (fun z => ?_) (fun z => ?_)
      · have e : i = 24 := by omega
        subst e
        exact h av
      · have sc : fc_n (fun i => us_ a_here i ∧ ¬ ∃ j, j < i ∧ us_ a_here j ∧ ms_R (xi_ a_xs) (xi_ a_ys) (us_ a_here) l.toInt i j) (i + 1) = fc_n (fun i => us_ a_here i ∧ ¬ ∃ j, j < i ∧ us_ a_here j ∧ ms_R (xi_ a_xs) (xi_ a_ys) (us_ a_here) l.toInt i j) i + fc_b (us_ a_here i ∧ ¬ ∃ j, j < i ∧ us_ a_here j ∧ ms_R (xi_ a_xs) (xi_ a_ys) (us_ a_here) l.toInt i j) := rfl
        refine yw_groupOf B N z (fun nu => ?_) (fun ui r av2 hr ur hr2 hr3 => ?_)
        · dsimp only
          refine br_f (fun e => ?_) ?_
          · have := congrArg Int32.toInt e
            rw [nI_toInt (by omega)] at this
            have q : (-4 : Int32).toInt = -4 := by decide
            omega
          · rw [nI_1]
            have g := ih (i + 1) (by omega) (by omega) av
            rw [sc, fc_bf (fun q => nu q.1), Nat.add_zero] at g
            exact nm_e g
        · dsimp only
          refine pk_eq r i (fun e => ?_) (fun e => ?_)
          · rw [nI_1, nI_1]
            have g := ih (i + 1) (by omega) (by omega) av2
            subst e
            rw [sc, fc_bt ⟨ui, fun ⟨j, h1, h2, h3⟩ => hr3 j h1 h2 h3⟩] at g
            exact nm_e (nm_e g)
          · rw [nI_1]
            have g := ih (i + 1) (by omega) (by omega) av2
            rw [sc, fc_bf (fun q => q.2 ⟨r, by omega, ur, hr2.resolve_left e⟩), Nat.add_zero] at g
            exact nm_e g
  exact ⟨25, L 25 0 (by omega) (by omega) a_way⟩
theorem yw_treeTotal {post : Int32 → SY → Prop} (B : ge_Bd (xi_ a_xs) (xi_ a_ys)) (N : ge_Ne (xi_ a_xs) (xi_ a_ys) (us_ a_here))
    (h : ∀ av, wy_ (xi_ a_xs) (xi_ a_ys) (us_ a_here) av → post (Int32.ofInt (sm_ (fun i => if (bk_f a_here av i).toInt ≤ 0 then 0 else (bk_f a_here av i).toInt) 24)) (a_here, a_xs, a_ys, av)) : wpY_treeTotal post (a_here, a_xs, a_ys, a_way) := by
  unfold wpY_treeTotal
  dsimp only
  refine yw_ways B N (fun av W => ?_)
  dsimp only
  have L : ∀ n i : Nat, i ≤ 24 → 24 < n + i → wY_treeTotal_8 post a_here a_xs a_ys av n (Int32.ofInt (sm_ (fun i => if (bk_f a_here av i).toInt ≤ 0 then 0 else (bk_f a_here av i).toInt) i)) (nI i) := by
    intro n
    induction n with
    | zero => intro i hi hn; omega
    | succ n ih =>
      intro i hi hn
      rw [wY_treeTotal_8]
      refine pk_le 24 i (fun z => ?_) (fun z => yw_back z ?_)
      · have e : i = 24 := by omega
        subst e
        exact h av W
      · have g := ih (i + 1) (by omega) (by omega)
        rw [show sm_ (fun i => if (bk_f a_here av i).toInt ≤ 0 then 0 else (bk_f a_here av i).toInt) (i + 1) = sm_ (fun i => if (bk_f a_here av i).toInt ≤ 0 then 0 else (bk_f a_here av i).toInt) i + (if (bk_f a_here av i).toInt ≤ 0 then 0 else (bk_f a_here av i).toInt) from rfl] at g
        rw [nI_1]
        refine br_c (fun c => ?_) (fun c => ?_)
        · rw [i_le0] at c
          rw [if_pos c, Int.add_zero] at g
          exact nm_e g
        · rw [i_le0] at c
          rw [if_neg c] at g
          rw [of_a]
          exact nm_e (nm_e g)
  exact ⟨25, L 25 0 (by omega) (by omega)⟩
theorem yw_te44 {post : Int32 → SY → Prop} {J : Int32 → Prop} {p b : Int32} {i : Nat}
    (hn : ¬ (0 < b.toInt ∧ nI (fc_n (fun j => 0 < (bk_f a_here a_way j).toInt ∧ (bk_f a_here a_way j).toInt < b.toInt) 24) ≤ p ∧ p < nI (fc_n (fun j => 0 < (bk_f a_here a_way j).toInt ∧ (bk_f a_here a_way j).toInt < b.toInt) 24 + fc_n (fun j => bk_f a_here a_way j = b) 24)) → J (nI (i + 1))) (h : 0 < b.toInt → nI (fc_n (fun j => 0 < (bk_f a_here a_way j).toInt ∧ (bk_f a_here a_way j).toInt < b.toInt) 24) ≤ p → p < nI (fc_n (fun j => 0 < (bk_f a_here a_way j).toInt ∧ (bk_f a_here a_way j).toInt < b.toInt) 24 + fc_n (fun j => bk_f a_here a_way j = b) 24) → post b (a_here, a_xs, a_ys, a_way)) :
    ∀ n j : Nat, j ≤ 24 → 24 < n + j → wY_treeEdge_44 post J p (nI i) b a_here a_xs a_ys a_way n (nI (fc_n (fun j => 0 < (bk_f a_here a_way j).toInt ∧ (bk_f a_here a_way j).toInt < b.toInt) j)) (nI (fc_n (fun j => bk_f a_here a_way j = b) j)) (nI j) := by
  intro n
  induction n with
  | zero => intro j hj hn; omega
  | succ n ih =>
    intro j hj hn'
    rw [wY_treeEdge_44]
    refine pk_le 24 j (fun z => ?_) (fun z => yw_back z ?_)
    · have e : j = 24 := by omega
      subst e
      rw [nI_1, nI_add]
      refine br_c (fun c => nm_e (hn (fun w => ?_))) (fun c => br_c (fun c2 => nm_e (hn (fun w => Int32.not_lt.mpr w.2.1 c2))) (fun c2 => br_c (fun c3 => nm_e (hn (fun w => Int32.not_le.mpr w.2.2 c3))) (fun c3 => h ?_ (Int32.not_lt.mp c2) (Int32.not_le.mp c3))))
      · rw [i_le0] at c
        omega
      · rw [i_le0] at c
        omega
    · have g := ih (j + 1) (by omega) (by omega)
      rw [show fc_n (fun j => 0 < (bk_f a_here a_way j).toInt ∧ (bk_f a_here a_way j).toInt < b.toInt) (j + 1) = fc_n (fun j => 0 < (bk_f a_here a_way j).toInt ∧ (bk_f a_here a_way j).toInt < b.toInt) j + fc_b (0 < (bk_f a_here a_way j).toInt ∧ (bk_f a_here a_way j).toInt < b.toInt) from rfl,
        show fc_n (fun j => bk_f a_here a_way j = b) (j + 1) = fc_n (fun j => bk_f a_here a_way j = b) j + fc_b (bk_f a_here a_way j = b) from rfl] at g
      have put : ∀ c, c = nI (fc_n (fun j => 0 < (bk_f a_here a_way j).toInt ∧ (bk_f a_here a_way j).toInt < b.toInt) j + fc_b (0 < (bk_f a_here a_way j).toInt ∧ (bk_f a_here a_way j).toInt < b.toInt)) → wY_treeEdge_73 post J (wY_treeEdge_44 post J p (nI i) b a_here a_xs a_ys a_way n) p (nI i) b c (nI (fc_n (fun j => bk_f a_here a_way j = b) j)) (nI j) (bk_f a_here a_way j) a_here a_xs a_ys a_way := by
        intro c hc
        unfold wY_treeEdge_73
        rw [nI_1, nI_1, hc]
        refine br_c (fun q => nm_e (nm_e ?_)) (fun q => nm_e ?_)
        · rw [fc_bt (p := bk_f a_here a_way j = b) q] at g; exact g
        · rw [fc_bf (p := bk_f a_here a_way j = b) q, Nat.add_zero] at g; exact g
      refine br_c (fun c => put _ ?_) (fun c => br_c (fun c2 => put _ ?_) (fun c2 => nm_e (put _ ?_)))
      · rw [i_le0] at c
        rw [fc_bf (fun q => by omega)]; rfl
      · rw [Int32.le_iff_toInt_le] at c2
        rw [fc_bf (fun q => by omega)]; rfl
      · rw [i_le0] at c
        rw [Int32.le_iff_toInt_le] at c2
        rw [fc_bt (show 0 < (bk_f a_here a_way j).toInt ∧ (bk_f a_here a_way j).toInt < b.toInt by omega), nI_1]
end
theorem i_vc_treeTotal {k : Nat} {u : SX} {v : SY} (I : i_Rel k u v) (hk : k + 4 ≤ 2048) : wpX_treeTotal (fun r => wpY_treeTotal (fun r' v' => r' = r ∧ i_Rel (k + 4) u v') v) u := by
  refine zz_el (P := fun u v => wpX_treeTotal (fun r => wpY_treeTotal (fun r' v' => r' = r ∧ i_Rel (k + 4) u v') v) u) ?_ I
  intro f_size f_solid f_edges f_treeEdges a_used a_px a_py a_alive a_corner a_across a_bad a_startsAt a_endsAt a_edgeU a_edgeV a_edgeLen a_treeU a_treeV a_treeLen a_leader a_order a_mark a_way R
  have R' := R
  obtain ⟨Bd, N, hs, _, hsol, _, ⟨q, eq, T⟩⟩ := R
  subst eq
  unfold wpX_treeTotal
  dsimp only
  have L : ∀ n i : Nat, i ≤ q → q < n + i → wX_treeTotal_4 (fun r => wpY_treeTotal (fun r' v' => r' = r ∧ i_Rel (k + 4) (f_size, f_solid, f_edges, nI q, a_used, a_px, a_py, a_alive, a_corner, a_across, a_bad, a_startsAt, a_endsAt, a_edgeU, a_edgeV, a_edgeLen, a_treeU, a_treeV, a_treeLen, a_leader, a_order, a_mark) v') (a_used, a_px, a_py, a_way)) f_size f_solid f_edges (nI q) a_used a_px a_py a_alive a_corner a_across a_bad a_startsAt a_endsAt a_edgeU a_edgeV a_edgeLen a_treeU a_treeV a_treeLen a_leader a_order a_mark n (Int32.ofInt (sm_ (xi_ a_treeLen) i)) (nI i) := by
    intro n
    induction n with
    | zero => intro i hi hn; omega
    | succ n ih =>
      intro i hi hn
      have k23 := T.2.2.2
      rw [wX_treeTotal_4]
      refine pk_le q i (fun z => ?_) (fun z => ?_)
      · have e : i = q := by omega
        subst e
        refine yw_treeTotal Bd N (fun av W => ⟨?_, zz_mk R'⟩)
        rw [bk_sum Bd N W T.2.2.1]
      · rw [cl_ (n := i) (by omega), of_a, nI_1]
        exact ⟨in_ (by omega), nm_e (nm_e (ih (i + 1) (by omega) (by omega)))⟩
  exact ⟨q + 1, L (q + 1) 0 (by omega) (by omega)⟩
theorem i_vc_treeEdge {k : Nat} {u : SX} {v : SY} (I : i_Rel k u v) (hk : k + 4 ≤ 2048) (v1 : Int32) : wpX_treeEdge (fun r => wpY_treeEdge (fun r' v' => r' = r ∧ i_Rel (k + 4) u v') v v1) u v1 := by
  refine zz_el (P := fun u v => wpX_treeEdge (fun r => wpY_treeEdge (fun r' v' => r' = r ∧ i_Rel (k + 4) u v') v v1) u v1) ?_ I
  intro f_size f_solid f_edges f_treeEdges a_used a_px a_py a_alive a_corner a_across a_bad a_startsAt a_endsAt a_edgeU a_edgeV a_edgeLen a_treeU a_treeV a_treeLen a_leader a_order a_mark a_way R
  have R' := R
  obtain ⟨Bd, N, hs, _, hsol, _, ⟨q, eq, T⟩⟩ := R
  subst eq
  have sz := ms_size Bd (fun i h => h.1) N T.2.2.1
  have k23 := T.2.2.2
  unfold wpX_treeEdge wpY_treeEdge
  dsimp only
  refine br_c (fun z => br_t z ⟨rfl, zz_mk R'⟩) (fun z => ?_)
  obtain ⟨p, hp, e⟩ := nI_of z
  subst e
  have s2 : (nI (fc_n (us_ a_used) 24) - 2).toInt = (fc_n (us_ a_used) 24 : Int) - 2 := pk_sub_toInt (b := 2) (by omega) (by omega)
  have cmp : nI p ≤ nI (fc_n (us_ a_used) 24) - 2 ↔ p < q := by
    rw [Int32.le_iff_toInt_le, s2, nI_toInt hp]
    omega
  refine pk_lt p q (fun c => ?_) (fun c => br_f z (yw_size (br_f (fun w => by rw [cmp] at w; omega) ⟨rfl, zz_mk R'⟩)))
  rw [cl_ (n := p) (by omega)]
  refine ⟨in_ (by omega), br_f z (yw_size (br_t (cmp.mpr c) (yw_ways Bd N (fun av W => ?_))))⟩
  dsimp only
  have M := T.2.2.1
  have tb := ms_tb Bd (fun i h => h.1) N M c
  -- counts below and up to a length
  have cnt : ∀ L : Int, p < fc_n (fun j => 0 < (bk_f a_used av j).toInt ∧ (bk_f a_used av j).toInt ≤ L) 24 ↔ xi_ a_treeLen p ≤ L := by
    intro L
    rw [bk_cnt W M L]
    obtain ⟨k', h1, h2, h3, h4⟩ := so_k M.2.1 L
    rw [h4]
    constructor
    · intro w; exact h2 p w
    · intro w
      by_cases w2 : p < k'
      · exact w2
      · have := h3 p (by omega) c
        omega
  have lt_le : ∀ b : Int, fc_n (fun j => 0 < (bk_f a_used av j).toInt ∧ (bk_f a_used av j).toInt < b) 24 = fc_n (fun j => 0 < (bk_f a_used av j).toInt ∧ (bk_f a_used av j).toInt ≤ b - 1) 24 := fun b => fc_c 24 (fun j _ => by omega)
  have le_sp : ∀ b : Int32, 0 < b.toInt → fc_n (fun j => 0 < (bk_f a_used av j).toInt ∧ (bk_f a_used av j).toInt ≤ b.toInt) 24 = fc_n (fun j => 0 < (bk_f a_used av j).toInt ∧ (bk_f a_used av j).toInt < b.toInt) 24 + fc_n (fun j => bk_f a_used av j = b) 24 := by
    intro b hb
    rw [fc_sp (P := fun j => 0 < (bk_f a_used av j).toInt ∧ (bk_f a_used av j).toInt ≤ b.toInt) (Q := fun j => (bk_f a_used av j).toInt < b.toInt) 24]
    congr 1
    · exact fc_c 24 (fun j _ => by omega)
    · refine fc_c 24 (fun j _ => ?_)
      rw [← Int32.toInt_inj]
      omega
  have hit : ∀ b : Int32, 0 < b.toInt → nI (fc_n (fun j => 0 < (bk_f a_used av j).toInt ∧ (bk_f a_used av j).toInt < b.toInt) 24) ≤ nI p → nI p < nI (fc_n (fun j => 0 < (bk_f a_used av j).toInt ∧ (bk_f a_used av j).toInt < b.toInt) 24 + fc_n (fun j => bk_f a_used av j = b) 24) → b = a_treeLen p := by
    intro b hb h1 h2
    have l1 := fc_le (fun j => 0 < (bk_f a_used av j).toInt ∧ (bk_f a_used av j).toInt < b.toInt) 24
    have l2 := fc_le (fun j => bk_f a_used av j = b) 24
    rw [nI_leI (by omega) (by omega)] at h1
    rw [nI_ltI (by omega) (by omega), ← le_sp b hb, cnt] at h2
    rw [lt_le] at h1
    have h3 := cnt (b.toInt - 1)
    rw [← Int32.toInt_inj]
    unfold xi_ at h2 h3
    omega
  have ex : ∃ i, i < 24 ∧ bk_f a_used av i = a_treeLen p := by
    have pos : 0 < (a_treeLen p).toInt := tb.1
    have h1 := (cnt (a_treeLen p).toInt).mpr (Int.le_refl _)
    have h2 := cnt ((a_treeLen p).toInt - 1)
    rw [le_sp _ pos, lt_le] at h1
    have h3 : ¬ p < fc_n (fun j => 0 < (bk_f a_used av j).toInt ∧ (bk_f a_used av j).toInt ≤ (a_treeLen p).toInt - 1) 24 := by
      rw [h2]
      unfold xi_
      omega
    exact fc_pos 24 (by omega)
  obtain ⟨i0, hi0, e0⟩ := ex
  have L : ∀ n i : Nat, i ≤ i0 → 24 < n + i → wY_treeEdge_23 (fun r' v' => r' = a_treeLen p ∧ i_Rel (k + 4) (f_size, f_solid, f_edges, nI q, a_used, a_px, a_py, a_alive, a_corner, a_across, a_bad, a_startsAt, a_endsAt, a_edgeU, a_edgeV, a_edgeLen, a_treeU, a_treeV, a_treeLen, a_leader, a_order, a_mark) v') (nI p) a_used a_px a_py av n (nI i) := by
    intro n
    induction n with
    | zero => intro i hi hn; omega
    | succ n ih =>
      intro i hi hn
      rw [wY_treeEdge_23]
      refine pk_le 24 i (fun z => by omega) (fun z => yw_back z ?_)
      by_cases e : i = i0
      · subst e
        have pos : 0 < (a_treeLen p).toInt := tb.1
        rw [e0]
        refine ⟨25, yw_te44 (fun w => absurd ?_ w) (fun h1 h2 h3 => ⟨rfl, zz_mk R'⟩) 25 0 (by omega) (by omega)⟩
        have l1 := fc_le (fun j => 0 < (bk_f a_used av j).toInt ∧ (bk_f a_used av j).toInt < (a_treeLen p).toInt) 24
        have l2 := fc_le (fun j => bk_f a_used av j = a_treeLen p) 24
        refine ⟨pos, ?_, ?_⟩
        · rw [nI_leI (by omega) (by omega), lt_le]
          have h2 := cnt ((a_treeLen p).toInt - 1)
          unfold xi_ at h2
          omega
        · rw [nI_ltI (by omega) (by omega), ← le_sp _ pos, cnt]
          exact Int.le_refl _
      · exact ⟨25, yw_te44 (fun _ => ih (i + 1) (by omega) (by omega)) (fun h1 h2 h3 => ⟨hit _ h1 h2 h3, zz_mk R'⟩) 25 0 (by omega) (by omega)⟩
  exact ⟨25, L 25 0 (by omega) (by omega)⟩

theorem i_vc_hop {k : Nat} {u : SX} {v : SY} (I : i_Rel k u v) (hk : k + 4 ≤ 2048) (v1 : Int32) (v2 : Int32) : wpX_hop (fun r u' => wpY_hop (fun r' v' => r' = r ∧ i_Rel (k + 4) u' v') v v1 v2) u v1 v2 := by
  refine zz_el (P := fun u v => wpX_hop (fun r u' => wpY_hop (fun r' v' => r' = r ∧ i_Rel (k + 4) u' v') v v1 v2) u v1 v2) ?_ I
  intro f_size f_solid f_edges f_treeEdges a_used a_px a_py a_alive a_corner a_across a_bad a_startsAt a_endsAt a_edgeU a_edgeV a_edgeLen a_treeU a_treeV a_treeLen a_leader a_order a_mark a_way R
  have R' := R
  obtain ⟨Bd, N, hs, _, hsol, _, ⟨q, eq, T⟩⟩ := R
  subst eq
  have M := T.2.2.1
  unfold wpX_hop
  dsimp only
  refine xw_noPoint (fun w => br_f (by decide) ?_) (fun a ha e ua => br_t rfl (xw_noPoint (fun w => br_f (by decide) ?_) (fun b hb e2 ub => br_t rfl ?_)))
  · unfold wpY_hop
    dsimp only
    exact yw_is (fun _ => br_t rfl ⟨rfl, zz_mk R'⟩) (fun i hi e ui => absurd (w i hi e) ui)
  · unfold wpY_hop
    dsimp only
    exact yw_is (fun w2 => absurd (w2 a ha e) ua) (fun _ _ _ _ => br_f (by decide) (yw_is (fun _ => br_t rfl ⟨rfl, zz_mk R'⟩) (fun i hi e ui => absurd (w i hi e) ui)))
  · subst e e2
    have sa : us_ a_used a := ⟨ha, ua⟩
    have sb : us_ a_used b := ⟨hb, ub⟩
    have Yh : ∀ (post : Int32 → SY → Prop), (∀ av, wy_ (xi_ a_px) (xi_ a_py) (us_ a_used) av → post (av (a * 24 + b)) (a_used, a_px, a_py, av)) → wpY_hop post (a_used, a_px, a_py, a_way) (nI a) (nI b) := by
      intro post hp
      unfold wpY_hop
      dsimp only
      refine yw_is (fun w2 => absurd (w2 a ha rfl) ua) (fun _ _ _ _ => br_f (by decide) (yw_is (fun w2 => absurd (w2 b hb rfl) ub) (fun _ _ _ _ => br_f (by decide) (yw_ways Bd N (fun av W => ?_)))))
      dsimp only
      rw [i24, cl_ (n := a * 24 + b) (by omega)]
      exact ⟨in_ (by omega), hp av W⟩
    refine pk_eq a b (fun ab => ?_) (fun ab => xw_alone (fun lv l0 => ?_))
    · refine Yh _ (fun av W => ⟨?_, zz_mk R'⟩)
      subst ab
      exact W.2.1 a sa
    · dsimp only
      refine ⟨q + 1, xw_hop32 Bd N (fun i h => h.1) T sa sb ab (fun i lv2 hi e1 ne => Yh _ (fun av W => ⟨?_, zz_mk R'⟩)) (q + 1) 0 (by omega) (by omega) (show ms_r _ _ 0 a ≠ ms_r _ _ 0 b from ab) lv l0⟩
      rw [← Int32.toInt_inj]
      have key := W.1 a b sa sb ab
      have up : (av (a * 24 + b)).toInt ≤ (a_treeLen i).toInt := by
        rw [key]
        have t := mr_to (x := xi_ a_px) (y := xi_ a_py) (U := us_ a_used) (L := (a_treeLen i).toInt) (u := cn_ a_treeU) (v := cn_ a_treeV) (i + 1) (fun j hj => ⟨(M.1 j (by omega)).1, (M.1 j (by omega)).2.1, by
          have h1 := (M.1 j (by omega)).2.2.1
          have h2 := M.2.1 j i (by omega) hi
          unfold xi_ at h1 h2 ⊢
          omega⟩)
        have ta := t a
        have tb := t b
        rw [e1] at ta
        exact mr_tr (mr_sy ta) tb
      by_cases z : (av (a * 24 + b)).toInt < (a_treeLen i).toInt
      · exfalso
        have Rr := (key (av (a * 24 + b)).toInt).mp (Int.le_refl _)
        obtain ⟨k', h1, h2, h3, h4⟩ := so_k M.2.1 (av (a * 24 + b)).toInt
        have ki : k' ≤ i := by
          by_cases w : k' ≤ i
          · exact w
          · have := h2 i (by omega)
            unfold xi_ at this
            omega
        exact ne (mr_up ((M.2.2 k' _ h1 h2 h3 a b sa sb).mpr Rr) i ki)
      · omega
theorem i_vc_groups {k : Nat} {u : SX} {v : SY} (I : i_Rel k u v) (hk : k + 4 ≤ 2048) (v1 : Int32) : wpX_groups (fun r u' => wpY_groups (fun r' v' => r' = r ∧ i_Rel (k + 4) u' v') v v1) u v1 := by
  refine zz_el (P := fun u v => wpX_groups (fun r u' => wpY_groups (fun r' v' => r' = r ∧ i_Rel (k + 4) u' v') v v1) u v1) ?_ I
  intro f_size f_solid f_edges f_treeEdges a_used a_px a_py a_alive a_corner a_across a_bad a_startsAt a_endsAt a_edgeU a_edgeV a_edgeLen a_treeU a_treeV a_treeLen a_leader a_order a_mark a_way R
  have R' := R
  obtain ⟨Bd, N, hs, _, hsol, _, ⟨q, eq, T⟩⟩ := R
  subst eq
  have M := T.2.2.1
  unfold wpX_groups
  dsimp only
  refine xw_joinUpTo (fun i h => h.1) T (fun k' lv h1 h2 h3 l => ?_)
  dsimp only
  refine yw_groups Bd N (fun av => ⟨?_, zz_mk R'⟩)
  have c := mr_cnt (u := cn_ a_treeU) (v := cn_ a_treeV) (V := us_ a_used) (fun i h => h.1) k' (fun j hj => ⟨(M.1 j (by omega)).1, (M.1 j (by omega)).2.1, (M.1 j (by omega)).2.2.2⟩)
  rw [hs, pk_sub (by omega)]
  refine congrArg nI ?_
  rw [fc_c (P := fun i => us_ a_used i ∧ ¬ ∃ j, j < i ∧ us_ a_used j ∧ ms_R (xi_ a_px) (xi_ a_py) (us_ a_used) v1.toInt i j) (Q := fun i => us_ a_used i ∧ ms_r (cn_ a_treeU) (cn_ a_treeV) k' i = i) 24 (fun i hi => ?_)]
  · omega
  · constructor
    · intro ⟨ui, n⟩
      exact ⟨ui, (ms_rootN (fun i h => h.1) M h1 h2 h3 ui).mpr n⟩
    · intro ⟨ui, n⟩
      exact ⟨ui, (ms_rootN (fun i h => h.1) M h1 h2 h3 ui).mp n⟩
theorem i_vc_groupOf {k : Nat} {u : SX} {v : SY} (I : i_Rel k u v) (hk : k + 4 ≤ 2048) (v1 : Int32) (v2 : Int32) : wpX_groupOf (fun r u' => wpY_groupOf (fun r' v' => r' = r ∧ i_Rel (k + 4) u' v') v v1 v2) u v1 v2 := by
  refine zz_el (P := fun u v => wpX_groupOf (fun r u' => wpY_groupOf (fun r' v' => r' = r ∧ i_Rel (k + 4) u' v') v v1 v2) u v1 v2) ?_ I
  intro f_size f_solid f_edges f_treeEdges a_used a_px a_py a_alive a_corner a_across a_bad a_startsAt a_endsAt a_edgeU a_edgeV a_edgeLen a_treeU a_treeV a_treeLen a_leader a_order a_mark a_way R
  have R' := R
  obtain ⟨Bd, N, hs, _, hsol, _, ⟨q, eq, T⟩⟩ := R
  subst eq
  have M := T.2.2.1
  unfold wpX_groupOf
  dsimp only
  refine xw_noPoint (fun w => br_f (by decide) ?_) (fun a ha e ua => br_t rfl ?_)
  · unfold wpY_groupOf
    dsimp only
    exact yw_is (fun _ => br_t rfl ⟨rfl, zz_mk R'⟩) (fun i hi e ui => absurd (w i hi e) ui)
  · subst e
    have sa : us_ a_used a := ⟨ha, ua⟩
    refine xw_joinUpTo (fun i h => h.1) T (fun k' lv h1 h2 h3 l => ?_)
    dsimp only
    refine xw_find ha l (fun lv2 l2 => ?_)
    dsimp only
    have r := ms_root (fun i h => h.1) M h1 h2 h3 sa
    refine yw_groupOf Bd N ha (fun nu => absurd sa nu) (fun _ g av g1 g2 g3 g4 => ⟨?_, zz_mk R'⟩)
    refine congrArg nI ?_
    by_cases z : g < ms_r (cn_ a_treeU) (cn_ a_treeV) k' a
    · rcases g3 with e | e
      · have := r.2.1
        omega
      · have := r.2.2.2 g g2 e
        omega
    · by_cases z2 : ms_r (cn_ a_treeU) (cn_ a_treeV) k' a < g
      · exact absurd r.2.2.1 (g4 _ z2 r.1)
      · omega
end
section
/-! the owed statement about the nearest point -/
/-- o is joined to a by an edge of the list below n -/
def nb_ (a_edgeU a_edgeV : Nat → Int32) (n a o : Nat) : Prop := ∃ i, i < n ∧ ((a_edgeU i = nI a ∧ a_edgeV i = nI o) ∨ (a_edgeU i = nI o ∧ a_edgeV i = nI a))
theorem nb_K {a_px a_py : Nat → Int32} {U : Nat → Prop} {line : Prop} {m : Nat} {a_edgeU a_edgeV a_edgeLen : Nat → Int32} (G : eg_Ok a_px a_py U line m a_edgeU a_edgeV a_edgeLen) {a b : Nat} (ua : U a) (ub : U b) (ab : a ≠ b) (h : ln_K (xi_ a_px) (xi_ a_py) U a b) : nb_ a_edgeU a_edgeV m a b := by
  obtain ⟨hm, Q, E, g1, g2, g3⟩ := G
  rcases g2 a b ua ub ab h with q | q
  · obtain ⟨i, hi, h1, h2⟩ := E.2.2 a b q
    exact ⟨i, hi, Or.inl ⟨h1, h2⟩⟩
  · obtain ⟨i, hi, h1, h2⟩ := E.2.2 b a q
    exact ⟨i, hi, Or.inr ⟨h1, h2⟩⟩
section
variable {f_size f_solid f_edges f_treeEdges : Int32} {a_used a_px a_py a_alive a_corner a_across a_bad a_startsAt a_endsAt a_edgeU a_edgeV a_edgeLen a_treeU a_treeV a_treeLen a_leader a_order a_mark : Nat → Int32}
theorem xw_walk {post : Int32 → Prop} {U : Nat → Prop} {line : Prop} {m a : Nat} {qx qy : Int32} (Bd : ge_Bd (xi_ a_px) (xi_ a_py)) (hU : ∀ i, U i → i < 24) (N : ge_Ne (xi_ a_px) (xi_ a_py) U) (G : eg_Ok a_px a_py U line m a_edgeU a_edgeV a_edgeLen)
    (hq : (0 ≤ qx.toInt ∧ qx.toInt ≤ 127) ∧ (0 ≤ qy.toInt ∧ qy.toInt ≤ 127)) (ua : U a)
    (h : ∀ r, U r → ((r = a ∧ ∀ c, U c → ln_q (xi_ a_px) (xi_ a_py) qx.toInt qy.toInt a ≤ ln_q (xi_ a_px) (xi_ a_py) qx.toInt qy.toInt c) ∨ ln_q (xi_ a_px) (xi_ a_py) qx.toInt qy.toInt r < ln_q (xi_ a_px) (xi_ a_py) qx.toInt qy.toInt a) → post (nI r)) :
    wpX_walk post (f_size, f_solid, nI m, f_treeEdges, a_used, a_px, a_py, a_alive, a_corner, a_across, a_bad, a_startsAt, a_endsAt, a_edgeU, a_edgeV, a_edgeLen, a_treeU, a_treeV, a_treeLen, a_leader, a_order, a_mark) (nI a) qx qy := by
  have G' := G
  obtain ⟨hm, Q, E, g1, g2, g3⟩ := G
  unfold wpX_walk
  dsimp only
  have L : ∀ n i : Nat, i ≤ m → m < n + i → ∀ b, U b → (b = a ∨ ln_q (xi_ a_px) (xi_ a_py) qx.toInt qy.toInt b < ln_q (xi_ a_px) (xi_ a_py) qx.toInt qy.toInt a) → (∀ o, U o → nb_ a_edgeU a_edgeV i a o → ln_q (xi_ a_px) (xi_ a_py) qx.toInt qy.toInt b ≤ ln_q (xi_ a_px) (xi_ a_py) qx.toInt qy.toInt o) →
      wX_walk_6 post (nI a) qx qy f_size f_solid (nI m) f_treeEdges a_used a_px a_py a_alive a_corner a_across a_bad a_startsAt a_endsAt a_edgeU a_edgeV a_edgeLen a_treeU a_treeV a_treeLen a_leader a_order a_mark n (nI b) (nI i) := by
    intro n
    induction n with
    | zero => intro i hi hn; omega
    | succ n ih =>
      intro i hi hn b ub hb ho
      rw [wX_walk_6]
      refine pk_le m i (fun z => h b ub ?_) (fun z => ?_)
      · have e : i = m := by omega
        subst e
        rcases hb with hb | hb
        · left
          refine ⟨hb, fun c uc => ?_⟩
          by_cases w : ln_q (xi_ a_px) (xi_ a_py) qx.toInt qy.toInt c < ln_q (xi_ a_px) (xi_ a_py) qx.toInt qy.toInt a
          · obtain ⟨d, ud, da, hk, hl⟩ := ln_near N hU ua uc _ _ w
            have := ho d ud (nb_K G' ua ud (fun e => da e.symm) hk)
            rw [hb] at this
            omega
          · omega
        · exact Or.inr hb
      · obtain ⟨u, v, e1, e2, l1, l2, q, e3⟩ := E.1 i z
        have uq := g1 u v q
        have la := hU a ua
        have lb := hU b ub
        -- one more edge
        have more : ∀ c, U c → (c = a ∨ ln_q (xi_ a_px) (xi_ a_py) qx.toInt qy.toInt c < ln_q (xi_ a_px) (xi_ a_py) qx.toInt qy.toInt a) → (∀ o, U o → nb_ a_edgeU a_edgeV i a o → ln_q (xi_ a_px) (xi_ a_py) qx.toInt qy.toInt c ≤ ln_q (xi_ a_px) (xi_ a_py) qx.toInt qy.toInt o) →
            (u = a → ln_q (xi_ a_px) (xi_ a_py) qx.toInt qy.toInt c ≤ ln_q (xi_ a_px) (xi_ a_py) qx.toInt qy.toInt v) → (v = a → ln_q (xi_ a_px) (xi_ a_py) qx.toInt qy.toInt c ≤ ln_q (xi_ a_px) (xi_ a_py) qx.toInt qy.toInt u) → wX_walk_6 post (nI a) qx qy f_size f_solid (nI m) f_treeEdges a_used a_px a_py a_alive a_corner a_across a_bad a_startsAt a_endsAt a_edgeU a_edgeV a_edgeLen a_treeU a_treeV a_treeLen a_leader a_order a_mark n (nI c) (nI (i + 1)) := by
          intro c uc hc h1 h2 h3
          refine ih (i + 1) (by omega) (by omega) c uc hc (fun o uo ⟨j, hj, hh⟩ => ?_)
          by_cases e : j = i
          · subst e
            have lo := hU o uo
            rw [e1, e2, nI_ne (by omega) (by omega), nI_ne (by omega) (by omega), nI_ne (by omega) (by omega), nI_ne (by omega) (by omega)] at hh
            rcases hh with ⟨k1, k2⟩ | ⟨k1, k2⟩
            · rw [← k2]; exact h2 k1
            · rw [← k1]; exact h3 k2
          · exact h1 o uo ⟨j, by omega, hh⟩
        have cand : ∀ c, U c → (c = v ∧ u = a ∨ c = u ∧ v = a) → (wpX_distTo (fun r_26 => (wpX_distTo (fun r_49 => (((r_49 ≤ r_26 → (∀ x5_73 : Int32, x5_73 = nI i + 1 → (wX_walk_6 post (nI a) qx qy f_size f_solid (nI m) f_treeEdges a_used a_px a_py a_alive a_corner a_across a_bad a_startsAt a_endsAt a_edgeU a_edgeV a_edgeLen a_treeU a_treeV a_treeLen a_leader a_order a_mark n (nI b) x5_73))) ∧ (¬ r_49 ≤ r_26 → (∀ x5_74 : Int32, x5_74 = nI i + 1 → (wX_walk_6 post (nI a) qx qy f_size f_solid (nI m) f_treeEdges a_used a_px a_py a_alive a_corner a_across a_bad a_startsAt a_endsAt a_edgeU a_edgeV a_edgeLen a_treeU a_treeV a_treeLen a_leader a_order a_mark n (nI c) x5_74)))))) (f_size, f_solid, nI m, f_treeEdges, a_used, a_px, a_py, a_alive, a_corner, a_across, a_bad, a_startsAt, a_endsAt, a_edgeU, a_edgeV, a_edgeLen, a_treeU, a_treeV, a_treeLen, a_leader, a_order, a_mark) (nI b) qx qy)) (f_size, f_solid, nI m, f_treeEdges, a_used, a_px, a_py, a_alive, a_corner, a_across, a_bad, a_startsAt, a_endsAt, a_edgeU, a_edgeV, a_edgeLen, a_treeU, a_treeV, a_treeLen, a_leader, a_order, a_mark) (nI c) qx qy) := by
          intro c uc hc
          have lc := hU c uc
          refine xw_distTo lc (xw_distTo lb ?_)
          have q1 := q32_i Bd lc hq
          have q2 := q32_i Bd lb hq
          rw [nI_1]
          refine br_c (fun w => nm_e (more b ub hb ho ?_ ?_)) (fun w => nm_e (more c uc ?_ ?_ ?_ ?_))
          · rw [Int32.le_iff_toInt_le, q1, q2] at w
            intro ea
            rcases hc with hc | hc
            · rw [← hc.1]; exact w
            · exact absurd (ea.trans hc.2.symm) uq.2.2
          · rw [Int32.le_iff_toInt_le, q1, q2] at w
            intro ea
            rcases hc with hc | hc
            · exact absurd (hc.2.trans ea.symm) uq.2.2
            · rw [← hc.1]; exact w
          · rw [Int32.le_iff_toInt_le, q1, q2] at w
            right
            rcases hb with hb | hb
            · rw [hb] at w; omega
            · omega
          · rw [Int32.le_iff_toInt_le, q1, q2] at w
            intro o uo hn'
            have := ho o uo hn'
            omega
          · intro ea
            rcases hc with hc | hc
            · rw [hc.1]; exact Int.le_refl _
            · exact absurd (ea.trans hc.2.symm) uq.2.2
          · intro ea
            rcases hc with hc | hc
            · exact absurd (hc.2.trans ea.symm) uq.2.2
            · rw [hc.1]; exact Int.le_refl _
        refine xw_otherEnd (by omega) e1 e2 l1 l2 la (fun w => br_t (nI_pos' (by omega)) (cand v uq.2.1 (Or.inl ⟨rfl, w⟩))) (fun w w2 => br_t (nI_pos' (by omega)) (cand u uq.1 (Or.inr ⟨rfl, w2⟩))) (fun w w2 => br_f (by decide) ?_)
        rw [nI_1]
        exact nm_e (more b ub hb ho (fun e => absurd e w) (fun e => absurd e w2))
  exact ⟨m + 1, L (m + 1) 0 (by omega) (by omega) a ua (Or.inl rfl) (fun o uo ⟨j, hj, _⟩ => by omega)⟩
/-- marks spread along edges between the nearest points -/
def tz_ (x y : Nat → Int) (qx qy d : Int) (U : Nat → Prop) : Nat → Prop := fun c => U c ∧ ln_q x y qx qy c = d
def tc_ (T : Nat → Prop) (a_edgeU a_edgeV : Nat → Int32) (m : Nat) (mk : Nat → Prop) : Prop := ∀ a b, T a → T b → nb_ a_edgeU a_edgeV m a b → mk a → mk b
theorem xw_spread {post : SX → Prop} {U : Nat → Prop} {line : Prop} {m : Nat} {qx qy d : Int32} (Bd : ge_Bd (xi_ a_px) (xi_ a_py)) (hU : ∀ i, U i → i < 24) (G : eg_Ok a_px a_py U line m a_edgeU a_edgeV a_edgeLen)
    (hq : (0 ≤ qx.toInt ∧ qx.toInt ≤ 127) ∧ (0 ≤ qy.toInt ∧ qy.toInt ≤ 127)) (hs : ∀ c, ¬ a_mark c = 0 → c < 24 → tz_ (xi_ a_px) (xi_ a_py) qx.toInt qy.toInt d.toInt U c)
    (h : ∀ mv : Nat → Int32, (∀ c, c < 24 → ¬ a_mark c = 0 → ¬ mv c = 0) → (∀ c, ¬ mv c = 0 → c < 24 → tz_ (xi_ a_px) (xi_ a_py) qx.toInt qy.toInt d.toInt U c) →
      (∀ a b, tz_ (xi_ a_px) (xi_ a_py) qx.toInt qy.toInt d.toInt U a → tz_ (xi_ a_px) (xi_ a_py) qx.toInt qy.toInt d.toInt U b → nb_ a_edgeU a_edgeV m a b → ¬ a_mark a = 0 → ¬ mv b = 0) →
      (tc_ (tz_ (xi_ a_px) (xi_ a_py) qx.toInt qy.toInt d.toInt U) a_edgeU a_edgeV m (fun c => ¬ a_mark c = 0) → ∀ c, c < 24 → ¬ mv c = 0 → ¬ a_mark c = 0) → post (f_size, f_solid, nI m, f_treeEdges, a_used, a_px, a_py, a_alive, a_corner, a_across, a_bad, a_startsAt, a_endsAt, a_edgeU, a_edgeV, a_edgeLen, a_treeU, a_treeV, a_treeLen, a_leader, a_order, mv)) :
    wpX_spreadTies post (f_size, f_solid, nI m, f_treeEdges, a_used, a_px, a_py, a_alive, a_corner, a_across, a_bad, a_startsAt, a_endsAt, a_edgeU, a_edgeV, a_edgeLen, a_treeU, a_treeV, a_treeLen, a_leader, a_order, a_mark) d qx qy := by
  obtain ⟨hm, Q, E, g1, g2, g3⟩ := G
  unfold wpX_spreadTies
  dsimp only
  have L : ∀ n i : Nat, i ≤ m → m < n + i → ∀ mv : Nat → Int32, (∀ c, c < 24 → ¬ a_mark c = 0 → ¬ mv c = 0) → (∀ c, ¬ mv c = 0 → c < 24 → tz_ (xi_ a_px) (xi_ a_py) qx.toInt qy.toInt d.toInt U c) →
      (∀ a b, tz_ (xi_ a_px) (xi_ a_py) qx.toInt qy.toInt d.toInt U a → tz_ (xi_ a_px) (xi_ a_py) qx.toInt qy.toInt d.toInt U b → nb_ a_edgeU a_edgeV i a b → ¬ a_mark a = 0 → ¬ mv b = 0) →
      (tc_ (tz_ (xi_ a_px) (xi_ a_py) qx.toInt qy.toInt d.toInt U) a_edgeU a_edgeV m (fun c => ¬ a_mark c = 0) → ∀ c, c < 24 → ¬ mv c = 0 → ¬ a_mark c = 0) →
      wX_spreadTies_3 post d qx qy f_size f_solid (nI m) f_treeEdges n (nI i) a_used a_px a_py a_alive a_corner a_across a_bad a_startsAt a_endsAt a_edgeU a_edgeV a_edgeLen a_treeU a_treeV a_treeLen a_leader a_order mv := by
    intro n
    induction n with
    | zero => intro i hi hn; omega
    | succ n ih =>
      intro i hi hn mv k1 k2 k3 k4
      rw [wX_spreadTies_3]
      refine pk_le m i (fun z => ?_) (fun z => ?_)
      · have e : i = m := by omega
        subst e
        exact h mv k1 k2 k3 k4
      obtain ⟨u, v, e1, e2, l1, l2, q, e3⟩ := E.1 i z
      have uq := g1 u v q
      have q1 := q32_i Bd l1 hq
      have q2 := q32_i Bd l2 hq
      have skip : ¬ (tz_ (xi_ a_px) (xi_ a_py) qx.toInt qy.toInt d.toInt U u ∧ tz_ (xi_ a_px) (xi_ a_py) qx.toInt qy.toInt d.toInt U v ∧ (¬ mv u = 0 ∨ ¬ mv v = 0)) → wX_spreadTies_3 post d qx qy f_size f_solid (nI m) f_treeEdges n (nI (i + 1)) a_used a_px a_py a_alive a_corner a_across a_bad a_startsAt a_endsAt a_edgeU a_edgeV a_edgeLen a_treeU a_treeV a_treeLen a_leader a_order mv := by
        intro ns
        refine ih (i + 1) (by omega) (by omega) mv k1 k2 (fun a b ta tb ⟨j, hj, hh⟩ ma => ?_) k4
        by_cases e : j = i
        · subst e
          have la := hU a ta.1
          have lb := hU b tb.1
          rw [e1, e2, nI_ne (by omega) (by omega), nI_ne (by omega) (by omega), nI_ne (by omega) (by omega), nI_ne (by omega) (by omega)] at hh
          exfalso
          rcases hh with ⟨h1, h2⟩ | ⟨h1, h2⟩
          · subst h1 h2; exact ns ⟨ta, tb, Or.inl (k1 u l1 ma)⟩
          · subst h1 h2; exact ns ⟨tb, ta, Or.inr (k1 v l2 ma)⟩
        · exact k3 a b ta tb ⟨j, by omega, hh⟩ ma
      have put : tz_ (xi_ a_px) (xi_ a_py) qx.toInt qy.toInt d.toInt U u → tz_ (xi_ a_px) (xi_ a_py) qx.toInt qy.toInt d.toInt U v → (¬ mv u = 0 ∨ ¬ mv v = 0) → wX_spreadTies_84 post (wX_spreadTies_3 post d qx qy f_size f_solid (nI m) f_treeEdges n) d qx qy (nI i) f_size f_solid (nI m) f_treeEdges a_used a_px a_py a_alive a_corner a_across a_bad a_startsAt a_endsAt a_edgeU a_edgeV a_edgeLen a_treeU a_treeV a_treeLen a_leader a_order mv := by
        intro tu tv hm2
        unfold wX_spreadTies_84
        rw [cl_ (n := i) (by omega), e1, e2, cl_ (n := u) (by omega), cl_ (n := v) (by omega), vb1_, nI_1]
        have up : ∀ c, (¬ upd (upd mv u 1) v 1 c = 0) ↔ (¬ mv c = 0 ∨ c = u ∨ c = v) := by
          intro c
          by_cases w2 : c = v
          · rw [w2, pk_us]; exact ⟨fun _ => Or.inr (Or.inr rfl), fun _ => by decide⟩
          · rw [pk_un w2]
            by_cases w1 : c = u
            · rw [w1, pk_us]; exact ⟨fun _ => Or.inr (Or.inl rfl), fun _ => by decide⟩
            · rw [pk_un w1]
              exact ⟨fun w => Or.inl w, fun w => by
                rcases w with w | w | w
                · exact w
                · exact absurd w w1
                · exact absurd w w2⟩
        refine ⟨in_ (by omega), in_ l1, nm_e ⟨in_ (by omega), in_ l2, nm_e (nm_e (ih (i + 1) (by omega) (by omega) _ (fun c hc mc => (up c).mpr (Or.inl (k1 c hc mc))) (fun c mc hc => ?_) (fun a b ta tb ⟨j, hj, hh⟩ ma => (up b).mpr ?_) (fun cl c hc mc => ?_)))⟩⟩
        · rcases (up c).mp mc with w | w | w
          · exact k2 c w hc
          · rw [w]; exact tu
          · rw [w]; exact tv
        · by_cases e : j = i
          · subst e
            have la := hU a ta.1
            have lb := hU b tb.1
            rw [e1, e2, nI_ne (by omega) (by omega), nI_ne (by omega) (by omega), nI_ne (by omega) (by omega), nI_ne (by omega) (by omega)] at hh
            rcases hh with ⟨h1, h2⟩ | ⟨h1, h2⟩
            · exact Or.inr (Or.inr h2.symm)
            · exact Or.inr (Or.inl h1.symm)
          · exact Or.inl (k3 a b ta tb ⟨j, by omega, hh⟩ ma)
        · have k5 := k4 cl
          have nuv : nb_ a_edgeU a_edgeV m u v := ⟨i, z, Or.inl ⟨e1, e2⟩⟩
          have nvu : nb_ a_edgeU a_edgeV m v u := ⟨i, z, Or.inr ⟨e1, e2⟩⟩
          have both : ¬ a_mark u = 0 ∧ ¬ a_mark v = 0 := by
            rcases hm2 with w | w
            · have mu := k5 u l1 w
              exact ⟨mu, cl u v tu tv nuv mu⟩
            · have mv' := k5 v l2 w
              exact ⟨cl v u tv tu nvu mv', mv'⟩
          rcases (up c).mp mc with w | w | w
          · exact k5 c hc w
          · rw [w]; exact both.1
          · rw [w]; exact both.2
      have tu_iff : q32_ a_px a_py qx qy u = d ↔ tz_ (xi_ a_px) (xi_ a_py) qx.toInt qy.toInt d.toInt U u := by
        rw [← Int32.toInt_inj, q1]
        exact ⟨fun w => ⟨uq.1, w⟩, fun w => w.2⟩
      have tv_iff : q32_ a_px a_py qx qy v = d ↔ tz_ (xi_ a_px) (xi_ a_py) qx.toInt qy.toInt d.toInt U v := by
        rw [← Int32.toInt_inj, q2]
        exact ⟨fun w => ⟨uq.2.1, w⟩, fun w => w.2⟩
      rw [cl_ (n := i) (by omega), e1, e2, nI_1]
      refine ⟨in_ (by omega), xw_distTo l1 ⟨in_ (by omega), xw_distTo l2 (br_c (fun w => br_c (fun w2 => ?_) (fun w2 => nm_e (skip (fun s => w2 (tv_iff.mpr s.2.1))))) (fun w => nm_e (skip (fun s => w (tu_iff.mpr s.1)))))⟩⟩
      rw [cl_ (n := u) (by omega), cl_ (n := v) (by omega)]
      refine ⟨in_ (by omega), in_ l1, br_c (fun w3 => ⟨in_ (by omega), in_ l2, br_c (fun w4 => nm_e (skip (fun s => ?_))) (fun w4 => put (tu_iff.mp w) (tv_iff.mp w2) (Or.inr w4))⟩) (fun w3 => put (tu_iff.mp w) (tv_iff.mp w2) (Or.inl w3))⟩
      rcases s.2.2 with s | s
      · exact s w3
      · exact s w4
  exact ⟨m + 1, L (m + 1) 0 (by omega) (by omega) a_mark (fun _ _ w => w) hs (fun a b _ _ ⟨j, hj, _⟩ => by omega) (fun _ _ _ w => w)⟩
end
end
section
/-! the owed statements about near points -/
section
variable {f_size f_solid f_edges f_treeEdges : Int32} {a_used a_px a_py a_alive a_corner a_across a_bad a_startsAt a_endsAt a_edgeU a_edgeV a_edgeLen a_treeU a_treeV a_treeLen a_leader a_order a_mark : Nat → Int32}
theorem xw_lowest {post : Int32 → SX → Prop} {U : Nat → Prop} {line : Prop} {m a : Nat} {qx qy : Int32} (Bd : ge_Bd (xi_ a_px) (xi_ a_py)) (hU : ∀ i, U i → i < 24) (N : ge_Ne (xi_ a_px) (xi_ a_py) U) (G : eg_Ok a_px a_py U line m a_edgeU a_edgeV a_edgeLen)
    (hq : (0 ≤ qx.toInt ∧ qx.toInt ≤ 127) ∧ (0 ≤ qy.toInt ∧ qy.toInt ≤ 127)) (ua : U a) (hmin : ∀ c, U c → ln_q (xi_ a_px) (xi_ a_py) qx.toInt qy.toInt a ≤ ln_q (xi_ a_px) (xi_ a_py) qx.toInt qy.toInt c)
    (h : ∀ r mv, U r → (∀ c, U c → ln_q (xi_ a_px) (xi_ a_py) qx.toInt qy.toInt r ≤ ln_q (xi_ a_px) (xi_ a_py) qx.toInt qy.toInt c) → (∀ c, c < r → U c → ln_q (xi_ a_px) (xi_ a_py) qx.toInt qy.toInt r < ln_q (xi_ a_px) (xi_ a_py) qx.toInt qy.toInt c) → post (nI r) (f_size, f_solid, nI m, f_treeEdges, a_used, a_px, a_py, a_alive, a_corner, a_across, a_bad, a_startsAt, a_endsAt, a_edgeU, a_edgeV, a_edgeLen, a_treeU, a_treeV, a_treeLen, a_leader, a_order, mv)) :
    wpX_lowestTie post (f_size, f_solid, nI m, f_treeEdges, a_used, a_px, a_py, a_alive, a_corner, a_across, a_bad, a_startsAt, a_endsAt, a_edgeU, a_edgeV, a_edgeLen, a_treeU, a_treeV, a_treeLen, a_leader, a_order, a_mark) (nI a) qx qy := by
  have la := hU a ua
  unfold wpX_lowestTie
  dsimp only
  refine xw_distTo la ?_
  have qd := q32_i Bd la hq
  generalize q32_ a_px a_py qx qy a = d at *
  -- the last loop
  have L67 : ∀ mv : Nat → Int32, (∀ c, ¬ mv c = 0 → c < 24 → tz_ (xi_ a_px) (xi_ a_py) qx.toInt qy.toInt d.toInt U c) → (∀ c, tz_ (xi_ a_px) (xi_ a_py) qx.toInt qy.toInt d.toInt U c → ¬ mv c = 0) →
      ∀ n i : Nat, i ≤ 24 → 24 < n + i → (∀ j, j < i → mv j = 0) → wX_lowestTie_67 post (nI a) f_size f_solid (nI m) f_treeEdges a_used a_px a_py a_alive a_corner a_across a_bad a_startsAt a_endsAt a_edgeU a_edgeV a_edgeLen a_treeU a_treeV a_treeLen a_leader a_order mv n (nI i) := by
    intro mv t1 t2 n
    induction n with
    | zero => intro i hi hn; omega
    | succ n ih =>
      intro i hi hn hj
      rw [wX_lowestTie_67]
      refine pk_le 24 i (fun z => ?_) (fun z => ?_)
      · exact absurd (hj a (by omega)) (t2 a ⟨ua, qd.symm⟩)
      · rw [cl_ (n := i) (by omega), nI_1]
        refine ⟨in_ z, br_c (fun w => nm_e (ih (i + 1) (by omega) (by omega) (fun j hj' => ?_))) (fun w => ?_)⟩
        · by_cases e : j = i
          · rw [e]; exact w
          · exact hj j (by omega)
        · have ti := t1 i w z
          refine h i mv ti.1 (fun c uc => ?_) (fun c hc uc => ?_)
          · have := hmin c uc
            have := ti.2
            omega
          · have h1 := hmin c uc
            have h2 := ti.2
            by_cases q : ln_q (xi_ a_px) (xi_ a_py) qx.toInt qy.toInt c = d.toInt
            · exact absurd (hj c hc) (t2 c ⟨uc, q⟩)
            · omega
  -- the rounds
  have L43 : ∀ n g : Nat, g ≤ 24 → 24 < n + g → ∀ mv : Nat → Int32, ¬ mv a = 0 → (∀ c, ¬ mv c = 0 → c < 24 → tz_ (xi_ a_px) (xi_ a_py) qx.toInt qy.toInt d.toInt U c) →
      (tc_ (tz_ (xi_ a_px) (xi_ a_py) qx.toInt qy.toInt d.toInt U) a_edgeU a_edgeV m (fun c => ¬ mv c = 0) ∨ g + 1 ≤ fc_n (fun c => ¬ mv c = 0) 24) →
      wX_lowestTie_43 post (nI a) qx qy d n (nI g) f_size f_solid (nI m) f_treeEdges a_used a_px a_py a_alive a_corner a_across a_bad a_startsAt a_endsAt a_edgeU a_edgeV a_edgeLen a_treeU a_treeV a_treeLen a_leader a_order mv := by
    intro n
    induction n with
    | zero => intro g hg hn; omega
    | succ n ih =>
      intro g hg hn mv ma mt mc
      rw [wX_lowestTie_43]
      refine pk_le 24 g (fun z => ?_) (fun z => ?_)
      · have cl : tc_ (tz_ (xi_ a_px) (xi_ a_py) qx.toInt qy.toInt d.toInt U) a_edgeU a_edgeV m (fun c => ¬ mv c = 0) := by
          rcases mc with mc | mc
          · exact mc
          · have := fc_le (fun c => ¬ mv c = 0) 24
            omega
        refine ⟨25, L67 mv mt (fun z tz => ?_) 25 0 (by omega) (by omega) (fun j hj => by omega)⟩
        -- the mark furthest towards z is z
        obtain ⟨b, lb, mb, hb⟩ := mn_ex (P := fun c => ¬ mv c = 0 ∧ c < 24) (R := fun i j => (xi_ a_px z - qx.toInt) * xi_ a_px j + (xi_ a_py z - qy.toInt) * xi_ a_py j ≤ (xi_ a_px z - qx.toInt) * xi_ a_px i + (xi_ a_py z - qy.toInt) * xi_ a_py i)
          (fun i j _ _ => by omega) (fun i j k _ _ _ r1 r2 => by omega) 24 ⟨a, la, ma, la⟩
        have tb := mt b mb.1 mb.2
        by_cases e : b = z
        · rw [← e]; exact mb.1
        · exfalso
          obtain ⟨c, uc, cb, hk, e1, e2⟩ := ln_tie Bd N hU tb.1 tz.1 e hq (by rw [tz.2, tb.2]) (fun c uc => by have := hmin c uc; have := tb.2; omega)
          have tcc : tz_ (xi_ a_px) (xi_ a_py) qx.toInt qy.toInt d.toInt U c := ⟨uc, by rw [e1]; exact tb.2⟩
          have mcc := cl b c tb tcc (nb_K G tb.1 uc (fun q => cb q.symm) hk) mb.1
          have := hb c (hU c uc) ⟨mcc, hU c uc⟩
          rw [Int.mul_sub, Int.mul_sub] at e2
          omega
      · refine xw_spread Bd hU G hq mt (fun mv2 s1 s2 s3 s4 => ?_)
        dsimp only
        rw [nI_1]
        refine nm_e (ih (g + 1) (by omega) (by omega) mv2 (s1 a la ma) s2 ?_)
        by_cases cl : tc_ (tz_ (xi_ a_px) (xi_ a_py) qx.toInt qy.toInt d.toInt U) a_edgeU a_edgeV m (fun c => ¬ mv c = 0)
        · left
          intro p r tp tr npr mp
          exact s1 r (hU r tr.1) (cl p r tp tr npr (s4 cl p (hU p tp.1) mp))
        · right
          have nc : ∃ p r, tz_ (xi_ a_px) (xi_ a_py) qx.toInt qy.toInt d.toInt U p ∧ tz_ (xi_ a_px) (xi_ a_py) qx.toInt qy.toInt d.toInt U r ∧ nb_ a_edgeU a_edgeV m p r ∧ ¬ mv p = 0 ∧ mv r = 0 := by
            by_cases w : ∃ p r, tz_ (xi_ a_px) (xi_ a_py) qx.toInt qy.toInt d.toInt U p ∧ tz_ (xi_ a_px) (xi_ a_py) qx.toInt qy.toInt d.toInt U r ∧ nb_ a_edgeU a_edgeV m p r ∧ ¬ mv p = 0 ∧ mv r = 0
            · exact w
            · exfalso
              apply cl
              intro p r tp tr npr mp mr
              exact w ⟨p, r, tp, tr, npr, mp, mr⟩
          obtain ⟨p, r, tp, tr, npr, mp, mr⟩ := nc
          have c1 := mc.resolve_left cl
          have m2 := s3 p r tp tr npr mp
          have lr := hU r tr.1
          have c2 := fc_out (P := fun c => ¬ mv2 c = 0) (k := r) m2 24 lr
          have c3 := fc_mono (P := fun c => ¬ mv c = 0) (Q := fun c => ¬ mv2 c = 0 ∧ c ≠ r) 24 (fun c hc mc' => ⟨s1 c hc mc', fun e => mc' (by rw [e]; exact mr)⟩)
          omega
  have L12 : ∀ n i : Nat, i ≤ 24 → 24 < n + i → ∀ mv : Nat → Int32, (∀ j, j < i → mv j = 0) → wX_lowestTie_12 post (nI a) qx qy d f_size f_solid (nI m) f_treeEdges n (nI i) a_used a_px a_py a_alive a_corner a_across a_bad a_startsAt a_endsAt a_edgeU a_edgeV a_edgeLen a_treeU a_treeV a_treeLen a_leader a_order mv := by
    intro n
    induction n with
    | zero => intro i hi hn; omega
    | succ n ih =>
      intro i hi hn mv hj
      rw [wX_lowestTie_12]
      refine pk_le 24 i (fun z => ?_) (fun z => ?_)
      · rw [cl_ (n := a) (by omega), vb1_]
        have only : ∀ c, c < 24 → ¬ upd mv a 1 c = 0 → c = a := by
          intro c hc mc
          by_cases e : c = a
          · exact e
          · rw [pk_un e] at mc
            exact absurd (hj c (by omega)) mc
        have ma : ¬ upd mv a 1 a = 0 := by rw [pk_us]; decide
        refine ⟨in_ la, nm_e ⟨25, L43 25 0 (by omega) (by omega) _ ma (fun c mc hc => ?_) (Or.inr ?_)⟩⟩
        · rw [only c hc mc]; exact ⟨ua, qd.symm⟩
        · have := fc_out (P := fun c => ¬ upd mv a 1 c = 0) (k := a) ma 24 la
          omega
      · rw [cl_ (n := i) (by omega), vb0_, nI_1]
        refine ⟨in_ z, nm_e (nm_e (ih (i + 1) (by omega) (by omega) _ (fun j hj' => ?_)))⟩
        by_cases e : j = i
        · rw [e, pk_us]
        · rw [pk_un e]; exact hj j (by omega)
  exact ⟨25, L12 25 0 (by omega) (by omega) a_mark (fun j hj => by omega)⟩
end
section
variable {a_here a_xs a_ys a_way : Nat → Int32}
theorem yw_nearest {post : Int32 → Prop} {qx qy : Int32} (Bd : ge_Bd (xi_ a_xs) (xi_ a_ys)) (hq : (0 ≤ qx.toInt ∧ qx.toInt ≤ 127) ∧ (0 ≤ qy.toInt ∧ qy.toInt ≤ 127))
    (h0 : (∀ i, ¬ us_ a_here i) → post (-4)) (h1 : ∀ r, us_ a_here r → (∀ c, us_ a_here c → ln_q (xi_ a_xs) (xi_ a_ys) qx.toInt qy.toInt r ≤ ln_q (xi_ a_xs) (xi_ a_ys) qx.toInt qy.toInt c) → (∀ c, c < r → us_ a_here c → ln_q (xi_ a_xs) (xi_ a_ys) qx.toInt qy.toInt r < ln_q (xi_ a_xs) (xi_ a_ys) qx.toInt qy.toInt c) → post (nI r)) : wpY_nearest post (a_here, a_xs, a_ys, a_way) qx qy := by
  unfold wpY_nearest
  dsimp only
  refine yw_outside (fun w => absurd hq w) (fun _ => br_t rfl ?_)
  have L : ∀ n i : Nat, i ≤ 24 → 24 < n + i → ∀ b l : Int32, ((b = -4 ∧ ∀ c, c < i → ¬ us_ a_here c) ∨ ∃ r, b = nI r ∧ r < i ∧ us_ a_here r ∧ l.toInt = ln_q (xi_ a_xs) (xi_ a_ys) qx.toInt qy.toInt r ∧ (∀ c, c < i → us_ a_here c → l.toInt ≤ ln_q (xi_ a_xs) (xi_ a_ys) qx.toInt qy.toInt c) ∧ (∀ c, c < r → us_ a_here c → l.toInt < ln_q (xi_ a_xs) (xi_ a_ys) qx.toInt qy.toInt c)) →
      wY_nearest_20 post qx qy a_here a_xs a_ys a_way n b l (nI i) := by
    intro n
    induction n with
    | zero => intro i hi hn; omega
    | succ n ih =>
      intro i hi hn b l hb
      rw [wY_nearest_20]
      refine pk_le 24 i (fun z => ?_) (fun z => ?_)
      · rcases hb with ⟨e, hb⟩ | ⟨r, e, lr, ur, el, b1, b2⟩
        · subst e
          exact h0 (fun i ui => hb i (by have := ui.1; omega) ui)
        · subst e
          refine h1 r ur (fun c uc => ?_) (fun c hc uc => ?_)
          · have := b1 c (by have := uc.1; omega) uc
            omega
          · have := b2 c hc uc
            omega
      · have q1 := q32_i Bd z hq
        rw [cl_ (n := i) (by omega), nI_1]
        refine ⟨in_ z, in_ z, in_ z, in_ z, nm_r (e' := q32_ a_xs a_ys qx qy i) rfl ⟨in_ z, br_c (fun w => nm_e (ih (i + 1) (by omega) (by omega) b l ?_)) (fun w => ?_)⟩⟩
        · have nu : ¬ us_ a_here i := fun u => u.2 w
          rcases hb with ⟨e, hb⟩ | ⟨r, e, lr, ur, el, b1, b2⟩
          · refine Or.inl ⟨e, fun c hc => ?_⟩
            by_cases q : c = i
            · rw [q]; exact nu
            · exact hb c (by omega)
          · refine Or.inr ⟨r, e, by omega, ur, el, fun c hc uc => ?_, b2⟩
            by_cases q : c = i
            · rw [q] at uc; exact absurd uc nu
            · exact b1 c (by omega) uc
        · have ui : us_ a_here i := ⟨z, w⟩
          rcases hb with ⟨e, hb⟩ | ⟨r, e, lr, ur, el, b1, b2⟩
          · subst e
            refine br_t (by decide) (nm_e (ih (i + 1) (by omega) (by omega) _ _ (Or.inr ⟨i, rfl, by omega, ui, q1, fun c hc uc => ?_, fun c hc uc => absurd uc (hb c hc)⟩)))
            by_cases q : c = i
            · rw [q, q1]; exact Int.le_refl _
            · exact absurd uc (hb c (by omega))
          · subst e
            refine br_f (nI_pos (by omega)) (br_c (fun g => nm_e (ih (i + 1) (by omega) (by omega) _ _ (Or.inr ⟨r, rfl, by omega, ur, el, fun c hc uc => ?_, b2⟩))) (fun g => nm_e (ih (i + 1) (by omega) (by omega) _ _ (Or.inr ⟨i, rfl, by omega, ui, q1, fun c hc uc => ?_, fun c hc uc => ?_⟩))))
            · rw [Int32.le_iff_toInt_le, q1] at g
              by_cases q : c = i
              · rw [q]; exact g
              · exact b1 c (by omega) uc
            · rw [Int32.le_iff_toInt_le, q1] at g
              by_cases q : c = i
              · rw [q, q1]; exact Int.le_refl _
              · have := b1 c (by omega) uc
                omega
            · rw [Int32.le_iff_toInt_le, q1] at g
              have := b1 c (by omega) uc
              omega
  exact ⟨25, L 25 0 (by omega) (by omega) (-4) 0 (Or.inl ⟨rfl, fun c hc => by omega⟩)⟩
end
theorem i_vc_nearest {k : Nat} {u : SX} {v : SY} (I : i_Rel k u v) (hk : k + 4 ≤ 2048) (v1 : Int32) (v2 : Int32) : wpX_nearest (fun r u' => wpY_nearest (fun r' => r' = r ∧ i_Rel (k + 4) u' v) v v1 v2) u v1 v2 := by
  refine zz_el (P := fun u v => wpX_nearest (fun r u' => wpY_nearest (fun r' => r' = r ∧ i_Rel (k + 4) u' v) v v1 v2) u v1 v2) ?_ I
  intro f_size f_solid f_edges f_treeEdges a_used a_px a_py a_alive a_corner a_across a_bad a_startsAt a_endsAt a_edgeU a_edgeV a_edgeLen a_treeU a_treeV a_treeLen a_leader a_order a_mark a_way R
  have R' := R
  obtain ⟨Bd, N, hs, _, hsol, ⟨m, em, G⟩, _⟩ := R
  subst em
  have hU : ∀ i, us_ a_used i → i < 24 := fun i h => h.1
  by_cases hq : (0 ≤ v1.toInt ∧ v1.toInt ≤ 127) ∧ (0 ≤ v2.toInt ∧ v2.toInt ≤ 127)
  · unfold wpX_nearest
    dsimp only
    refine xw_offGrid (fun z => absurd hq.1 z) (fun _ => br_t rfl (xw_offGrid (fun z => absurd hq.2 z) (fun _ => br_t rfl ?_)))
    refine xw_first (k := 0) (by omega) (fun a _ a2 a3 _ => br_t (nI_pos' (by omega)) ?_) (fun g => br_f (by decide) ?_)
    · have L : ∀ n g : Nat, g ≤ 24 → 24 < n + g → ∀ a, us_ a_used a → ((∀ c, us_ a_used c → ln_q (xi_ a_px) (xi_ a_py) v1.toInt v2.toInt a ≤ ln_q (xi_ a_px) (xi_ a_py) v1.toInt v2.toInt c) ∨ fc_n (fun c => us_ a_used c ∧ ln_q (xi_ a_px) (xi_ a_py) v1.toInt v2.toInt c < ln_q (xi_ a_px) (xi_ a_py) v1.toInt v2.toInt a) 24 + g ≤ 23) →
          wX_nearest_32 (fun r u' => wpY_nearest (fun r' => r' = r ∧ i_Rel (k + 4) u' (a_used, a_px, a_py, a_way)) (a_used, a_px, a_py, a_way) v1 v2) v1 v2 f_size f_solid (nI m) f_treeEdges a_used a_px a_py a_alive a_corner a_across a_bad a_startsAt a_endsAt a_edgeU a_edgeV a_edgeLen a_treeU a_treeV a_treeLen a_leader a_order a_mark n (nI a) (nI g) := by
        intro n
        induction n with
        | zero => intro g hg hn; omega
        | succ n ih =>
          intro g hg hn a ua ha
          rw [wX_nearest_32]
          refine pk_le 24 g (fun z => ?_) (fun z => ?_)
          · refine xw_lowest Bd hU N G hq ua (ha.resolve_right (by omega)) (fun r mv ur r1 r2 => ?_)
            dsimp only
            refine yw_nearest Bd hq (fun w => absurd ur (w r)) (fun r' ur' w1 w2 => ⟨?_, zz_mk R'⟩)
            have e : r' = r := by
              by_cases z1 : r' < r
              · have := r2 r' z1 ur'
                have := w1 r ur
                omega
              · by_cases z2 : r < r'
                · have := w2 r z2 ur
                  have := r1 r' ur'
                  omega
                · omega
            rw [e]
          · refine xw_walk Bd hU N G hq ua (fun r ur hr => ?_)
            rw [nI_1]
            refine nm_e (ih (g + 1) (by omega) (by omega) r ur ?_)
            rcases hr with ⟨e, hr⟩ | hr
            · left
              rw [e]; exact hr
            · by_cases mn : ∀ c, us_ a_used c → ln_q (xi_ a_px) (xi_ a_py) v1.toInt v2.toInt r ≤ ln_q (xi_ a_px) (xi_ a_py) v1.toInt v2.toInt c
              · exact Or.inl mn
              · right
                have ha2 := ha.resolve_left (fun w => by have := w r ur; omega)
                have c1 := fc_out (P := fun c => us_ a_used c ∧ ln_q (xi_ a_px) (xi_ a_py) v1.toInt v2.toInt c < ln_q (xi_ a_px) (xi_ a_py) v1.toInt v2.toInt a) (k := r) ⟨ur, hr⟩ 24 ur.1
                have c2 := fc_mono (P := fun c => us_ a_used c ∧ ln_q (xi_ a_px) (xi_ a_py) v1.toInt v2.toInt c < ln_q (xi_ a_px) (xi_ a_py) v1.toInt v2.toInt r) (Q := fun c => (us_ a_used c ∧ ln_q (xi_ a_px) (xi_ a_py) v1.toInt v2.toInt c < ln_q (xi_ a_px) (xi_ a_py) v1.toInt v2.toInt a) ∧ c ≠ r) 24 (fun c _ hc => ⟨⟨hc.1, by have := hc.2; omega⟩, fun e => by rw [e] at hc; have := hc.2; omega⟩)
                omega
      have ua : us_ a_used a := ⟨a2, a3⟩
      refine ⟨25, L 25 0 (by omega) (by omega) a ua (Or.inr ?_)⟩
      have c1 := fc_out (P := fun _ : Nat => True) (k := a) trivial 24 a2
      rw [fc_all] at c1
      have c2 := fc_mono (P := fun c => us_ a_used c ∧ ln_q (xi_ a_px) (xi_ a_py) v1.toInt v2.toInt c < ln_q (xi_ a_px) (xi_ a_py) v1.toInt v2.toInt a) (Q := fun c => True ∧ c ≠ a) 24 (fun c _ hc => ⟨trivial, fun e => by rw [e] at hc; have := hc.2; omega⟩)
      omega
    · exact yw_nearest Bd hq (fun _ => ⟨rfl, zz_mk R'⟩) (fun r ur _ _ => absurd (g r (by omega) ur.1) ur.2)
  · have yo : wpY_nearest (fun r' => r' = (-1 : Int32) ∧ i_Rel (k + 4) (f_size, f_solid, nI m, f_treeEdges, a_used, a_px, a_py, a_alive, a_corner, a_across, a_bad, a_startsAt, a_endsAt, a_edgeU, a_edgeV, a_edgeLen, a_treeU, a_treeV, a_treeLen, a_leader, a_order, a_mark) (a_used, a_px, a_py, a_way)) (a_used, a_px, a_py, a_way) v1 v2 := by
      unfold wpY_nearest
      dsimp only
      exact yw_outside (fun _ => br_f (by decide) ⟨rfl, zz_mk R'⟩) (fun z => absurd z hq)
    unfold wpX_nearest
    dsimp only
    refine xw_offGrid (fun z => br_f (by decide) yo) (fun z => br_t rfl (xw_offGrid (fun z2 => br_f (by decide) yo) (fun z2 => absurd ⟨z, z2⟩ hq)))
end
section
/-! neighbour; cells of the triangulation -/
section
variable {f_size f_solid f_edges f_treeEdges : Int32} {a_used a_px a_py a_alive a_corner a_across a_bad a_startsAt a_endsAt a_edgeU a_edgeV a_edgeLen a_treeU a_treeV a_treeLen a_leader a_order a_mark : Nat → Int32}
theorem xw_neigh {post : Int32 → Prop} {U : Nat → Prop} {line : Prop} {m a : Nat} (Bd : ge_Bd (xi_ a_px) (xi_ a_py)) (hU : ∀ i, U i → i < 24) (G : eg_Ok a_px a_py U line m a_edgeU a_edgeV a_edgeLen) (ua : U a)
    (h0 : (∀ o, U o → ¬ nb_ a_edgeU a_edgeV m a o) → post (-4)) (h1 : ∀ r, U r → r ≠ a → (∀ o, U o → nb_ a_edgeU a_edgeV m a o → ge_S (xi_ a_px) (xi_ a_py) a r < ge_S (xi_ a_px) (xi_ a_py) a o ∨ (ge_S (xi_ a_px) (xi_ a_py) a r = ge_S (xi_ a_px) (xi_ a_py) a o ∧ r ≤ o)) → post (nI r)) :
    ∃ n, wX_neighbour_19 post (nI a) f_size f_solid (nI m) f_treeEdges a_used a_px a_py a_alive a_corner a_across a_bad a_startsAt a_endsAt a_edgeU a_edgeV a_edgeLen a_treeU a_treeV a_treeLen a_leader a_order a_mark n (-4) 0 0 := by
  obtain ⟨hm, Q, E, g1, g2, g3⟩ := G
  have la := hU a ua
  have L : ∀ n i : Nat, i ≤ m → m < n + i → ∀ b l : Int32, ((b = -4 ∧ ∀ o, U o → ¬ nb_ a_edgeU a_edgeV i a o) ∨ ∃ r, b = nI r ∧ U r ∧ r ≠ a ∧ l.toInt = ge_S (xi_ a_px) (xi_ a_py) a r ∧ ∀ o, U o → nb_ a_edgeU a_edgeV i a o → ge_S (xi_ a_px) (xi_ a_py) a r < ge_S (xi_ a_px) (xi_ a_py) a o ∨ (ge_S (xi_ a_px) (xi_ a_py) a r = ge_S (xi_ a_px) (xi_ a_py) a o ∧ r ≤ o)) →
      wX_neighbour_19 post (nI a) f_size f_solid (nI m) f_treeEdges a_used a_px a_py a_alive a_corner a_across a_bad a_startsAt a_endsAt a_edgeU a_edgeV a_edgeLen a_treeU a_treeV a_treeLen a_leader a_order a_mark n b l (nI i) := by
    intro n
    induction n with
    | zero => intro i hi hn; omega
    | succ n ih =>
      intro i hi hn b l hb
      rw [wX_neighbour_19]
      refine pk_le m i (fun z => ?_) (fun z => ?_)
      · have e : i = m := by omega
        subst e
        rcases hb with ⟨e, hb⟩ | ⟨r, e, ur, ra, _, hb⟩
        · rw [e]; exact h0 hb
        · rw [e]; exact h1 r ur ra hb
      obtain ⟨u, v, e1, e2, l1, l2, q, e3⟩ := E.1 i z
      have uq := g1 u v q
      have sl := s32_i Bd l1 l2
      -- the edge's other end, if any
      have ext : ∀ o, U o → nb_ a_edgeU a_edgeV (i + 1) a o → nb_ a_edgeU a_edgeV i a o ∨ (u = a ∧ o = v) ∨ (v = a ∧ o = u) := by
        intro o uo ⟨j, hj, hh⟩
        by_cases e : j = i
        · subst e
          have lo := hU o uo
          rw [e1, e2, nI_ne (by omega) (by omega), nI_ne (by omega) (by omega), nI_ne (by omega) (by omega), nI_ne (by omega) (by omega)] at hh
          rcases hh with hh | hh
          · exact Or.inr (Or.inl ⟨hh.1, hh.2.symm⟩)
          · exact Or.inr (Or.inr ⟨hh.2, hh.1.symm⟩)
        · exact Or.inl ⟨j, by omega, hh⟩
      have cand : ∀ c, U c → c ≠ a → (s32_ a_px a_py u v).toInt = ge_S (xi_ a_px) (xi_ a_py) a c → (∀ o, U o → nb_ a_edgeU a_edgeV (i + 1) a o → nb_ a_edgeU a_edgeV i a o ∨ o = c) →
          ((b < 0 → wX_neighbour_77 post (wX_neighbour_19 post (nI a) f_size f_solid (nI m) f_treeEdges a_used a_px a_py a_alive a_corner a_across a_bad a_startsAt a_endsAt a_edgeU a_edgeV a_edgeLen a_treeU a_treeV a_treeLen a_leader a_order a_mark n) (nI a) (nI i) (nI c) f_size f_solid (nI m) f_treeEdges a_used a_px a_py a_alive a_corner a_across a_bad a_startsAt a_endsAt a_edgeU a_edgeV a_edgeLen a_treeU a_treeV a_treeLen a_leader a_order a_mark) ∧ (¬ b < 0 → (vp_in (nI i) 80 ∧ ((s32_ a_px a_py u v < l → wX_neighbour_77 post (wX_neighbour_19 post (nI a) f_size f_solid (nI m) f_treeEdges a_used a_px a_py a_alive a_corner a_across a_bad a_startsAt a_endsAt a_edgeU a_edgeV a_edgeLen a_treeU a_treeV a_treeLen a_leader a_order a_mark n) (nI a) (nI i) (nI c) f_size f_solid (nI m) f_treeEdges a_used a_px a_py a_alive a_corner a_across a_bad a_startsAt a_endsAt a_edgeU a_edgeV a_edgeLen a_treeU a_treeV a_treeLen a_leader a_order a_mark) ∧ (¬ s32_ a_px a_py u v < l → (vp_in (nI i) 80 ∧ ((s32_ a_px a_py u v = l → ((b ≤ nI c → (∀ z : Int32, z = nI (i + 1) → wX_neighbour_19 post (nI a) f_size f_solid (nI m) f_treeEdges a_used a_px a_py a_alive a_corner a_across a_bad a_startsAt a_endsAt a_edgeU a_edgeV a_edgeLen a_treeU a_treeV a_treeLen a_leader a_order a_mark n b l z)) ∧ (¬ b ≤ nI c → wX_neighbour_77 post (wX_neighbour_19 post (nI a) f_size f_solid (nI m) f_treeEdges a_used a_px a_py a_alive a_corner a_across a_bad a_startsAt a_endsAt a_edgeU a_edgeV a_edgeLen a_treeU a_treeV a_treeLen a_leader a_order a_mark n) (nI a) (nI i) (nI c) f_size f_solid (nI m) f_treeEdges a_used a_px a_py a_alive a_corner a_across a_bad a_startsAt a_endsAt a_edgeU a_edgeV a_edgeLen a_treeU a_treeV a_treeLen a_leader a_order a_mark))) ∧ (¬ s32_ a_px a_py u v = l → (∀ z : Int32, z = nI (i + 1) → wX_neighbour_19 post (nI a) f_size f_solid (nI m) f_treeEdges a_used a_px a_py a_alive a_corner a_across a_bad a_startsAt a_endsAt a_edgeU a_edgeV a_edgeLen a_treeU a_treeV a_treeLen a_leader a_order a_mark n b l z))))))))) := by
        intro c uc ca sc hc
        have lc := hU c uc
        have put : (∀ o, U o → nb_ a_edgeU a_edgeV i a o → ge_S (xi_ a_px) (xi_ a_py) a c < ge_S (xi_ a_px) (xi_ a_py) a o ∨ (ge_S (xi_ a_px) (xi_ a_py) a c = ge_S (xi_ a_px) (xi_ a_py) a o ∧ c ≤ o)) → wX_neighbour_77 post (wX_neighbour_19 post (nI a) f_size f_solid (nI m) f_treeEdges a_used a_px a_py a_alive a_corner a_across a_bad a_startsAt a_endsAt a_edgeU a_edgeV a_edgeLen a_treeU a_treeV a_treeLen a_leader a_order a_mark n) (nI a) (nI i) (nI c) f_size f_solid (nI m) f_treeEdges a_used a_px a_py a_alive a_corner a_across a_bad a_startsAt a_endsAt a_edgeU a_edgeV a_edgeLen a_treeU a_treeV a_treeLen a_leader a_order a_mark := by
          intro hp
          unfold wX_neighbour_77
          rw [cl_ (n := i) (by omega), e3, nI_1]
          refine ⟨in_ (by omega), nm_e (nm_e (ih (i + 1) (by omega) (by omega) _ _ (Or.inr ⟨c, rfl, uc, ca, sc, fun o uo no => ?_⟩)))⟩
          rcases hc o uo no with w | w
          · exact hp o uo w
          · rw [w]; exact Or.inr ⟨rfl, Nat.le_refl _⟩
        rcases hb with ⟨e, hb⟩ | ⟨r, e, ur, ra, el, hb⟩
        · subst e
          exact br_t (by decide) (put (fun o uo no => absurd no (hb o uo)))
        · subst e
          have lr := hU r ur
          have stay : (ge_S (xi_ a_px) (xi_ a_py) a r < ge_S (xi_ a_px) (xi_ a_py) a c ∨ (ge_S (xi_ a_px) (xi_ a_py) a r = ge_S (xi_ a_px) (xi_ a_py) a c ∧ r ≤ c)) → wX_neighbour_19 post (nI a) f_size f_solid (nI m) f_treeEdges a_used a_px a_py a_alive a_corner a_across a_bad a_startsAt a_endsAt a_edgeU a_edgeV a_edgeLen a_treeU a_treeV a_treeLen a_leader a_order a_mark n (nI r) l (nI (i + 1)) := by
            intro hs
            refine ih (i + 1) (by omega) (by omega) _ _ (Or.inr ⟨r, rfl, ur, ra, el, fun o uo no => ?_⟩)
            rcases hc o uo no with w | w
            · exact hb o uo w
            · rw [w]; exact hs
          refine br_f (nI_pos (by omega)) ⟨in_ (by omega), br_c (fun w => put (fun o uo no => ?_)) (fun w => ⟨in_ (by omega), br_c (fun w2 => pk_le r c (fun w3 => nm_e (stay ?_)) (fun w3 => put (fun o uo no => ?_))) (fun w2 => nm_e (stay ?_))⟩)⟩
          · rw [Int32.lt_iff_toInt_lt] at w
            have := hb o uo no
            omega
          · rw [← Int32.toInt_inj] at w2
            omega
          · rw [← Int32.toInt_inj] at w2
            have := hb o uo no
            omega
          · rw [← Int32.toInt_inj] at w2
            rw [Int32.lt_iff_toInt_lt] at w
            omega
      rw [cl_ (n := i) (by omega), e3, nI_1]
      refine xw_otherEnd (by omega) e1 e2 l1 l2 la (fun w => br_t (nI_pos' (by omega)) (cand v uq.2.1 (fun e => uq.2.2 (w.trans e.symm)) (by rw [sl, w]) (fun o uo no => ?_))) (fun w w2 => br_t (nI_pos' (by omega)) (cand u uq.1 w (by rw [sl, w2, ge_Sc]) (fun o uo no => ?_))) (fun w w2 => br_f (by decide) (nm_e (ih (i + 1) (by omega) (by omega) b l ?_)))
      · rcases ext o uo no with q1 | q1 | q1
        · exact Or.inl q1
        · exact Or.inr q1.2
        · exact absurd (w.trans q1.1.symm) uq.2.2
      · rcases ext o uo no with q1 | q1 | q1
        · exact Or.inl q1
        · exact absurd q1.1 w
        · exact Or.inr q1.2
      · rcases hb with ⟨e, hb⟩ | ⟨r, e, ur, ra, el, hb⟩
        · refine Or.inl ⟨e, fun o uo no => ?_⟩
          rcases ext o uo no with q1 | q1 | q1
          · exact hb o uo q1
          · exact w q1.1
          · exact w2 q1.1
        · refine Or.inr ⟨r, e, ur, ra, el, fun o uo no => ?_⟩
          rcases ext o uo no with q1 | q1 | q1
          · exact hb o uo q1
          · exact absurd q1.1 w
          · exact absurd q1.1 w2
  exact ⟨m + 1, L (m + 1) 0 (by omega) (by omega) (-4) 0 (Or.inl ⟨rfl, fun o uo ⟨j, hj, _⟩ => by omega⟩)⟩
theorem xw_joined {post : Int32 → Prop} {U : Nat → Prop} {line : Prop} {m a b : Nat} (hU : ∀ i, U i → i < 24) (G : eg_Ok a_px a_py U line m a_edgeU a_edgeV a_edgeLen) (ua : U a) (ub : U b)
    (h1 : nb_ a_edgeU a_edgeV m a b → post 1) (h0 : ¬ nb_ a_edgeU a_edgeV m a b → post 0) : wpX_joined post (f_size, f_solid, nI m, f_treeEdges, a_used, a_px, a_py, a_alive, a_corner, a_across, a_bad, a_startsAt, a_endsAt, a_edgeU, a_edgeV, a_edgeLen, a_treeU, a_treeV, a_treeLen, a_leader, a_order, a_mark) (nI a) (nI b) := by
  obtain ⟨hm, Q, E, g1, g2, g3⟩ := G
  have la := hU a ua
  have lb := hU b ub
  unfold wpX_joined
  dsimp only
  have L : ∀ n i : Nat, i ≤ m → m < n + i → ¬ nb_ a_edgeU a_edgeV i a b → wX_joined_2 post (nI a) (nI b) f_size f_solid (nI m) f_treeEdges a_used a_px a_py a_alive a_corner a_across a_bad a_startsAt a_endsAt a_edgeU a_edgeV a_edgeLen a_treeU a_treeV a_treeLen a_leader a_order a_mark n (nI i) := by
    intro n
    induction n with
    | zero => intro i hi hn; omega
    | succ n ih =>
      intro i hi hn hb
      rw [wX_joined_2]
      refine pk_le m i (fun z => ?_) (fun z => ?_)
      · have e : i = m := by omega
        subst e
        exact h0 hb
      obtain ⟨u, v, e1, e2, l1, l2, q, e3⟩ := E.1 i z
      have uq := g1 u v q
      have nxt : ¬ ((u = a ∧ v = b) ∨ (u = b ∧ v = a)) → wX_joined_2 post (nI a) (nI b) f_size f_solid (nI m) f_treeEdges a_used a_px a_py a_alive a_corner a_across a_bad a_startsAt a_endsAt a_edgeU a_edgeV a_edgeLen a_treeU a_treeV a_treeLen a_leader a_order a_mark n (nI (i + 1)) := by
        intro hn'
        refine ih (i + 1) (by omega) (by omega) (fun ⟨j, hj, hh⟩ => ?_)
        by_cases e : j = i
        · subst e
          rw [e1, e2, nI_ne (by omega) (by omega), nI_ne (by omega) (by omega), nI_ne (by omega) (by omega), nI_ne (by omega) (by omega)] at hh
          exact hn' hh
        · exact hb ⟨j, by omega, hh⟩
      rw [nI_1]
      refine xw_otherEnd (by omega) e1 e2 l1 l2 la (fun w => pk_eq v b (fun w2 => h1 ⟨i, z, Or.inl ⟨by rw [e1, w], by rw [e2, w2]⟩⟩) (fun w2 => nm_e (nxt (fun hh => ?_)))) (fun w w3 => pk_eq u b (fun w2 => h1 ⟨i, z, Or.inr ⟨by rw [e1, w2], by rw [e2, w3]⟩⟩) (fun w2 => nm_e (nxt (fun hh => ?_)))) (fun w w3 => br_f (fun e => ?_) (nm_e (nxt (fun hh => ?_))))
      · rcases hh with hh | hh
        · exact w2 hh.2
        · exact uq.2.2 (w.trans hh.2.symm)
      · rcases hh with hh | hh
        · exact w hh.1
        · exact w2 hh.1
      · have := congrArg Int32.toInt e
        rw [nI_toInt (by omega)] at this
        have q : (-1 : Int32).toInt = -1 := by decide
        omega
      · rcases hh with hh | hh
        · exact w hh.1
        · exact w3 hh.2
  exact ⟨m + 1, L (m + 1) 0 (by omega) (by omega) (fun ⟨j, hj, _⟩ => by omega)⟩
theorem xw_edgeCell {post : Int32 → Prop} {a b : Nat} (rc : rg_ a_corner 216 25) (la : a < 25) (lb : b < 25)
    (h1 : ∀ e, e < 216 → ¬ a_alive (e / 3) = 0 → cn_ a_corner e = a → cn_ a_corner (nx_ e) = b → post (nI e)) (h0 : (∀ e, e < 216 → ¬ a_alive (e / 3) = 0 → cn_ a_corner e = a → cn_ a_corner (nx_ e) = b → False) → post (-1)) : wpX_edgeCell post (f_size, f_solid, f_edges, f_treeEdges, a_used, a_px, a_py, a_alive, a_corner, a_across, a_bad, a_startsAt, a_endsAt, a_edgeU, a_edgeV, a_edgeLen, a_treeU, a_treeV, a_treeLen, a_leader, a_order, a_mark) (nI a) (nI b) := by
  unfold wpX_edgeCell
  dsimp only
  have L : ∀ n i : Nat, i ≤ 216 → 216 < n + i → (∀ e, e < i → ¬ a_alive (e / 3) = 0 → cn_ a_corner e = a → cn_ a_corner (nx_ e) = b → False) → wX_edgeCell_2 post (nI a) (nI b) f_size f_solid f_edges f_treeEdges a_used a_px a_py a_alive a_corner a_across a_bad a_startsAt a_endsAt a_edgeU a_edgeV a_edgeLen a_treeU a_treeV a_treeLen a_leader a_order a_mark n (nI i) := by
    intro n
    induction n with
    | zero => intro i hi hn; omega
    | succ n ih =>
      intro i hi hn hb
      rw [wX_edgeCell_2]
      refine pk_le 216 i (fun z => h0 (fun e he => hb e (by omega))) (fun z => ?_)
      have nxt : (¬ a_alive (i / 3) = 0 → cn_ a_corner i = a → cn_ a_corner (nx_ i) = b → False) → wX_edgeCell_2 post (nI a) (nI b) f_size f_solid f_edges f_treeEdges a_used a_px a_py a_alive a_corner a_across a_bad a_startsAt a_endsAt a_edgeU a_edgeV a_edgeLen a_treeU a_treeV a_treeLen a_leader a_order a_mark n (nI (i + 1)) := by
        intro hn'
        refine ih (i + 1) (by omega) (by omega) (fun e he => ?_)
        by_cases q : e = i
        · rw [q]; exact hn'
        · exact hb e (by omega)
      have ln := nx_lt z
      have c1 := rc i z
      have c2 := rc _ ln
      rw [i3_d (by omega), cl_ (n := i / 3) (by omega), cl_ (n := i) (by omega), c1.1, nI_1]
      refine ⟨by decide, in_ (by omega), br_c (fun w => nm_e (nxt (fun q => absurd w q))) (fun w => ⟨in_ z, pk_eq (cn_ a_corner i) a (fun w2 => xw_next (by omega) ?_) (fun w2 => nm_e (nxt (fun _ q => absurd q w2)))⟩)⟩
      rw [cl_ (n := nx_ i) (by omega), c2.1]
      exact ⟨in_ ln, pk_eq (cn_ a_corner (nx_ i)) b (fun w3 => h1 i z w w2 w3) (fun w3 => nm_e (nxt (fun _ _ q => absurd q w3)))⟩
  exact ⟨217, L 217 0 (by omega) (by omega) (fun e he => by omega)⟩
/-- firmEdge tells whether the pair is joined in every triangulation -/
theorem xw_firm {post : Int32 → Prop} {U : Nat → Prop} {e : Nat} (T : tx_Ok a_px a_py a_alive a_corner a_across U) (he : e < 216) (ae : ¬ a_alive (e / 3) = 0) (n1 : cn_ a_corner e ≠ 24) (n2 : cn_ a_corner (nx_ e) ≠ 24)
    (h1 : ln_K (xi_ a_px) (xi_ a_py) U (cn_ a_corner e) (cn_ a_corner (nx_ e)) → post 1) (h0 : ¬ ln_K (xi_ a_px) (xi_ a_py) U (cn_ a_corner e) (cn_ a_corner (nx_ e)) → post 0) : wpX_firmEdge post (f_size, f_solid, f_edges, f_treeEdges, a_used, a_px, a_py, a_alive, a_corner, a_across, a_bad, a_startsAt, a_endsAt, a_edgeU, a_edgeV, a_edgeLen, a_treeU, a_treeV, a_treeLen, a_leader, a_order, a_mark) (nI e) := by
  obtain ⟨T, rc, ra⟩ := T
  obtain ⟨w, W, s1, s2, s3, P, O⟩ := T
  have Bd := P.1
  have Ax : hu_Ax (ch_X (xi_ a_px) (xi_ a_py) w W s1 s2 s3) := ch_ax
  have F := O.1 e he ae
  obtain ⟨o1, o2, f, hf, f3, f1, f2⟩ := O.2.2.2 e he ae
  have G := O.1 f hf (by rw [f3]; exact o2)
  rw [f1, f2] at G
  have fm := fa_firm P F G n1 n2
  have l1 := nx_lt he
  have l2 := nx_lt l1
  have c0 := rc e he
  have c1 := rc _ l1
  have c2 := rc _ l2
  have ac := ra e he
  have Gd := G
  obtain ⟨_, _, sz, _, zu, zv, _⟩ := Gd
  unfold wpX_firmEdge
  dsimp only
  rw [i3_d (by omega), cl_ (n := e) (by omega), ac.1, c0.1]
  refine ⟨by decide, nm_e ⟨in_ he, nm_e (xw_facing he c2.1 (pk_eq (cn_ a_corner (nx_ (nx_ e))) 24 (fun z => h1 (fm.mpr (Or.inl z))) (fun z => ⟨in_ he, nm_e (xw_next (by omega) ?_)⟩)))⟩⟩
  rw [cl_ (n := nx_ e) (by omega), c1.1, i3_0]
  refine ⟨in_ l1, nm_e (nm_e ?_)⟩
  have lf := nx_lt hf
  have lf2 := nx_lt lf
  -- corners of the slot of the neighbour
  have cor : ∀ i, i < 216 → i / 3 = cn_ a_across e → cn_ a_corner i = cn_ a_corner e ∨ cn_ a_corner i = cn_ a_corner (nx_ e) ∨ cn_ a_corner i = cn_ a_corner (nx_ (nx_ f)) := by
    intro i hi i3
    have : i = f ∨ i = nx_ f ∨ i = nx_ (nx_ f) := by
      obtain ⟨t, ht, q | q | q⟩ := nx_cs f
      · rw [q, nx_0, nx_1]; omega
      · rw [q, nx_1, nx_2]; omega
      · rw [q, nx_2, nx_0]; omega
    rcases this with q | q | q
    · right; left; rw [q]; exact f1
    · left; rw [q]; exact f2
    · right; right; rw [q]
  have L : ∀ n k : Nat, k ≤ 3 → 3 < n + k → (∀ i, i < 216 → i / 3 = cn_ a_across e → i < 3 * cn_ a_across e + k → cn_ a_corner i ≠ cn_ a_corner (nx_ (nx_ f))) → wX_firmEdge_51 post (nI (e / 3)) (nI (cn_ a_across e)) (nI (cn_ a_corner e)) (nI (cn_ a_corner (nx_ e))) f_size f_solid f_edges f_treeEdges a_used a_px a_py a_alive a_corner a_across a_bad a_startsAt a_endsAt a_edgeU a_edgeV a_edgeLen a_treeU a_treeV a_treeLen a_leader a_order a_mark n (nI (3 * cn_ a_across e + k)) := by
    intro n
    induction n with
    | zero => intro k hk hn; omega
    | succ n ih =>
      intro k hk hn hb
      rw [wX_firmEdge_51]
      rw [i3_3]
      refine pk_le (3 * cn_ a_across e + 3) (3 * cn_ a_across e + k) (fun q => ?_) (fun q => ?_)
      · exfalso
        exact hb (nx_ (nx_ f)) lf2 (by rw [nx_div, nx_div]; exact f3) (by
          have := nx_div (nx_ f)
          have := nx_div f
          omega) rfl
      · have lk : 3 * cn_ a_across e + k < 216 := by omega
        have ck := rc _ lk
        rw [cl_ (n := 3 * cn_ a_across e + k) (by omega), ck.1, nI_1]
        have more : cn_ a_corner (3 * cn_ a_across e + k) ≠ cn_ a_corner (nx_ (nx_ f)) → wX_firmEdge_51 post (nI (e / 3)) (nI (cn_ a_across e)) (nI (cn_ a_corner e)) (nI (cn_ a_corner (nx_ e))) f_size f_solid f_edges f_treeEdges a_used a_px a_py a_alive a_corner a_across a_bad a_startsAt a_endsAt a_edgeU a_edgeV a_edgeLen a_treeU a_treeV a_treeLen a_leader a_order a_mark n (nI (3 * cn_ a_across e + k + 1)) := by
          intro ne
          refine ih (k + 1) (by omega) (by omega) (fun i hi i3 il => ?_)
          by_cases qq : i = 3 * cn_ a_across e + k
          · rw [qq]; exact ne
          · exact hb i hi i3 (by omega)
        have ck3 := cor _ lk (by omega)
        refine ⟨in_ lk, nm_e (pk_eq (cn_ a_corner (3 * cn_ a_across e + k)) 24 (fun q1 => h1 (fm.mpr (Or.inr (Or.inl ?_)))) (fun q1 => pk_eq (cn_ a_corner (3 * cn_ a_across e + k)) (cn_ a_corner e) (fun q2 => nm_e (more ?_)) (fun q2 => pk_eq (cn_ a_corner (3 * cn_ a_across e + k)) (cn_ a_corner (nx_ e)) (fun q3 => nm_e (more ?_)) (fun q3 => ?_))))⟩
        · rcases ck3 with x1 | x1 | x1
          · exact absurd (x1.symm.trans q1) n1
          · exact absurd (x1.symm.trans q1) n2
          · exact x1.symm.trans q1
        · rw [q2]; exact zu
        · rw [q3]; exact zv
        · have ez : cn_ a_corner (3 * cn_ a_across e + k) = cn_ a_corner (nx_ (nx_ f)) := by
            rcases ck3 with x1 | x1 | x1
            · exact absurd x1 q2
            · exact absurd x1 q3
            · exact x1
          have t3 : e / 3 < 72 := by omega
          have d0 := rc (3 * (e / 3)) (by omega)
          have d1 := rc (3 * (e / 3) + 1) (by omega)
          have d2 := rc (3 * (e / 3) + 2) (by omega)
          have Fs := F
          obtain ⟨fa, fb, fc, _, _, _, _⟩ := Fs
          have lt24 : ∀ i, (us_ a_used i ∨ True) → True := fun _ _ => trivial
          have b0 : cn_ a_corner e < 24 := by have := c0.2; omega
          have b1 : cn_ a_corner (nx_ e) < 24 := by have := c1.2; omega
          have b2 : cn_ a_corner (nx_ (nx_ e)) < 24 := by have := c2.2; omega
          have bz : cn_ a_corner (3 * cn_ a_across e + k) < 24 := by have := ck.2; omega
          -- the three corners of the cell's own slot, turned
          have rot : cn_ a_corner (3 * (e / 3)) < 24 ∧ cn_ a_corner (3 * (e / 3) + 1) < 24 ∧ cn_ a_corner (3 * (e / 3) + 2) < 24 ∧ ∀ d, ge_ic (xi_ a_px) (xi_ a_py) (cn_ a_corner (3 * (e / 3))) (cn_ a_corner (3 * (e / 3) + 1)) (cn_ a_corner (3 * (e / 3) + 2)) d = ge_ic (xi_ a_px) (xi_ a_py) (cn_ a_corner e) (cn_ a_corner (nx_ e)) (cn_ a_corner (nx_ (nx_ e))) d := by
            obtain ⟨t, ht, q | q | q⟩ := nx_cs e
            · rw [ht]
              rw [q, nx_0] at b1
              rw [q, nx_0, nx_1] at b2
              rw [q] at b0
              refine ⟨b0, b1, b2, fun d => ?_⟩
              rw [q, nx_0, nx_1]
            · rw [ht]
              rw [q, nx_1] at b1
              rw [q, nx_1, nx_2] at b2
              rw [q] at b0
              refine ⟨b2, b0, b1, fun d => ?_⟩
              rw [q, nx_1, nx_2]
              exact (ge_icr _ _ _ _ _ _).symm
            · rw [ht]
              rw [q, nx_2] at b1
              rw [q, nx_2, nx_0] at b2
              rw [q] at b0
              refine ⟨b1, b2, b0, fun d => ?_⟩
              rw [q, nx_2, nx_0]
              exact ((ge_icr _ _ _ _ _ _).trans (ge_icr _ _ _ _ _ _)).symm
          rw [i3_1, i3_2, i3_0, cl_ (n := 3 * (e / 3)) (by omega), cl_ (n := 3 * (e / 3) + 1) (by omega), cl_ (n := 3 * (e / 3) + 2) (by omega), d0.1, d1.1, d2.1]
          refine ⟨in_ (by omega), in_ (by omega), in_ (by omega), xw_inCircle rot.1 rot.2.1 rot.2.2.1 bz ?_⟩
          have ci := (c64_i Bd rot.1 rot.2.1 rot.2.2.1 bz).1
          rw [rot.2.2.2, ez] at ci
          rw [ez]
          refine br_c (fun x1 => h0 (fun hk => ?_)) (fun x1 => h1 (fm.mpr (Or.inr (Or.inr ?_))))
          · rw [l_0le, ci] at x1
            rcases fm.mp hk with y1 | y1 | y1
            · exact z y1
            · exact q1 (ez.trans y1)
            · omega
          · rw [l_0le, ci] at x1
            omega
  exact ⟨4, L 4 0 (by omega) (by omega) (fun i hi i3 il => by omega)⟩
end
end
section
/-! the reference's searches -/
section
variable {a_here a_xs a_ys a_way : Nat → Int32} {post : Int32 → Prop}
theorem yw_neigh {a : Nat} (Bd : ge_Bd (xi_ a_xs) (xi_ a_ys)) (ua : us_ a_here a)
    (h0 : (∀ c, us_ a_here c → c = a) → post (-4)) (h1 : ∀ r, us_ a_here r → r ≠ a → (∀ c, us_ a_here c → c ≠ a → ge_S (xi_ a_xs) (xi_ a_ys) a r ≤ ge_S (xi_ a_xs) (xi_ a_ys) a c) → (∀ c, c < r → us_ a_here c → c ≠ a → ge_S (xi_ a_xs) (xi_ a_ys) a r < ge_S (xi_ a_xs) (xi_ a_ys) a c) → post (nI r)) :
    ∃ n, wY_neighbour_19 post (nI a) a_here a_xs a_ys a_way n (-4) 0 0 := by
  have la := ua.1
  have L : ∀ n i : Nat, i ≤ 24 → 24 < n + i → ∀ b l : Int32, ((b = -4 ∧ ∀ c, c < i → us_ a_here c → c = a) ∨ ∃ r, b = nI r ∧ r < i ∧ us_ a_here r ∧ r ≠ a ∧ l.toInt = ge_S (xi_ a_xs) (xi_ a_ys) a r ∧ (∀ c, c < i → us_ a_here c → c ≠ a → l.toInt ≤ ge_S (xi_ a_xs) (xi_ a_ys) a c) ∧ (∀ c, c < r → us_ a_here c → c ≠ a → l.toInt < ge_S (xi_ a_xs) (xi_ a_ys) a c)) →
      wY_neighbour_19 post (nI a) a_here a_xs a_ys a_way n b l (nI i) := by
    intro n
    induction n with
    | zero => intro i hi hn; omega
    | succ n ih =>
      intro i hi hn b l hb
      rw [wY_neighbour_19]
      refine pk_le 24 i (fun z => ?_) (fun z => yw_square z la ?_)
      · rcases hb with ⟨e, hb⟩ | ⟨r, e, lr, ur, ra, el, b1, b2⟩
        · subst e
          exact h0 (fun c uc => hb c (by have := uc.1; omega) uc)
        · subst e
          refine h1 r ur ra (fun c uc ca => ?_) (fun c hc uc ca => ?_)
          · have := b1 c (by have := uc.1; omega) uc ca
            omega
          · have := b2 c hc uc ca
            omega
      · have q1 : (s32_ a_xs a_ys i a).toInt = ge_S (xi_ a_xs) (xi_ a_ys) a i := by rw [s32_i Bd z la, ge_Sc]
        have skip : (us_ a_here i → i = a) → wY_neighbour_19 post (nI a) a_here a_xs a_ys a_way n b l (nI (i + 1)) := by
          intro nu
          refine ih (i + 1) (by omega) (by omega) b l ?_
          rcases hb with ⟨e, hb⟩ | ⟨r, e, lr, ur, ra, el, b1, b2⟩
          · refine Or.inl ⟨e, fun c hc uc => ?_⟩
            by_cases q : c = i
            · rw [q] at uc ⊢; exact nu uc
            · exact hb c (by omega) uc
          · refine Or.inr ⟨r, e, by omega, ur, ra, el, fun c hc uc ca => ?_, b2⟩
            by_cases q : c = i
            · rw [q] at uc ca; exact absurd (nu uc) ca
            · exact b1 c (by omega) uc ca
        rw [cl_ (n := i) (by omega), nI_1]
        refine ⟨in_ z, br_c (fun w => nm_e (skip (fun u => absurd w u.2))) (fun w => pk_eq i a (fun w2 => nm_e (skip (fun _ => w2))) (fun w2 => ?_))⟩
        have ui : us_ a_here i := ⟨z, w⟩
        rcases hb with ⟨e, hb⟩ | ⟨r, e, lr, ur, ra, el, b1, b2⟩
        · subst e
          refine br_t (by decide) (nm_e (ih (i + 1) (by omega) (by omega) _ _ (Or.inr ⟨i, rfl, by omega, ui, w2, q1, fun c hc uc ca => ?_, fun c hc uc ca => absurd (hb c hc uc) ca⟩)))
          by_cases q : c = i
          · rw [q, q1]; exact Int.le_refl _
          · exact absurd (hb c (by omega) uc) ca
        · subst e
          refine br_f (nI_pos (by omega)) (br_c (fun g => nm_e (ih (i + 1) (by omega) (by omega) _ _ (Or.inr ⟨r, rfl, by omega, ur, ra, el, fun c hc uc ca => ?_, b2⟩))) (fun g => nm_e (ih (i + 1) (by omega) (by omega) _ _ (Or.inr ⟨i, rfl, by omega, ui, w2, q1, fun c hc uc ca => ?_, fun c hc uc ca => ?_⟩))))
          · rw [Int32.le_iff_toInt_le, q1] at g
            by_cases q : c = i
            · rw [q]; exact g
            · exact b1 c (by omega) uc ca
          · rw [Int32.le_iff_toInt_le, q1] at g
            by_cases q : c = i
            · rw [q, q1]; exact Int.le_refl _
            · have := b1 c (by omega) uc ca
              omega
          · rw [Int32.le_iff_toInt_le, q1] at g
            have := b1 c (by omega) uc ca
            omega
  exact ⟨25, L 25 0 (by omega) (by omega) (-4) 0 (Or.inl ⟨rfl, fun c hc => by omega⟩)⟩
/-- a point across the line, in or on the circle -/
def cx_ (x y : Nat → Int) (a b c d : Nat) : Prop := ((0 < ge_T x y a b c ∧ ge_T x y a b d < 0) ∨ (ge_T x y a b c < 0 ∧ 0 < ge_T x y a b d)) ∧ 0 ≤ ge_ic x y a b c d * ge_T x y a b c
theorem yw_crossed {a b c : Nat} (Bd : ge_Bd (xi_ a_xs) (xi_ a_ys)) (la : a < 24) (lb : b < 24) (lc : c < 24) (h1 : (∃ d, us_ a_here d ∧ cx_ (xi_ a_xs) (xi_ a_ys) a b c d) → post 1) (h0 : (∀ d, us_ a_here d → ¬ cx_ (xi_ a_xs) (xi_ a_ys) a b c d) → post 0) : wpY_crossed post (a_here, a_xs, a_ys, a_way) (nI a) (nI b) (nI c) := by
  unfold wpY_crossed
  dsimp only
  refine yw_turn la lb lc ?_
  have t1 := t32_i Bd la lb lc
  have L : ∀ n i : Nat, i ≤ 24 → 24 < n + i → (∀ d, d < i → us_ a_here d → ¬ cx_ (xi_ a_xs) (xi_ a_ys) a b c d) → wY_crossed_12 post (nI a) (nI b) (nI c) (t32_ a_xs a_ys a b c) a_here a_xs a_ys a_way n (nI i) := by
    intro n
    induction n with
    | zero => intro i hi hn; omega
    | succ n ih =>
      intro i hi hn hb
      rw [wY_crossed_12]
      refine pk_le 24 i (fun z => h0 (fun d ud => hb d (by have := ud.1; omega) ud)) (fun z => ?_)
      have nxt : (us_ a_here i → ¬ cx_ (xi_ a_xs) (xi_ a_ys) a b c i) → wY_crossed_12 post (nI a) (nI b) (nI c) (t32_ a_xs a_ys a b c) a_here a_xs a_ys a_way n (nI (i + 1)) := by
        intro hn'
        refine ih (i + 1) (by omega) (by omega) (fun d hd ud => ?_)
        by_cases q : d = i
        · rw [q] at ud ⊢; exact hn' ud
        · exact hb d (by omega) ud
      rw [cl_ (n := i) (by omega), nI_1]
      refine ⟨in_ z, br_c (fun w => nm_e (nxt (fun u => absurd w u.2))) (fun w => pk_eq i a (fun w2 => nm_e (nxt (fun _ k => ?_))) (fun w2 => pk_eq i b (fun w3 => nm_e (nxt (fun _ k => ?_))) (fun w3 => pk_eq i c (fun w4 => nm_e (nxt (fun _ k => ?_))) (fun w4 => yw_turn la lb z ?_))))⟩
      · rw [w2] at k
        have := k.1
        rw [ge_Tz3] at this
        omega
      · rw [w3] at k
        have := k.1
        rw [ge_Tz2] at this
        omega
      · rw [w4] at k
        have := k.1
        omega
      have t2 := t32_i Bd la lb z
      have ui : us_ a_here i := ⟨z, w⟩
      have c77 : ((0 < ge_T (xi_ a_xs) (xi_ a_ys) a b c ∧ ge_T (xi_ a_xs) (xi_ a_ys) a b i < 0) ∨ (ge_T (xi_ a_xs) (xi_ a_ys) a b c < 0 ∧ 0 < ge_T (xi_ a_xs) (xi_ a_ys) a b i)) → wY_crossed_77 post (wY_crossed_12 post (nI a) (nI b) (nI c) (t32_ a_xs a_ys a b c) a_here a_xs a_ys a_way n) (nI a) (nI b) (nI c) (t32_ a_xs a_ys a b c) (nI i) a_here a_xs a_ys a_way := by
        intro ap
        unfold wY_crossed_77 wY_crossed_82
        refine br_f (by decide) (yw_circle Bd la lb lc z (fun r hr => ?_))
        rw [nI_1]
        refine br_c (fun g => nm_e (nxt (fun _ k => ?_))) (fun g => h1 ⟨i, ui, ap, ?_⟩)
        · rw [l_lt0, hr] at g
          have := k.2
          omega
        · rw [l_lt0, hr] at g
          omega
      have c81 : ¬ ((0 < ge_T (xi_ a_xs) (xi_ a_ys) a b c ∧ ge_T (xi_ a_xs) (xi_ a_ys) a b i < 0) ∨ (ge_T (xi_ a_xs) (xi_ a_ys) a b c < 0 ∧ 0 < ge_T (xi_ a_xs) (xi_ a_ys) a b i)) → wY_crossed_81 post (wY_crossed_12 post (nI a) (nI b) (nI c) (t32_ a_xs a_ys a b c) a_here a_xs a_ys a_way n) (nI a) (nI b) (nI c) (t32_ a_xs a_ys a b c) (nI i) a_here a_xs a_ys a_way := by
        intro ap
        unfold wY_crossed_81 wY_crossed_82
        rw [nI_1]
        exact br_t rfl (nm_e (nxt (fun _ k => ap k.1)))
      have c67 : ¬ (0 < ge_T (xi_ a_xs) (xi_ a_ys) a b c ∧ ge_T (xi_ a_xs) (xi_ a_ys) a b i < 0) → wY_crossed_67 post (wY_crossed_12 post (nI a) (nI b) (nI c) (t32_ a_xs a_ys a b c) a_here a_xs a_ys a_way n) (nI a) (nI b) (nI c) (t32_ a_xs a_ys a b c) (nI i) (t32_ a_xs a_ys a b i) a_here a_xs a_ys a_way := by
        intro ap
        unfold wY_crossed_67
        refine br_c (fun g => c81 ?_) (fun g => br_c (fun g2 => c81 ?_) (fun g2 => c77 ?_))
        · rw [i_0le, t1] at g; omega
        · rw [i_le0, t2] at g2; omega
        · rw [i_0le, t1] at g
          rw [i_le0, t2] at g2
          omega
      refine br_c (fun g => c67 ?_) (fun g => br_c (fun g2 => c77 ?_) (fun g2 => c67 ?_))
      · rw [i_le0, t1] at g; omega
      · rw [i_le0, t1] at g
        rw [i_lt0, t2] at g2
        omega
      · rw [i_lt0, t2] at g2
        omega
  exact ⟨25, L 25 0 (by omega) (by omega) (fun d hd => by omega)⟩
/-- joined in every triangulation, as the reference asks it -/
def lk_ (x y : Nat → Int) (U : Nat → Prop) (a b c : Nat) : Prop := (ge_T x y a b c = 0 → 0 < ge_D x y a b c) ∧ (ge_T x y a b c ≠ 0 → ∀ d, U d → ¬ cx_ x y a b c d)
theorem lk_K {x y : Nat → Int} {U : Nat → Prop} {a b : Nat} : ln_K x y U a b ↔ ∀ c, U c → c ≠ a → c ≠ b → lk_ x y U a b c := by
  constructor
  · intro h c uc ca cb
    refine ⟨h.1 c uc ca cb, fun t d ud k => ?_⟩
    obtain ⟨k1, k2⟩ := k
    rcases k1 with ⟨k1, k3⟩ | ⟨k1, k3⟩
    · have i := h.2 c d uc ud k1 k3
      have := Int.mul_neg_of_neg_of_pos i k1
      omega
    · have i := h.2 d c ud uc k3 k1
      have e := ge_ic34 x y a b c d
      have := Int.mul_neg_of_pos_of_neg (show 0 < ge_ic x y a b c d by omega) k1
      omega
  · intro h
    have ne : ∀ e, ge_T x y a b e ≠ 0 → e ≠ a ∧ e ≠ b := fun e he => ⟨fun z => he (by rw [z]; exact ge_Tz3 x y _ _), fun z => he (by rw [z]; exact ge_Tz2 x y _ _)⟩
    refine ⟨fun c uc ca cb t => (h c uc ca cb).1 t, fun c d uc ud t1 t2 => ?_⟩
    have n := ne c (by omega)
    have k := (h c uc n.1 n.2).2 (by omega) d ud
    by_cases z : ge_ic x y a b c d < 0
    · exact z
    · exfalso
      exact k ⟨Or.inl ⟨t1, t2⟩, Int.mul_nonneg (by omega) (by omega)⟩
theorem yw_linked {a b : Nat} (Bd : ge_Bd (xi_ a_xs) (xi_ a_ys)) (la : a < 24) (lb : b < 24) (h1 : ln_K (xi_ a_xs) (xi_ a_ys) (us_ a_here) a b → post 1) (h0 : ¬ ln_K (xi_ a_xs) (xi_ a_ys) (us_ a_here) a b → post 0) : ∃ n, wY_linked_25 post (nI a) (nI b) a_here a_xs a_ys a_way n 0 := by
  have L : ∀ n i : Nat, i ≤ 24 → 24 < n + i → (∀ c, c < i → us_ a_here c → c ≠ a → c ≠ b → lk_ (xi_ a_xs) (xi_ a_ys) (us_ a_here) a b c) → wY_linked_25 post (nI a) (nI b) a_here a_xs a_ys a_way n (nI i) := by
    intro n
    induction n with
    | zero => intro i hi hn; omega
    | succ n ih =>
      intro i hi hn hb
      rw [wY_linked_25]
      refine pk_le 24 i (fun z => h1 (lk_K.mpr (fun c uc => hb c (by have := uc.1; omega) uc))) (fun z => ?_)
      have nxt : (us_ a_here i → i ≠ a → i ≠ b → lk_ (xi_ a_xs) (xi_ a_ys) (us_ a_here) a b i) → wY_linked_25 post (nI a) (nI b) a_here a_xs a_ys a_way n (nI (i + 1)) := by
        intro hn'
        refine ih (i + 1) (by omega) (by omega) (fun d hd ud => ?_)
        by_cases q : d = i
        · rw [q] at ud ⊢; exact hn' ud
        · exact hb d (by omega) ud
      rw [cl_ (n := i) (by omega), nI_1]
      refine ⟨in_ z, br_c (fun w => nm_e (nxt (fun u => absurd w u.2))) (fun w => pk_eq i a (fun w2 => nm_e (nxt (fun _ k => absurd w2 k))) (fun w2 => pk_eq i b (fun w3 => nm_e (nxt (fun _ _ k => absurd w3 k))) (fun w3 => yw_turn la lb z ?_)))⟩
      have t1 := t32_i Bd la lb z
      have ui : us_ a_here i := ⟨z, w⟩
      have c76 : (ge_T (xi_ a_xs) (xi_ a_ys) a b i = 0 → 0 < ge_D (xi_ a_xs) (xi_ a_ys) a b i) → wY_linked_76 post (wY_linked_25 post (nI a) (nI b) a_here a_xs a_ys a_way n) (nI a) (nI b) (nI i) (t32_ a_xs a_ys a b i) a_here a_xs a_ys a_way := by
        intro hd
        unfold wY_linked_76
        rw [nI_1]
        refine br_c (fun g => nm_e (nxt (fun _ _ _ => ⟨hd, fun t => ?_⟩))) (fun g => yw_crossed Bd la lb z (fun k => br_f (by decide) (h0 (fun hk => ?_))) (fun k => br_t rfl (nm_e (nxt (fun _ _ _ => ⟨hd, fun t => k⟩)))))
        · rw [i_eq0, t1] at g
          exact absurd g t
        · obtain ⟨d, ud, kd⟩ := k
          rw [i_eq0, t1] at g
          exact (lk_K.mp hk i ui w2 w3).2 g d ud kd
      refine br_c (fun g => yw_between Bd la lb z (fun k => br_f (by decide) (h0 (fun hk => ?_))) (fun k => br_t rfl (c76 (fun _ => by omega)))) (fun g => c76 (fun t => ?_))
      · rw [i_eq0, t1] at g
        have := hk.1 i ui w2 w3 g
        omega
      · rw [i_eq0, t1] at g
        exact absurd t g
  exact ⟨25, L 25 0 (by omega) (by omega) (fun d hd => by omega)⟩
theorem yw_close {a b : Nat} (Bd : ge_Bd (xi_ a_xs) (xi_ a_ys)) (la : a < 24) (lb : b < 24) (h1 : ln_G (xi_ a_xs) (xi_ a_ys) (us_ a_here) a b → post 1) (h0 : ¬ ln_G (xi_ a_xs) (xi_ a_ys) (us_ a_here) a b → post 0) : ∃ n, wY_close_25 post (nI a) (nI b) a_here a_xs a_ys a_way n 0 := by
  have L : ∀ n i : Nat, i ≤ 24 → 24 < n + i → (∀ c, c < i → us_ a_here c → c ≠ a → c ≠ b → 0 < ge_D (xi_ a_xs) (xi_ a_ys) a b c) → wY_close_25 post (nI a) (nI b) a_here a_xs a_ys a_way n (nI i) := by
    intro n
    induction n with
    | zero => intro i hi hn; omega
    | succ n ih =>
      intro i hi hn hb
      rw [wY_close_25]
      refine pk_le 24 i (fun z => h1 (fun c uc => hb c (by have := uc.1; omega) uc)) (fun z => ?_)
      have nxt : (us_ a_here i → i ≠ a → i ≠ b → 0 < ge_D (xi_ a_xs) (xi_ a_ys) a b i) → wY_close_25 post (nI a) (nI b) a_here a_xs a_ys a_way n (nI (i + 1)) := by
        intro hn'
        refine ih (i + 1) (by omega) (by omega) (fun d hd ud => ?_)
        by_cases q : d = i
        · rw [q] at ud ⊢; exact hn' ud
        · exact hb d (by omega) ud
      rw [cl_ (n := i) (by omega), nI_1]
      refine ⟨in_ z, br_c (fun w => nm_e (nxt (fun u => absurd w u.2))) (fun w => pk_eq i a (fun w2 => nm_e (nxt (fun _ k => absurd w2 k))) (fun w2 => pk_eq i b (fun w3 => nm_e (nxt (fun _ _ k => absurd w3 k))) (fun w3 => yw_square z la (yw_square z lb (yw_square la lb ?_)))))⟩
      have e1 := s32_i Bd z la
      have e2 := s32_i Bd z lb
      have e3 := s32_i Bd la lb
      have b1 := ge_Sb Bd z la
      have b2 := ge_Sb Bd z lb
      have sm := ge_S2 (xi_ a_xs) (xi_ a_ys) a b i
      have ea : (s32_ a_xs a_ys i a + s32_ a_xs a_ys i b).toInt = ge_S (xi_ a_xs) (xi_ a_ys) i a + ge_S (xi_ a_xs) (xi_ a_ys) i b := by
        rw [ar_add, e1, e2]
        · rw [e1, e2]; omega
        · rw [e1, e2]; omega
      refine br_c (fun g => nm_e (nxt (fun _ _ _ => ?_))) (fun g => h0 (fun hk => ?_))
      · rw [Int32.lt_iff_toInt_lt, e3, ea] at g
        omega
      · rw [Int32.lt_iff_toInt_lt, e3, ea] at g
        have := hk i ⟨z, w⟩ w2 w3
        omega
  exact ⟨25, L 25 0 (by omega) (by omega) (fun d hd => by omega)⟩
theorem yw_empty {a b c : Nat} (Bd : ge_Bd (xi_ a_xs) (xi_ a_ys)) (la : a < 24) (lb : b < 24) (lc : c < 24) (h1 : (∀ d, us_ a_here d → d ≠ a → d ≠ b → d ≠ c → ge_ic (xi_ a_xs) (xi_ a_ys) a b c d * ge_T (xi_ a_xs) (xi_ a_ys) a b c < 0) → post 1) (h0 : ¬ (∀ d, us_ a_here d → d ≠ a → d ≠ b → d ≠ c → ge_ic (xi_ a_xs) (xi_ a_ys) a b c d * ge_T (xi_ a_xs) (xi_ a_ys) a b c < 0) → post 0) : ∃ n, wY_emptyCircle_56 post (nI a) (nI b) (nI c) a_here a_xs a_ys a_way n 0 := by
  have L : ∀ n i : Nat, i ≤ 24 → 24 < n + i → (∀ d, d < i → us_ a_here d → d ≠ a → d ≠ b → d ≠ c → ge_ic (xi_ a_xs) (xi_ a_ys) a b c d * ge_T (xi_ a_xs) (xi_ a_ys) a b c < 0) → wY_emptyCircle_56 post (nI a) (nI b) (nI c) a_here a_xs a_ys a_way n (nI i) := by
    intro n
    induction n with
    | zero => intro i hi hn; omega
    | succ n ih =>
      intro i hi hn hb
      rw [wY_emptyCircle_56]
      refine pk_le 24 i (fun z => h1 (fun c uc => hb c (by have := uc.1; omega) uc)) (fun z => ?_)
      have nxt : (us_ a_here i → i ≠ a → i ≠ b → i ≠ c → ge_ic (xi_ a_xs) (xi_ a_ys) a b c i * ge_T (xi_ a_xs) (xi_ a_ys) a b c < 0) → wY_emptyCircle_56 post (nI a) (nI b) (nI c) a_here a_xs a_ys a_way n (nI (i + 1)) := by
        intro hn'
        refine ih (i + 1) (by omega) (by omega) (fun d hd ud => ?_)
        by_cases q : d = i
        · rw [q] at ud ⊢; exact hn' ud
        · exact hb d (by omega) ud
      rw [cl_ (n := i) (by omega), nI_1]
      refine ⟨in_ z, br_c (fun w => nm_e (nxt (fun u => absurd w u.2))) (fun w => pk_eq i a (fun w2 => nm_e (nxt (fun _ k => absurd w2 k))) (fun w2 => pk_eq i b (fun w3 => nm_e (nxt (fun _ _ k => absurd w3 k))) (fun w3 => pk_eq i c (fun w4 => nm_e (nxt (fun _ _ _ k => absurd w4 k))) (fun w4 => yw_circle Bd la lb lc z (fun r hr => ?_)))))⟩
      refine br_c (fun g => nm_e (nxt (fun _ _ _ _ => ?_))) (fun g => h0 (fun hk => ?_))
      · rw [l_lt0, hr] at g
        exact g
      · rw [l_lt0, hr] at g
        exact g (hk i ⟨z, w⟩ w2 w3 w4)
  exact ⟨25, L 25 0 (by omega) (by omega) (fun d hd => by omega)⟩
theorem yw_noneRight {a b : Nat} (Bd : ge_Bd (xi_ a_xs) (xi_ a_ys)) (la : a < 24) (lb : b < 24) (h1 : (∀ c, us_ a_here c → 0 ≤ ge_T (xi_ a_xs) (xi_ a_ys) a b c) → post 1) (h0 : ¬ (∀ c, us_ a_here c → 0 ≤ ge_T (xi_ a_xs) (xi_ a_ys) a b c) → post 0) : wpY_noneRight post (a_here, a_xs, a_ys, a_way) (nI a) (nI b) := by
  unfold wpY_noneRight
  dsimp only
  have L : ∀ n i : Nat, i ≤ 24 → 24 < n + i → (∀ c, c < i → us_ a_here c → 0 ≤ ge_T (xi_ a_xs) (xi_ a_ys) a b c) → wY_noneRight_2 post (nI a) (nI b) a_here a_xs a_ys a_way n (nI i) := by
    intro n
    induction n with
    | zero => intro i hi hn; omega
    | succ n ih =>
      intro i hi hn hb
      rw [wY_noneRight_2]
      refine pk_le 24 i (fun z => h1 (fun c uc => hb c (by have := uc.1; omega) uc)) (fun z => ?_)
      have nxt : (us_ a_here i → 0 ≤ ge_T (xi_ a_xs) (xi_ a_ys) a b i) → wY_noneRight_2 post (nI a) (nI b) a_here a_xs a_ys a_way n (nI (i + 1)) := by
        intro hn'
        refine ih (i + 1) (by omega) (by omega) (fun d hd ud => ?_)
        by_cases q : d = i
        · rw [q] at ud ⊢; exact hn' ud
        · exact hb d (by omega) ud
      rw [cl_ (n := i) (by omega), nI_1]
      have t1 := t32_i Bd la lb z
      refine ⟨in_ z, br_c (fun w => nm_e (nxt (fun u => absurd w u.2))) (fun w => yw_turn la lb z (br_c (fun g => nm_e (nxt (fun _ => ?_))) (fun g => h0 (fun hk => ?_))))⟩
      · rw [i_0le, t1] at g; exact g
      · rw [i_0le, t1] at g; exact g (hk i ⟨z, w⟩)
  exact ⟨25, L 25 0 (by omega) (by omega) (fun d hd => by omega)⟩
theorem yw_noneLeft {a b : Nat} (Bd : ge_Bd (xi_ a_xs) (xi_ a_ys)) (la : a < 24) (lb : b < 24) (h1 : (∀ c, us_ a_here c → ge_T (xi_ a_xs) (xi_ a_ys) a b c ≤ 0) → post 1) (h0 : ¬ (∀ c, us_ a_here c → ge_T (xi_ a_xs) (xi_ a_ys) a b c ≤ 0) → post 0) : wpY_noneLeft post (a_here, a_xs, a_ys, a_way) (nI a) (nI b) := by
  unfold wpY_noneLeft
  dsimp only
  have L : ∀ n i : Nat, i ≤ 24 → 24 < n + i → (∀ c, c < i → us_ a_here c → ge_T (xi_ a_xs) (xi_ a_ys) a b c ≤ 0) → wY_noneLeft_2 post (nI a) (nI b) a_here a_xs a_ys a_way n (nI i) := by
    intro n
    induction n with
    | zero => intro i hi hn; omega
    | succ n ih =>
      intro i hi hn hb
      rw [wY_noneLeft_2]
      refine pk_le 24 i (fun z => h1 (fun c uc => hb c (by have := uc.1; omega) uc)) (fun z => ?_)
      have nxt : (us_ a_here i → ge_T (xi_ a_xs) (xi_ a_ys) a b i ≤ 0) → wY_noneLeft_2 post (nI a) (nI b) a_here a_xs a_ys a_way n (nI (i + 1)) := by
        intro hn'
        refine ih (i + 1) (by omega) (by omega) (fun d hd ud => ?_)
        by_cases q : d = i
        · rw [q] at ud ⊢; exact hn' ud
        · exact hb d (by omega) ud
      rw [cl_ (n := i) (by omega), nI_1]
      have t1 := t32_i Bd la lb z
      refine ⟨in_ z, br_c (fun w => nm_e (nxt (fun u => absurd w u.2))) (fun w => yw_turn la lb z (br_c (fun g => nm_e (nxt (fun _ => ?_))) (fun g => h0 (fun hk => ?_))))⟩
      · rw [i_le0, t1] at g; exact g
      · rw [i_le0, t1] at g; exact g (hk i ⟨z, w⟩)
  exact ⟨25, L 25 0 (by omega) (by omega) (fun d hd => by omega)⟩
theorem yw_longest {a b : Nat} (Bd : ge_Bd (xi_ a_xs) (xi_ a_ys)) (la : a < 24) (lb : b < 24) (h1 : (∀ c, us_ a_here c → ge_T (xi_ a_xs) (xi_ a_ys) a b c = 0 → ge_D (xi_ a_xs) (xi_ a_ys) a b c ≤ 0) → post 1) (h0 : ¬ (∀ c, us_ a_here c → ge_T (xi_ a_xs) (xi_ a_ys) a b c = 0 → ge_D (xi_ a_xs) (xi_ a_ys) a b c ≤ 0) → post 0) : wpY_longest post (a_here, a_xs, a_ys, a_way) (nI a) (nI b) := by
  unfold wpY_longest
  dsimp only
  have L : ∀ n i : Nat, i ≤ 24 → 24 < n + i → (∀ c, c < i → us_ a_here c → ge_T (xi_ a_xs) (xi_ a_ys) a b c = 0 → ge_D (xi_ a_xs) (xi_ a_ys) a b c ≤ 0) → wY_longest_2 post (nI a) (nI b) a_here a_xs a_ys a_way n (nI i) := by
    intro n
    induction n with
    | zero => intro i hi hn; omega
    | succ n ih =>
      intro i hi hn hb
      rw [wY_longest_2]
      refine pk_le 24 i (fun z => h1 (fun c uc => hb c (by have := uc.1; omega) uc)) (fun z => ?_)
      have nxt : (us_ a_here i → ge_T (xi_ a_xs) (xi_ a_ys) a b i = 0 → ge_D (xi_ a_xs) (xi_ a_ys) a b i ≤ 0) → wY_longest_2 post (nI a) (nI b) a_here a_xs a_ys a_way n (nI (i + 1)) := by
        intro hn'
        refine ih (i + 1) (by omega) (by omega) (fun d hd ud => ?_)
        by_cases q : d = i
        · rw [q] at ud ⊢; exact hn' ud
        · exact hb d (by omega) ud
      rw [cl_ (n := i) (by omega), nI_1]
      have t1 := t32_i Bd la lb z
      refine ⟨in_ z, br_c (fun w => nm_e (nxt (fun u => absurd w u.2))) (fun w => yw_turn la lb z (br_c (fun g => yw_between Bd la lb z (fun k => br_f (by decide) (nm_e (nxt (fun _ _ => k)))) (fun k => br_t rfl (h0 (fun hk => ?_)))) (fun g => nm_e (nxt (fun _ t => ?_)))))⟩
      · rw [i_eq0, t1] at g; exact k (hk i ⟨z, w⟩ g)
      · rw [i_eq0, t1] at g; exact absurd t g
  exact ⟨25, L 25 0 (by omega) (by omega) (fun d hd => by omega)⟩
theorem yw_onHull {a : Nat} (Bd : ge_Bd (xi_ a_xs) (xi_ a_ys)) (ua : us_ a_here a) (h1 : (∃ b, us_ a_here b ∧ b ≠ a ∧ ((∀ c, us_ a_here c → 0 ≤ ge_T (xi_ a_xs) (xi_ a_ys) a b c) ∨ (∀ c, us_ a_here c → ge_T (xi_ a_xs) (xi_ a_ys) a b c ≤ 0))) → post 1)
    (h0 : ¬ (∃ b, us_ a_here b ∧ b ≠ a ∧ ((∀ c, us_ a_here c → 0 ≤ ge_T (xi_ a_xs) (xi_ a_ys) a b c) ∨ (∀ c, us_ a_here c → ge_T (xi_ a_xs) (xi_ a_ys) a b c ≤ 0))) → post 0) : ∃ n, wY_onHull_22 post (nI a) a_here a_xs a_ys a_way n 0 := by
  have la := ua.1
  have L : ∀ n i : Nat, i ≤ 24 → 24 < n + i → (∀ b, b < i → us_ a_here b → b ≠ a → ¬ ((∀ c, us_ a_here c → 0 ≤ ge_T (xi_ a_xs) (xi_ a_ys) a b c) ∨ (∀ c, us_ a_here c → ge_T (xi_ a_xs) (xi_ a_ys) a b c ≤ 0))) → wY_onHull_22 post (nI a) a_here a_xs a_ys a_way n (nI i) := by
    intro n
    induction n with
    | zero => intro i hi hn; omega
    | succ n ih =>
      intro i hi hn hb
      rw [wY_onHull_22]
      refine pk_le 24 i (fun z => h0 (fun ⟨b, ub, ba, k⟩ => hb b (by have := ub.1; omega) ub ba k)) (fun z => ?_)
      have nxt : (us_ a_here i → i ≠ a → ¬ ((∀ c, us_ a_here c → 0 ≤ ge_T (xi_ a_xs) (xi_ a_ys) a i c) ∨ (∀ c, us_ a_here c → ge_T (xi_ a_xs) (xi_ a_ys) a i c ≤ 0))) → wY_onHull_22 post (nI a) a_here a_xs a_ys a_way n (nI (i + 1)) := by
        intro hn'
        refine ih (i + 1) (by omega) (by omega) (fun d hd ud => ?_)
        by_cases q : d = i
        · rw [q] at ud ⊢; exact hn' ud
        · exact hb d (by omega) ud
      rw [cl_ (n := i) (by omega), nI_1]
      refine ⟨in_ z, br_c (fun w => nm_e (nxt (fun u => absurd w u.2))) (fun w => pk_eq i a (fun w2 => nm_e (nxt (fun _ k => absurd w2 k))) (fun w2 => yw_noneRight Bd la z (fun k => br_f (by decide) (h1 ⟨i, ⟨z, w⟩, w2, Or.inl k⟩)) (fun k => br_t rfl (yw_noneLeft Bd la z (fun k2 => br_f (by decide) (h1 ⟨i, ⟨z, w⟩, w2, Or.inr k2⟩)) (fun k2 => br_t rfl (nm_e (nxt (fun _ _ kk => kk.elim k k2))))))))⟩
  exact ⟨25, L 25 0 (by omega) (by omega) (fun d hd => by omega)⟩
end
end
section
/-! the owed statements about circles, neighbours and the hull -/
theorem i_vc_neighbour {k : Nat} {u : SX} {v : SY} (I : i_Rel k u v) (hk : k + 4 ≤ 2048) (v1 : Int32) : wpX_neighbour (fun r => wpY_neighbour (fun r' => r' = r ∧ i_Rel (k + 4) u v) v v1) u v1 := by
  refine zz_el (P := fun u v => wpX_neighbour (fun r => wpY_neighbour (fun r' => r' = r ∧ i_Rel (k + 4) u v) v v1) u v1) ?_ I
  intro f_size f_solid f_edges f_treeEdges a_used a_px a_py a_alive a_corner a_across a_bad a_startsAt a_endsAt a_edgeU a_edgeV a_edgeLen a_treeU a_treeV a_treeLen a_leader a_order a_mark a_way R
  have R' := R
  obtain ⟨Bd, N, hs, _, hsol, ⟨m, em, G⟩, _⟩ := R
  subst em
  have hU : ∀ i, us_ a_used i → i < 24 := fun i h => h.1
  unfold wpX_neighbour wpY_neighbour
  dsimp only
  refine xw_noPoint (fun w => br_f (by decide) (yw_is (fun _ => br_t rfl ⟨rfl, zz_mk R'⟩) (fun i hi e ui => absurd (w i hi e) ui))) (fun a ha e ua => br_t rfl ?_)
  subst e
  have sa : us_ a_used a := ⟨ha, ua⟩
  have nbU : ∀ o, nb_ a_edgeU a_edgeV m a o → o < 24 → us_ a_used o ∧ o ≠ a := by
    intro o ⟨i, hi, hh⟩ lo
    obtain ⟨_, Q, E, g1, _, _⟩ := G
    obtain ⟨p, q, e1, e2, l1, l2, pq, _⟩ := E.1 i hi
    have g := g1 p q pq
    rw [e1, e2, nI_ne (by omega) (by omega), nI_ne (by omega) (by omega), nI_ne (by omega) (by omega), nI_ne (by omega) (by omega)] at hh
    rcases hh with hh | hh
    · rw [← hh.2]; exact ⟨g.2.1, fun z => g.2.2 (hh.1.trans z.symm)⟩
    · rw [← hh.1]; exact ⟨g.1, fun z => g.2.2 (z.trans hh.2.symm)⟩
  refine xw_neigh Bd hU G sa (fun w => ?_) (fun r ur ra hr => ?_)
  · refine yw_is (fun w2 => absurd (w2 a ha rfl) ua) (fun _ _ _ _ => br_f (by decide) (yw_neigh Bd sa (fun _ => ⟨rfl, zz_mk R'⟩) (fun r ur ra h1 h2 => ?_)))
    exact absurd (nb_K G sa ur (fun e => ra e.symm) (ln_nb N sa ur (fun e => ra e.symm) h1)) (w r ur)
  · refine yw_is (fun w2 => absurd (w2 a ha rfl) ua) (fun _ _ _ _ => br_f (by decide) (yw_neigh Bd sa (fun w => absurd (w r ur) ra) (fun r' ur' ra' h1 h2 => ⟨?_, zz_mk R'⟩)))
    have nb := nb_K G sa ur' (fun e => ra' e.symm) (ln_nb N sa ur' (fun e => ra' e.symm) h1)
    have q1 := hr r' ur' nb
    have q2 := h1 r ur ra
    have e : r' = r := by
      by_cases z : r < r'
      · have := h2 r z ur ra
        omega
      · omega
    rw [e]
theorem ge_coG {x y : Nat → Int} {U : Nat → Prop} (co : co_ x y U) {a b : Nat} (ua : U a) (ub : U b) : ln_K x y U a b ↔ ln_G x y U a b :=
  ⟨fun h c uc ca cb => h.1 c uc ca cb (co a b c ua ub uc), ln_GK⟩
theorem i_vc_linked {k : Nat} {u : SX} {v : SY} (I : i_Rel k u v) (hk : k + 4 ≤ 2048) (v1 : Int32) (v2 : Int32) : wpX_linked (fun r => wpY_linked (fun r' => r' = r ∧ i_Rel (k + 4) u v) v v1 v2) u v1 v2 := by
  refine zz_el (P := fun u v => wpX_linked (fun r => wpY_linked (fun r' => r' = r ∧ i_Rel (k + 4) u v) v v1 v2) u v1 v2) ?_ I
  intro f_size f_solid f_edges f_treeEdges a_used a_px a_py a_alive a_corner a_across a_bad a_startsAt a_endsAt a_edgeU a_edgeV a_edgeLen a_treeU a_treeV a_treeLen a_leader a_order a_mark a_way R
  have R' := R
  obtain ⟨Bd, N, hs, _, hsol, ⟨m, em, G⟩, _⟩ := R
  subst em
  have hU : ∀ i, us_ a_used i → i < 24 := fun i h => h.1
  unfold wpX_linked
  dsimp only
  have Y0 : (v1 = v2 ∨ (∀ i, i < 24 → v1 = nI i → a_used i = 0) ∨ (∀ i, i < 24 → v2 = nI i → a_used i = 0)) → wpY_linked (fun r' => r' = (0 : Int32) ∧ i_Rel (k + 4) (f_size, f_solid, nI m, f_treeEdges, a_used, a_px, a_py, a_alive, a_corner, a_across, a_bad, a_startsAt, a_endsAt, a_edgeU, a_edgeV, a_edgeLen, a_treeU, a_treeV, a_treeLen, a_leader, a_order, a_mark) (a_used, a_px, a_py, a_way)) (a_used, a_px, a_py, a_way) v1 v2 := by
    intro w
    unfold wpY_linked
    dsimp only
    refine yw_is (fun _ => br_t rfl ⟨rfl, zz_mk R'⟩) (fun i hi e ui => br_f (by decide) (yw_is (fun _ => br_t rfl ⟨rfl, zz_mk R'⟩) (fun j hj e2 uj => br_f (by decide) (br_c (fun _ => ⟨rfl, zz_mk R'⟩) (fun ne => ?_)))))
    rcases w with w | w | w
    · exact absurd w ne
    · exact absurd (w i hi e) ui
    · exact absurd (w j hj e2) uj
  refine br_c (fun z => Y0 (Or.inl z)) (fun z => xw_noPoint (fun w => br_f (by decide) (Y0 (Or.inr (Or.inl w)))) (fun a ha e ua => br_t rfl (xw_noPoint (fun w => br_f (by decide) (Y0 (Or.inr (Or.inr w)))) (fun b hb e2 ub => br_t rfl ?_))))
  subst e e2
  have sa : us_ a_used a := ⟨ha, ua⟩
  have sb : us_ a_used b := ⟨hb, ub⟩
  have ab : a ≠ b := fun q => z (by rw [q])
  have Y : ∀ (post : Int32 → Prop), (ln_K (xi_ a_px) (xi_ a_py) (us_ a_used) a b → post 1) → (¬ ln_K (xi_ a_px) (xi_ a_py) (us_ a_used) a b → post 0) → wpY_linked post (a_used, a_px, a_py, a_way) (nI a) (nI b) := by
    intro post p1 p0
    unfold wpY_linked
    dsimp only
    exact yw_is (fun w => absurd (w a ha rfl) ua) (fun _ _ _ _ => br_f (by decide) (yw_is (fun w => absurd (w b hb rfl) ub) (fun _ _ _ _ => br_f (by decide) (br_f z (yw_linked Bd ha hb p1 p0)))))
  have Y1 : ln_K (xi_ a_px) (xi_ a_py) (us_ a_used) a b → wpY_linked (fun r' => r' = (1 : Int32) ∧ i_Rel (k + 4) (f_size, f_solid, nI m, f_treeEdges, a_used, a_px, a_py, a_alive, a_corner, a_across, a_bad, a_startsAt, a_endsAt, a_edgeU, a_edgeV, a_edgeLen, a_treeU, a_treeV, a_treeLen, a_leader, a_order, a_mark) (a_used, a_px, a_py, a_way)) (a_used, a_px, a_py, a_way) (nI a) (nI b) := fun h => Y _ (fun _ => ⟨rfl, zz_mk R'⟩) (fun n => absurd h n)
  have Yn : ¬ ln_K (xi_ a_px) (xi_ a_py) (us_ a_used) a b → wpY_linked (fun r' => r' = (0 : Int32) ∧ i_Rel (k + 4) (f_size, f_solid, nI m, f_treeEdges, a_used, a_px, a_py, a_alive, a_corner, a_across, a_bad, a_startsAt, a_endsAt, a_edgeU, a_edgeV, a_edgeLen, a_treeU, a_treeV, a_treeLen, a_leader, a_order, a_mark) (a_used, a_px, a_py, a_way)) (a_used, a_px, a_py, a_way) (nI a) (nI b) := fun h => Y _ (fun n => absurd n h) (fun _ => ⟨rfl, zz_mk R'⟩)
  rcases hsol with ⟨s0, co⟩ | ⟨s1, T⟩
  · subst s0
    refine br_t rfl (xw_joined hU G sa sb (fun nb => ⟨narrow_b1, Y1 ?_⟩) (fun nb => ⟨narrow_b0, Yn (fun h => nb (nb_K G sa sb ab h))⟩))
    obtain ⟨_, Q, E, g1, g2, g3⟩ := G
    obtain ⟨i, hi, hh⟩ := nb
    obtain ⟨p, q, e1, e2, l1, l2, pq, _⟩ := E.1 i hi
    have g := g3 rfl p q pq
    rw [e1, e2, nI_ne (by omega) (by omega), nI_ne (by omega) (by omega), nI_ne (by omega) (by omega), nI_ne (by omega) (by omega)] at hh
    rcases hh with hh | hh
    · rw [← hh.1, ← hh.2]; exact g
    · rw [← hh.1, ← hh.2]; exact ln_sym g
  · subst s1
    have T' := T
    obtain ⟨T1, rc, ra⟩ := T
    obtain ⟨w, W, s1, s2, s3, P, O⟩ := T1
    refine br_f (by decide) (xw_edgeCell rc (by omega) (by omega) (fun e he ae c1 c2 => br_f (nI_pos (by omega)) ?_) (fun no => br_t (by decide) (Yn (fun h => ?_))))
    · refine xw_firm T' he ae (by omega) (by omega) (fun h => br_f (by decide) (Y1 ?_)) (fun h => br_t rfl (Yn ?_))
      · rw [c1, c2] at h; exact h
      · rw [c1, c2] at h; exact h
    · obtain ⟨c, F⟩ := fa_K P sa sb ab h
      obtain ⟨e, he, ae, e1, e2, _⟩ := O.2.1 a b c F
      exact no e he ae e1 e2
section
variable {f_size f_solid f_edges f_treeEdges : Int32} {a_used a_px a_py a_alive a_corner a_across a_bad a_startsAt a_endsAt a_edgeU a_edgeV a_edgeLen a_treeU a_treeV a_treeLen a_leader a_order a_mark : Nat → Int32} {post : Int32 → Prop}
theorem xw_offD {a b c : Nat} (Bd : ge_Bd (xi_ a_px) (xi_ a_py)) (la : a < 24) (lb : b < 24) (lc : c < 25) (h1 : (c = 24 ∨ 0 < ge_D (xi_ a_px) (xi_ a_py) a b c) → post 1) (h0 : ¬ (c = 24 ∨ 0 < ge_D (xi_ a_px) (xi_ a_py) a b c) → post 0) : wpX_offDiameter post (f_size, f_solid, f_edges, f_treeEdges, a_used, a_px, a_py, a_alive, a_corner, a_across, a_bad, a_startsAt, a_endsAt, a_edgeU, a_edgeV, a_edgeLen, a_treeU, a_treeV, a_treeLen, a_leader, a_order, a_mark) (nI a) (nI b) (nI c) := by
  unfold wpX_offDiameter
  dsimp only
  refine pk_eq c 24 (fun z => h1 (Or.inl z)) (fun z => ?_)
  have lc' : c < 24 := by omega
  refine xw_dist la lc' (xw_dist lb lc' (xw_dist la lb ?_))
  have e1 := s32_i Bd la lc'
  have e2 := s32_i Bd lb lc'
  have e3 := s32_i Bd la lb
  have b1 := ge_Sb Bd la lc'
  have b2 := ge_Sb Bd lb lc'
  have sm := ge_S2 (xi_ a_px) (xi_ a_py) a b c
  have q1 := ge_Sc (xi_ a_px) (xi_ a_py) a c
  have q2 := ge_Sc (xi_ a_px) (xi_ a_py) b c
  have ea : (s32_ a_px a_py a c + s32_ a_px a_py b c).toInt = ge_S (xi_ a_px) (xi_ a_py) a c + ge_S (xi_ a_px) (xi_ a_py) b c := by
    rw [ar_add, e1, e2]
    · rw [e1, e2]; omega
    · rw [e1, e2]; omega
  refine br_c (fun g => h0 ?_) (fun g => h1 (Or.inr ?_))
  · rw [Int32.le_iff_toInt_le, e3, ea] at g
    omega
  · rw [Int32.le_iff_toInt_le, e3, ea] at g
    omega
end
theorem i_vc_close {k : Nat} {u : SX} {v : SY} (I : i_Rel k u v) (hk : k + 4 ≤ 2048) (v1 : Int32) (v2 : Int32) : wpX_close (fun r => wpY_close (fun r' => r' = r ∧ i_Rel (k + 4) u v) v v1 v2) u v1 v2 := by
  refine zz_el (P := fun u v => wpX_close (fun r => wpY_close (fun r' => r' = r ∧ i_Rel (k + 4) u v) v v1 v2) u v1 v2) ?_ I
  intro f_size f_solid f_edges f_treeEdges a_used a_px a_py a_alive a_corner a_across a_bad a_startsAt a_endsAt a_edgeU a_edgeV a_edgeLen a_treeU a_treeV a_treeLen a_leader a_order a_mark a_way R
  have R' := R
  obtain ⟨Bd, N, hs, _, hsol, ⟨m, em, G⟩, _⟩ := R
  subst em
  have hU : ∀ i, us_ a_used i → i < 24 := fun i h => h.1
  unfold wpX_close
  dsimp only
  have Y0 : (v1 = v2 ∨ (∀ i, i < 24 → v1 = nI i → a_used i = 0) ∨ (∀ i, i < 24 → v2 = nI i → a_used i = 0)) → wpY_close (fun r' => r' = (0 : Int32) ∧ i_Rel (k + 4) (f_size, f_solid, nI m, f_treeEdges, a_used, a_px, a_py, a_alive, a_corner, a_across, a_bad, a_startsAt, a_endsAt, a_edgeU, a_edgeV, a_edgeLen, a_treeU, a_treeV, a_treeLen, a_leader, a_order, a_mark) (a_used, a_px, a_py, a_way)) (a_used, a_px, a_py, a_way) v1 v2 := by
    intro w
    unfold wpY_close
    dsimp only
    refine yw_is (fun _ => br_t rfl ⟨rfl, zz_mk R'⟩) (fun i hi e ui => br_f (by decide) (yw_is (fun _ => br_t rfl ⟨rfl, zz_mk R'⟩) (fun j hj e2 uj => br_f (by decide) (br_c (fun _ => ⟨rfl, zz_mk R'⟩) (fun ne => ?_)))))
    rcases w with w | w | w
    · exact absurd w ne
    · exact absurd (w i hi e) ui
    · exact absurd (w j hj e2) uj
  refine br_c (fun z => Y0 (Or.inl z)) (fun z => xw_noPoint (fun w => br_f (by decide) (Y0 (Or.inr (Or.inl w)))) (fun a ha e ua => br_t rfl (xw_noPoint (fun w => br_f (by decide) (Y0 (Or.inr (Or.inr w)))) (fun b hb e2 ub => br_t rfl ?_))))
  subst e e2
  have sa : us_ a_used a := ⟨ha, ua⟩
  have sb : us_ a_used b := ⟨hb, ub⟩
  have ab : a ≠ b := fun q => z (by rw [q])
  have Y : ∀ (post : Int32 → Prop), (ln_G (xi_ a_px) (xi_ a_py) (us_ a_used) a b → post 1) → (¬ ln_G (xi_ a_px) (xi_ a_py) (us_ a_used) a b → post 0) → wpY_close post (a_used, a_px, a_py, a_way) (nI a) (nI b) := by
    intro post p1 p0
    unfold wpY_close
    dsimp only
    exact yw_is (fun w => absurd (w a ha rfl) ua) (fun _ _ _ _ => br_f (by decide) (yw_is (fun w => absurd (w b hb rfl) ub) (fun _ _ _ _ => br_f (by decide) (br_f z (yw_close Bd ha hb p1 p0)))))
  have Y1 : ln_G (xi_ a_px) (xi_ a_py) (us_ a_used) a b → wpY_close (fun r' => r' = (1 : Int32) ∧ i_Rel (k + 4) (f_size, f_solid, nI m, f_treeEdges, a_used, a_px, a_py, a_alive, a_corner, a_across, a_bad, a_startsAt, a_endsAt, a_edgeU, a_edgeV, a_edgeLen, a_treeU, a_treeV, a_treeLen, a_leader, a_order, a_mark) (a_used, a_px, a_py, a_way)) (a_used, a_px, a_py, a_way) (nI a) (nI b) := fun h => Y _ (fun _ => ⟨rfl, zz_mk R'⟩) (fun n => absurd h n)
  have Yn : ¬ ln_G (xi_ a_px) (xi_ a_py) (us_ a_used) a b → wpY_close (fun r' => r' = (0 : Int32) ∧ i_Rel (k + 4) (f_size, f_solid, nI m, f_treeEdges, a_used, a_px, a_py, a_alive, a_corner, a_across, a_bad, a_startsAt, a_endsAt, a_edgeU, a_edgeV, a_edgeLen, a_treeU, a_treeV, a_treeLen, a_leader, a_order, a_mark) (a_used, a_px, a_py, a_way)) (a_used, a_px, a_py, a_way) (nI a) (nI b) := fun h => Y _ (fun n => absurd n h) (fun _ => ⟨rfl, zz_mk R'⟩)
  rcases hsol with ⟨s0, co⟩ | ⟨s1, T⟩
  · subst s0
    refine br_t rfl (xw_joined hU G sa sb (fun nb => ⟨narrow_b1, Y1 ((ge_coG co sa sb).mp ?_)⟩) (fun nb => ⟨narrow_b0, Yn (fun h => nb (nb_K G sa sb ab (ln_GK h)))⟩))
    obtain ⟨_, Q, E, g1, g2, g3⟩ := G
    obtain ⟨i, hi, hh⟩ := nb
    obtain ⟨p, q, e1, e2, l1, l2, pq, _⟩ := E.1 i hi
    have g := g3 rfl p q pq
    rw [e1, e2, nI_ne (by omega) (by omega), nI_ne (by omega) (by omega), nI_ne (by omega) (by omega), nI_ne (by omega) (by omega)] at hh
    rcases hh with hh | hh
    · rw [← hh.1, ← hh.2]; exact g
    · rw [← hh.1, ← hh.2]; exact ln_sym g
  · subst s1
    obtain ⟨T1, rc, ra⟩ := T
    obtain ⟨w, W, s1, s2, s3, P, O⟩ := T1
    have none : (∀ e, e < 216 → ¬ a_alive (e / 3) = 0 → cn_ a_corner e = a → cn_ a_corner (nx_ e) = b → False) → ¬ ln_G (xi_ a_px) (xi_ a_py) (us_ a_used) a b := by
      intro no h
      obtain ⟨c, F⟩ := fa_K P sa sb ab (ln_GK h)
      obtain ⟨e, he, ae, e1, e2, _⟩ := O.2.1 a b c F
      exact no e he ae e1 e2
    have none' : (∀ e, e < 216 → ¬ a_alive (e / 3) = 0 → cn_ a_corner e = b → cn_ a_corner (nx_ e) = a → False) → ¬ ln_G (xi_ a_px) (xi_ a_py) (us_ a_used) a b := by
      intro no h
      obtain ⟨c, F⟩ := fa_K P sb sa (fun q => ab q.symm) (ln_sym (ln_GK h))
      obtain ⟨e, he, ae, e1, e2, _⟩ := O.2.1 b a c F
      exact no e he ae e1 e2
    refine br_f (by decide) (xw_edgeCell rc (by omega) (by omega) (fun e he ae c1 c2 => br_t (nI_pos' (by omega)) (xw_edgeCell rc (by omega) (by omega) (fun f hf af d1 d2 => br_t (nI_pos' (by omega)) ?_) (fun no => br_f (by decide) (Yn (none' no))))) (fun no => br_f (by decide) (Yn (none no))))
    have F := O.1 e he ae
    have G2 := O.1 f hf af
    rw [c1, c2] at F
    rw [d1, d2] at G2
    have l1 := rc _ (nx_lt (nx_lt he))
    have l2 := rc _ (nx_lt (nx_lt hf))
    have dd := fa_disc P F G2 (by omega) (by omega)
    exact xw_facing he l1.1 (xw_facing hf l2.1 (xw_offD Bd ha hb l1.2 (fun q1 => br_f (by decide) (xw_offD Bd ha hb l2.2 (fun q2 => br_f (by decide) (Y1 (dd.mpr ⟨q1, q2⟩))) (fun q2 => br_t rfl (Yn (fun h => q2 (dd.mp h).2))))) (fun q1 => br_t rfl (Yn (fun h => q1 (dd.mp h).1)))))
end
section
/-! the owed statements about empty circles and the hull -/
def em_ (x y : Nat → Int) (U : Nat → Prop) (a b c : Nat) : Prop := ∀ d, U d → d ≠ a → d ≠ b → d ≠ c → ge_ic x y a b c d < 0
theorem em_r {x y : Nat → Int} {U : Nat → Prop} {a b c : Nat} (h : em_ x y U a b c) : em_ x y U b c a := fun d ud d1 d2 d3 => by
  rw [ge_icr]; exact h d ud d3 d1 d2
section
variable {f_size f_solid f_edges f_treeEdges : Int32} {a_used a_px a_py a_alive a_corner a_across a_bad a_startsAt a_endsAt a_edgeU a_edgeV a_edgeLen a_treeU a_treeV a_treeLen a_leader a_order a_mark : Nat → Int32} {post : Int32 → Prop}
theorem xw_ec100 {U : Nat → Prop} {e : Nat} (T : tx_Ok a_px a_py a_alive a_corner a_across U) (he : e < 216) (ae : ¬ a_alive (e / 3) = 0) (n1 : cn_ a_corner e ≠ 24) (n2 : cn_ a_corner (nx_ e) ≠ 24) (n3 : cn_ a_corner (nx_ (nx_ e)) ≠ 24)
    (h1 : em_ (xi_ a_px) (xi_ a_py) U (cn_ a_corner e) (cn_ a_corner (nx_ e)) (cn_ a_corner (nx_ (nx_ e))) → post 1) (h0 : ¬ em_ (xi_ a_px) (xi_ a_py) U (cn_ a_corner e) (cn_ a_corner (nx_ e)) (cn_ a_corner (nx_ (nx_ e))) → post 0) : wX_emptyCircle_100 post (nI e) f_size f_solid f_edges f_treeEdges a_used a_px a_py a_alive a_corner a_across a_bad a_startsAt a_endsAt a_edgeU a_edgeV a_edgeLen a_treeU a_treeV a_treeLen a_leader a_order a_mark := by
  have T' := T
  obtain ⟨T1, rc, ra⟩ := T
  obtain ⟨w, W, s1, s2, s3, P, O⟩ := T1
  unfold wX_emptyCircle_100
  rw [i3_d (by omega)]
  refine ⟨by decide, nm_e ?_⟩
  rw [i3_1, i3_2, i3_0]
  have t3 : e / 3 < 72 := by omega
  have F := O.1 (3 * (e / 3)) (by omega) (by rw [show 3 * (e / 3) / 3 = e / 3 by omega]; exact ae)
  have rot : (cn_ a_corner (3 * (e / 3)) ≠ 24 ∧ cn_ a_corner (3 * (e / 3) + 1) ≠ 24 ∧ cn_ a_corner (3 * (e / 3) + 2) ≠ 24) ∧ (em_ (xi_ a_px) (xi_ a_py) U (cn_ a_corner (3 * (e / 3))) (cn_ a_corner (3 * (e / 3) + 1)) (cn_ a_corner (3 * (e / 3) + 2)) ↔ em_ (xi_ a_px) (xi_ a_py) U (cn_ a_corner e) (cn_ a_corner (nx_ e)) (cn_ a_corner (nx_ (nx_ e)))) := by
    obtain ⟨t, ht, q | q | q⟩ := nx_cs e
    · rw [ht]
      rw [q, nx_0, nx_1] at n3
      rw [q, nx_0] at n2
      rw [q] at n1
      refine ⟨⟨n1, n2, n3⟩, ?_⟩
      rw [q, nx_0, nx_1]
    · rw [ht]
      rw [q, nx_1, nx_2] at n3
      rw [q, nx_1] at n2
      rw [q] at n1
      refine ⟨⟨n3, n1, n2⟩, ?_⟩
      rw [q, nx_1, nx_2]
      exact ⟨fun h => em_r h, fun h => em_r (em_r h)⟩
    · rw [ht]
      rw [q, nx_2, nx_0] at n3
      rw [q, nx_2] at n2
      rw [q] at n1
      refine ⟨⟨n2, n3, n1⟩, ?_⟩
      rw [q, nx_2, nx_0]
      exact ⟨fun h => em_r (em_r h), fun h => em_r h⟩
  rw [nx_0, nx_1] at F
  have fc := fa_circ P F rot.1.1 rot.1.2.1 rot.1.2.2
  have a0 : ¬ a_alive (3 * (e / 3) / 3) = 0 := by rw [show 3 * (e / 3) / 3 = e / 3 by omega]; exact ae
  have a1 : ¬ a_alive ((3 * (e / 3) + 1) / 3) = 0 := by rw [show (3 * (e / 3) + 1) / 3 = e / 3 by omega]; exact ae
  have a2 : ¬ a_alive ((3 * (e / 3) + 2) / 3) = 0 := by rw [show (3 * (e / 3) + 2) / 3 = e / 3 by omega]; exact ae
  refine xw_firm T' (by omega) a0 rot.1.1 (by rw [nx_0]; exact rot.1.2.1) (fun k1 => br_f (by decide) (xw_firm T' (by omega) a1 rot.1.2.1 (by rw [nx_1]; exact rot.1.2.2) (fun k2 => br_f (by decide) (xw_firm T' (by omega) a2 rot.1.2.2 (by rw [nx_2]; exact rot.1.1) (fun k3 => br_f (by decide) (h1 (rot.2.mp (fc.mpr ?_)))) (fun k3 => br_t rfl (h0 (fun h => k3 ?_))))) (fun k2 => br_t rfl (h0 (fun h => k2 ?_))))) (fun k1 => br_t rfl (h0 (fun h => k1 ?_)))
  · rw [nx_0] at k1
    rw [nx_1] at k2
    rw [nx_2] at k3
    exact ⟨k1, k2, k3⟩
  · rw [nx_2]; exact (fc.mp (rot.2.mpr h)).2.2
  · rw [nx_1]; exact (fc.mp (rot.2.mpr h)).2.1
  · rw [nx_0]; exact (fc.mp (rot.2.mpr h)).1
end
theorem i_vc_emptyCircle {k : Nat} {u : SX} {v : SY} (I : i_Rel k u v) (hk : k + 4 ≤ 2048) (v1 : Int32) (v2 : Int32) (v3 : Int32) : wpX_emptyCircle (fun r => wpY_emptyCircle (fun r' => r' = r ∧ i_Rel (k + 4) u v) v v1 v2 v3) u v1 v2 v3 := by
  refine zz_el (P := fun u v => wpX_emptyCircle (fun r => wpY_emptyCircle (fun r' => r' = r ∧ i_Rel (k + 4) u v) v v1 v2 v3) u v1 v2 v3) ?_ I
  intro f_size f_solid f_edges f_treeEdges a_used a_px a_py a_alive a_corner a_across a_bad a_startsAt a_endsAt a_edgeU a_edgeV a_edgeLen a_treeU a_treeV a_treeLen a_leader a_order a_mark a_way R
  have R' := R
  obtain ⟨Bd, N, hs, _, hsol, _, _⟩ := R
  have hU : ∀ i, us_ a_used i → i < 24 := fun i h => h.1
  unfold wpX_emptyCircle
  dsimp only
  -- the reference, at any end
  have Y : ∀ (post : Int32 → Prop), post 0 → (∀ a b c, a < 24 → b < 24 → c < 24 → v1 = nI a → v2 = nI b → v3 = nI c → ¬ a_used a = 0 → ¬ a_used b = 0 → ¬ a_used c = 0 → a ≠ b → a ≠ c → b ≠ c → ge_T (xi_ a_px) (xi_ a_py) a b c ≠ 0 → (∀ d, us_ a_used d → d ≠ a → d ≠ b → d ≠ c → ge_ic (xi_ a_px) (xi_ a_py) a b c d * ge_T (xi_ a_px) (xi_ a_py) a b c < 0) → post 1) →
      wpY_emptyCircle post (a_used, a_px, a_py, a_way) v1 v2 v3 := by
    intro post p0 p1
    unfold wpY_emptyCircle
    dsimp only
    refine yw_is (fun _ => br_t rfl p0) (fun a ha e1 ua => br_f (by decide) (yw_is (fun _ => br_t rfl p0) (fun b hb e2 ub => br_f (by decide) (yw_is (fun _ => br_t rfl p0) (fun c hc e3 uc => br_f (by decide) ?_)))))
    subst e1 e2 e3
    refine pk_eq a b (fun _ => p0) (fun ab => pk_eq a c (fun _ => p0) (fun ac => pk_eq b c (fun _ => p0) (fun bc => yw_turn ha hb hc (br_c (fun _ => p0) (fun g => yw_empty Bd ha hb hc (fun k => p1 a b c ha hb hc rfl rfl rfl ua ub uc ab ac bc ?_ k) (fun _ => p0))))))
    rw [i_eq0, t32_i Bd ha hb hc] at g
    exact g
  have Y0 : (∀ a b c, a < 24 → b < 24 → c < 24 → v1 = nI a → v2 = nI b → v3 = nI c → ¬ a_used a = 0 → ¬ a_used b = 0 → ¬ a_used c = 0 → a ≠ b → a ≠ c → b ≠ c → ge_T (xi_ a_px) (xi_ a_py) a b c ≠ 0 → (∀ d, us_ a_used d → d ≠ a → d ≠ b → d ≠ c → ge_ic (xi_ a_px) (xi_ a_py) a b c d * ge_T (xi_ a_px) (xi_ a_py) a b c < 0) → False) →
      wpY_emptyCircle (fun r' => r' = (0 : Int32) ∧ i_Rel (k + 4) (f_size, f_solid, f_edges, f_treeEdges, a_used, a_px, a_py, a_alive, a_corner, a_across, a_bad, a_startsAt, a_endsAt, a_edgeU, a_edgeV, a_edgeLen, a_treeU, a_treeV, a_treeLen, a_leader, a_order, a_mark) (a_used, a_px, a_py, a_way)) (a_used, a_px, a_py, a_way) v1 v2 v3 := fun h => Y _ ⟨rfl, zz_mk R'⟩ (fun a b c h1 h2 h3 h4 h5 h6 h7 h8 h9 h10 h11 h12 h13 h14 => (h a b c h1 h2 h3 h4 h5 h6 h7 h8 h9 h10 h11 h12 h13 h14).elim)
  refine xw_noPoint (fun w => br_f (by decide) (Y0 (fun a b c ha _ _ e _ _ ua _ _ _ _ _ _ _ => ua (w a ha e)))) (fun a ha e1 ua => br_t rfl (xw_noPoint (fun w => br_f (by decide) (Y0 (fun a b c _ hb _ _ e _ _ ub _ _ _ _ _ _ => ub (w b hb e)))) (fun b hb e2 ub => br_t rfl (xw_noPoint (fun w => br_f (by decide) (Y0 (fun a b c _ _ hc _ _ e _ _ uc _ _ _ _ _ => uc (w c hc e)))) (fun c hc e3 uc => br_t rfl ?_)))))
  subst e1 e2 e3
  have sa : us_ a_used a := ⟨ha, ua⟩
  have sb : us_ a_used b := ⟨hb, ub⟩
  have sc : us_ a_used c := ⟨hc, uc⟩
  -- the same three names
  have same : ∀ {p q : Nat}, p < 24 → q < 24 → nI p = nI q → q = p := fun hp hq e => ((nI_ne (by omega) (by omega)).mp e).symm
  have Z0 : (a = b ∨ a = c ∨ b = c ∨ ge_T (xi_ a_px) (xi_ a_py) a b c = 0 ∨ ¬ (∀ d, us_ a_used d → d ≠ a → d ≠ b → d ≠ c → ge_ic (xi_ a_px) (xi_ a_py) a b c d * ge_T (xi_ a_px) (xi_ a_py) a b c < 0)) → wpY_emptyCircle (fun r' => r' = (0 : Int32) ∧ i_Rel (k + 4) (f_size, f_solid, f_edges, f_treeEdges, a_used, a_px, a_py, a_alive, a_corner, a_across, a_bad, a_startsAt, a_endsAt, a_edgeU, a_edgeV, a_edgeLen, a_treeU, a_treeV, a_treeLen, a_leader, a_order, a_mark) (a_used, a_px, a_py, a_way)) (a_used, a_px, a_py, a_way) (nI a) (nI b) (nI c) := by
    intro h
    refine Y0 (fun a' b' c' h1 h2 h3 h4 h5 h6 _ _ _ g1 g2 g3 g4 g5 => ?_)
    have ea := same ha h1 h4
    have eb := same hb h2 h5
    have ec := same hc h3 h6
    rw [ea, eb] at g1
    rw [ea, ec] at g2
    rw [eb, ec] at g3
    rw [ea, eb, ec] at g4 g5
    rcases h with h | h | h | h | h
    · exact g1 h
    · exact g2 h
    · exact g3 h
    · exact g4 h
    · exact h g5
  refine pk_eq a b (fun q => Z0 (Or.inl q)) (fun ab => pk_eq a c (fun q => Z0 (Or.inr (Or.inl q))) (fun ac => pk_eq b c (fun q => Z0 (Or.inr (Or.inr (Or.inl q)))) (fun bc => ?_)))
  have Z1 : ge_T (xi_ a_px) (xi_ a_py) a b c ≠ 0 → (∀ d, us_ a_used d → d ≠ a → d ≠ b → d ≠ c → ge_ic (xi_ a_px) (xi_ a_py) a b c d * ge_T (xi_ a_px) (xi_ a_py) a b c < 0) → wpY_emptyCircle (fun r' => r' = (1 : Int32) ∧ i_Rel (k + 4) (f_size, f_solid, f_edges, f_treeEdges, a_used, a_px, a_py, a_alive, a_corner, a_across, a_bad, a_startsAt, a_endsAt, a_edgeU, a_edgeV, a_edgeLen, a_treeU, a_treeV, a_treeLen, a_leader, a_order, a_mark) (a_used, a_px, a_py, a_way)) (a_used, a_px, a_py, a_way) (nI a) (nI b) (nI c) := by
    intro t h
    unfold wpY_emptyCircle
    dsimp only
    refine yw_is (fun w => absurd (w a ha rfl) ua) (fun _ _ _ _ => br_f (by decide) (yw_is (fun w => absurd (w b hb rfl) ub) (fun _ _ _ _ => br_f (by decide) (yw_is (fun w => absurd (w c hc rfl) uc) (fun _ _ _ _ => br_f (by decide) (pk_eq a b (fun q => absurd q ab) (fun _ => pk_eq a c (fun q => absurd q ac) (fun _ => pk_eq b c (fun q => absurd q bc) (fun _ => yw_turn ha hb hc (br_f ?_ (yw_empty Bd ha hb hc (fun _ => ⟨rfl, zz_mk R'⟩) (fun n => absurd h n))))))))))))
    rw [i_eq0, t32_i Bd ha hb hc]
    exact t
  rcases hsol with ⟨s0, co⟩ | ⟨s1, T⟩
  · exact br_t s0 (Z0 (Or.inr (Or.inr (Or.inr (Or.inl (co a b c sa sb sc))))))
  · have T' := T
    obtain ⟨T1, rc, ra⟩ := T
    obtain ⟨w, W, t1, t2, t3, P, O⟩ := T1
    have Ax : hu_Ax (ch_X (xi_ a_px) (xi_ a_py) w W t1 t2 t3) := ch_ax
    -- an empty circle is a facet
    have face : ge_T (xi_ a_px) (xi_ a_py) a b c ≠ 0 → (∀ d, us_ a_used d → d ≠ a → d ≠ b → d ≠ c → ge_ic (xi_ a_px) (xi_ a_py) a b c d * ge_T (xi_ a_px) (xi_ a_py) a b c < 0) → hu_F (ch_X (xi_ a_px) (xi_ a_py) w W t1 t2 t3) (fun d => us_ a_used d ∨ d = 24) a b c ∨ hu_F (ch_X (xi_ a_px) (xi_ a_py) w W t1 t2 t3) (fun d => us_ a_used d ∨ d = 24) b a c := by
      intro t h
      by_cases tp : 0 < ge_T (xi_ a_px) (xi_ a_py) a b c
      · left
        refine fa_mk P sa sb sc ab bc ac tp (fun d ud d1 d2 d3 => Int.le_of_lt (fa_lt P sa sb sc ud ?_))
        have := h d ud d1 d2 d3
        rw [Int.mul_comm] at this
        exact sg_pn tp this
      · right
        have e := ge_T12 (xi_ a_px) (xi_ a_py) a b c
        refine fa_mk P sb sa sc (fun q => ab q.symm) ac bc (by omega) (fun d ud d1 d2 d3 => Int.le_of_lt (fa_lt P sb sa sc ud ?_))
        have h1 := h d ud d2 d1 d3
        have e2 := ge_ic12 (xi_ a_px) (xi_ a_py) a b c d
        have : 0 < ge_ic (xi_ a_px) (xi_ a_py) a b c d := by
          by_cases q : 0 < ge_ic (xi_ a_px) (xi_ a_py) a b c d
          · exact q
          · have := Int.mul_nonneg_of_nonpos_of_nonpos (show ge_ic (xi_ a_px) (xi_ a_py) a b c d ≤ 0 by omega) (show ge_T (xi_ a_px) (xi_ a_py) a b c ≤ 0 by omega)
            omega
        omega
    -- what the cells found say
    have fin : ∀ e, e < 216 → ¬ a_alive (e / 3) = 0 → ((cn_ a_corner e = a ∧ cn_ a_corner (nx_ e) = b) ∨ (cn_ a_corner e = b ∧ cn_ a_corner (nx_ e) = a)) → cn_ a_corner (nx_ (nx_ e)) = c → wX_emptyCircle_100 (fun r => wpY_emptyCircle (fun r' => r' = r ∧ i_Rel (k + 4) (f_size, f_solid, f_edges, f_treeEdges, a_used, a_px, a_py, a_alive, a_corner, a_across, a_bad, a_startsAt, a_endsAt, a_edgeU, a_edgeV, a_edgeLen, a_treeU, a_treeV, a_treeLen, a_leader, a_order, a_mark) (a_used, a_px, a_py, a_way)) (a_used, a_px, a_py, a_way) (nI a) (nI b) (nI c)) (nI e) f_size f_solid f_edges f_treeEdges a_used a_px a_py a_alive a_corner a_across a_bad a_startsAt a_endsAt a_edgeU a_edgeV a_edgeLen a_treeU a_treeV a_treeLen a_leader a_order a_mark := by
      intro e he ae h12 h3
      have F := O.1 e he ae
      refine xw_ec100 T' he ae (by omega) (by omega) (by omega) (fun em => ?_) (fun em => ?_)
      · rcases h12 with ⟨q1, q2⟩ | ⟨q1, q2⟩
        · rw [q1, q2, h3] at F em
          have tt := fa_T P F (by omega) (by omega) (by omega)
          exact Z1 (by omega) (fun d ud d1 d2 d3 => Int.mul_neg_of_neg_of_pos (em d ud d1 d2 d3) tt)
        · rw [q1, q2, h3] at F em
          have tt := fa_T P F (by omega) (by omega) (by omega)
          rw [ge_T12] at tt
          refine Z1 (by omega) (fun d ud d1 d2 d3 => ?_)
          have g := em d ud d2 d1 d3
          rw [ge_ic12] at g
          exact Int.mul_neg_of_pos_of_neg (by omega) (by omega)
      · refine Z0 (Or.inr (Or.inr (Or.inr (Or.inr (fun h => em ?_)))))
        rcases h12 with ⟨q1, q2⟩ | ⟨q1, q2⟩
        · rw [q1, q2, h3] at F ⊢
          have tt := fa_T P F (by omega) (by omega) (by omega)
          intro d ud d1 d2 d3
          have g := h d ud d1 d2 d3
          rw [Int.mul_comm] at g
          exact sg_pn tt g
        · rw [q1, q2, h3] at F ⊢
          have tt := fa_T P F (by omega) (by omega) (by omega)
          rw [ge_T12] at tt
          intro d ud d1 d2 d3
          have g := h d ud d2 d1 d3
          rw [ge_ic12]
          by_cases q : 0 < ge_ic (xi_ a_px) (xi_ a_py) a b c d
          · omega
          · have := Int.mul_nonneg_of_nonpos_of_nonpos (show ge_ic (xi_ a_px) (xi_ a_py) a b c d ≤ 0 by omega) (show ge_T (xi_ a_px) (xi_ a_py) a b c ≤ 0 by omega)
            omega
    have nof : ∀ h : ¬ (hu_F (ch_X (xi_ a_px) (xi_ a_py) w W t1 t2 t3) (fun d => us_ a_used d ∨ d = 24) a b c ∨ hu_F (ch_X (xi_ a_px) (xi_ a_py) w W t1 t2 t3) (fun d => us_ a_used d ∨ d = 24) b a c), wpY_emptyCircle (fun r' => r' = (0 : Int32) ∧ i_Rel (k + 4) (f_size, f_solid, f_edges, f_treeEdges, a_used, a_px, a_py, a_alive, a_corner, a_across, a_bad, a_startsAt, a_endsAt, a_edgeU, a_edgeV, a_edgeLen, a_treeU, a_treeV, a_treeLen, a_leader, a_order, a_mark) (a_used, a_px, a_py, a_way)) (a_used, a_px, a_py, a_way) (nI a) (nI b) (nI c) := by
      intro h
      by_cases t : ge_T (xi_ a_px) (xi_ a_py) a b c = 0
      · exact Z0 (Or.inr (Or.inr (Or.inr (Or.inl t))))
      · exact Z0 (Or.inr (Or.inr (Or.inr (Or.inr (fun g => h (face t g))))))
    have cellof : ∀ p q r, hu_F (ch_X (xi_ a_px) (xi_ a_py) w W t1 t2 t3) (fun d => us_ a_used d ∨ d = 24) p q r → ∃ e, e < 216 ∧ ¬ a_alive (e / 3) = 0 ∧ cn_ a_corner e = p ∧ cn_ a_corner (nx_ e) = q ∧ cn_ a_corner (nx_ (nx_ e)) = r := fun p q r F => O.2.1 p q r F
    refine br_f (by rw [s1]; decide) (xw_edgeCell rc (by omega) (by omega) (fun e he ae c1 c2 => br_t (nI_pos' (by omega)) ?_) (fun no => br_f (by decide) (nof (fun h => ?_))))
    · have l1 := rc _ (nx_lt (nx_lt he))
      have Fe := O.1 e he ae
      rw [c1, c2] at Fe
      refine xw_facing he l1.1 (pk_eq (cn_ a_corner (nx_ (nx_ e))) c (fun q => fin e he ae (Or.inl ⟨c1, c2⟩) q) (fun q => xw_edgeCell rc (by omega) (by omega) (fun f hf af d1 d2 => br_f (nI_pos (by omega)) ?_) (fun no => br_t (by decide) (nof (fun h => ?_)))))
      · have l2 := rc _ (nx_lt (nx_lt hf))
        have Ff := O.1 f hf af
        rw [d1, d2] at Ff
        refine xw_facing hf l2.1 (pk_eq (cn_ a_corner (nx_ (nx_ f))) c (fun q2 => fin f hf af (Or.inr ⟨d1, d2⟩) q2) (fun q2 => nof (fun h => ?_)))
        rcases h with h | h
        · exact q (hu_uniq Ax Fe h)
        · exact q2 (hu_uniq Ax Ff h)
      · rcases h with h | h
        · exact q (hu_uniq Ax Fe h)
        · obtain ⟨f, hf, af, d1, d2, _⟩ := cellof b a c h
          exact no f hf af d1 d2
    · rcases h with h | h
      · obtain ⟨f, hf, af, d1, d2, _⟩ := cellof a b c h
        exact no f hf af d1 d2
      · obtain ⟨d, h2⟩ := fa_rev P h
        obtain ⟨f, hf, af, d1, d2, _⟩ := cellof a b d h2
        exact no f hf af d1 d2
theorem i_vc_onHull {k : Nat} {u : SX} {v : SY} (I : i_Rel k u v) (hk : k + 4 ≤ 2048) (v1 : Int32) : wpX_onHull (fun r => wpY_onHull (fun r' => r' = r ∧ i_Rel (k + 4) u v) v v1) u v1 := by
  refine zz_el (P := fun u v => wpX_onHull (fun r => wpY_onHull (fun r' => r' = r ∧ i_Rel (k + 4) u v) v v1) u v1) ?_ I
  intro f_size f_solid f_edges f_treeEdges a_used a_px a_py a_alive a_corner a_across a_bad a_startsAt a_endsAt a_edgeU a_edgeV a_edgeLen a_treeU a_treeV a_treeLen a_leader a_order a_mark a_way R
  have R' := R
  obtain ⟨Bd, N, hs, _, hsol, _, _⟩ := R
  have hU : ∀ i, us_ a_used i → i < 24 := fun i h => h.1
  have sz := fc_le (us_ a_used) 24
  unfold wpX_onHull wpY_onHull
  dsimp only
  refine xw_noPoint (fun w => br_f (by decide) (yw_is (fun _ => br_t rfl ⟨rfl, zz_mk R'⟩) (fun i hi e ui => absurd (w i hi e) ui))) (fun a ha e ua => br_t rfl ?_)
  subst e
  have sa : us_ a_used a := ⟨ha, ua⟩
  rcases hsol with ⟨s0, co⟩ | ⟨s1, T⟩
  · refine br_t s0 (yw_is (fun w => absurd (w a ha rfl) ua) (fun _ _ _ _ => br_f (by decide) (yw_size (pk_lt 2 (fc_n (us_ a_used) 24) (fun q => yw_onHull Bd sa (fun _ => ⟨rfl, zz_mk R'⟩) (fun n => absurd ?_ n)) (fun _ => ⟨rfl, zz_mk R'⟩)))))
    have fo := fc_out (P := us_ a_used) (k := a) sa 24 ha
    obtain ⟨b, lb, ub, ba⟩ := fc_pos (P := fun i => us_ a_used i ∧ i ≠ a) 24 (by omega)
    exact ⟨b, ub, ba, Or.inl (fun c uc => by rw [co a b c sa ub uc]; exact Int.le_refl 0)⟩
  · obtain ⟨T1, rc, ra⟩ := T
    obtain ⟨w, W, t1, t2, t3, P, O⟩ := T1
    have Ax : hu_Ax (ch_X (xi_ a_px) (xi_ a_py) w W t1 t2 t3) := ch_ax
    have big : 2 < fc_n (us_ a_used) 24 := by
      obtain ⟨u1, u2, u3, ts⟩ := P.2.2.2.2.2
      have d1 : t1 ≠ t2 := fun e => ts (by rw [e]; exact ge_Tz1 _ _ _ _)
      have d2 : t2 ≠ t3 := fun e => ts (by rw [e]; exact ge_Tz2 _ _ _ _)
      have d3 : t1 ≠ t3 := fun e => ts (by rw [← e]; exact ge_Tz3 _ _ _ _)
      have f1 := fc_out (P := us_ a_used) (k := t1) u1 24 u1.1
      have f2 := fc_out (P := fun i => us_ a_used i ∧ i ≠ t1) (k := t2) ⟨u2, fun e => d1 e.symm⟩ 24 u2.1
      have f3 := fc_out (P := fun i => (us_ a_used i ∧ i ≠ t1) ∧ i ≠ t2) (k := t3) ⟨⟨u3, fun e => d3 e.symm⟩, fun e => d2 e.symm⟩ 24 u3.1
      omega
    have fh := fa_hull P sa
    have Y : ∀ (post : Int32 → Prop), ((∃ b, hu_F (ch_X (xi_ a_px) (xi_ a_py) w W t1 t2 t3) (fun d => us_ a_used d ∨ d = 24) b a 24) → post 1) → (¬ (∃ b, hu_F (ch_X (xi_ a_px) (xi_ a_py) w W t1 t2 t3) (fun d => us_ a_used d ∨ d = 24) b a 24) → post 0) →
        wpY_is (fun r_1 => (((r_1 = 0 → (post 0)) ∧ (¬ r_1 = 0 → (wpY_size (fun r_7 => (((2 < r_7 → (∃ n22 : Nat, wY_onHull_22 post (nI a) a_used a_px a_py a_way n22 0)) ∧ (¬ 2 < r_7 → (post 1))))) (a_used, a_px, a_py, a_way)))))) (a_used, a_px, a_py, a_way) (nI a) := by
      intro post p1 p0
      refine yw_is (fun w => absurd (w a ha rfl) ua) (fun _ _ _ _ => br_f (by decide) (yw_size (pk_lt 2 (fc_n (us_ a_used) 24) (fun q => yw_onHull Bd sa (fun h => p1 (fh.mpr h)) (fun h => p0 (fun g => h (fh.mp g)))) (fun q => by omega))))
    refine br_f (by rw [s1]; decide) (xw_edgeCell (b := 24) rc (by omega) (by omega) (fun e he ae c1 c2 => br_f (nI_pos (by omega)) (Y (fun r' => r' = (1 : Int32) ∧ i_Rel (k + 4) (f_size, f_solid, f_edges, f_treeEdges, a_used, a_px, a_py, a_alive, a_corner, a_across, a_bad, a_startsAt, a_endsAt, a_edgeU, a_edgeV, a_edgeLen, a_treeU, a_treeV, a_treeLen, a_leader, a_order, a_mark) (a_used, a_px, a_py, a_way)) (fun _ => ⟨rfl, zz_mk R'⟩) (fun n => absurd ?_ n))) (fun no => br_t (by decide) (Y (fun r' => r' = (0 : Int32) ∧ i_Rel (k + 4) (f_size, f_solid, f_edges, f_treeEdges, a_used, a_px, a_py, a_alive, a_corner, a_across, a_bad, a_startsAt, a_endsAt, a_edgeU, a_edgeV, a_edgeLen, a_treeU, a_treeV, a_treeLen, a_leader, a_order, a_mark) (a_used, a_px, a_py, a_way)) (fun h => absurd h ?_) (fun _ => ⟨rfl, zz_mk R'⟩))))
    · have F := O.1 e he ae
      rw [c1, c2] at F
      exact ⟨_, hu_rot Ax (hu_rot Ax F)⟩
    · intro ⟨b, F⟩
      obtain ⟨f, hf, af, d1, d2, _⟩ := O.2.1 _ _ _ (hu_rot Ax F)
      exact no f hf af d1 d2
end
section
/-! sums over pairs -/
noncomputable def ib_ (p : Prop) (v : Int) : Int := @ite Int p (Classical.propDecidable p) v 0
theorem ib_t {p : Prop} {v : Int} (h : p) : ib_ p v = v := if_pos h
theorem ib_f {p : Prop} {v : Int} (h : ¬ p) : ib_ p v = 0 := if_neg h
theorem ib_i {p q : Prop} {v : Int} (h : p ↔ q) : ib_ p v = ib_ q v := by
  have e : p = q := propext h
  rw [e]
theorem ib_n {p : Prop} {v : Int} : ib_ p (-v) = -ib_ p v := by
  by_cases h : p
  · rw [ib_t h, ib_t h]
  · rw [ib_f h, ib_f h]; rfl
theorem sm_z {f : Nat → Int} : ∀ n, (∀ i, i < n → f i = 0) → sm_ f n = 0 := by
  intro n
  induction n with
  | zero => intro _; rfl
  | succ n ih =>
    intro h
    show sm_ f n + f n = 0
    rw [ih (fun i hi => h i (by omega)), h n (by omega)]
    rfl
theorem sm_n {f : Nat → Int} : ∀ n, sm_ (fun i => -f i) n = -sm_ f n := by
  intro n
  induction n with
  | zero => rfl
  | succ n ih =>
    show sm_ (fun i => -f i) n + -f n = -(sm_ f n + f n)
    rw [ih]
    omega
theorem sm_s {f g : Nat → Int} : ∀ n, sm_ (fun i => f i - g i) n = sm_ f n - sm_ g n := by
  intro n
  induction n with
  | zero => rfl
  | succ n ih =>
    show sm_ (fun i => f i - g i) n + (f n - g n) = sm_ f n + f n - (sm_ g n + g n)
    rw [ih]
    omega
theorem sm_1 {f : Nat → Int} {k : Nat} : ∀ n, k < n → (∀ i, i < n → i ≠ k → f i = 0) → sm_ f n = f k := by
  intro n
  induction n with
  | zero => intro h; omega
  | succ n ih =>
    intro hk h
    show sm_ f n + f n = f k
    by_cases e : k = n
    · subst e
      rw [sm_z k (fun i hi => h i (by omega) (by omega))]
      omega
    · rw [ih (by omega) (fun i hi => h i (by omega)), h n (by omega) (fun q => e q.symm)]
      omega
theorem sm_w {f : Nat → Nat → Int} {m : Nat} : ∀ n, sm_ (fun a => sm_ (fun b => f a b) m) n = sm_ (fun b => sm_ (fun a => f a b) n) m := by
  intro n
  induction n with
  | zero =>
    show 0 = sm_ (fun b => 0) m
    exact (sm_0 m).symm
  | succ n ih =>
    show sm_ (fun a => sm_ (fun b => f a b) m) n + sm_ (fun b => f n b) m = sm_ (fun b => sm_ (fun a => f a b) n + f n b) m
    rw [ih, sm_a]
theorem sm_3 {f : Nat → Int} : ∀ n, sm_ f (3 * n) = sm_ (fun t => f (3 * t) + f (3 * t + 1) + f (3 * t + 2)) n := by
  intro n
  induction n with
  | zero => rfl
  | succ n ih =>
    show sm_ f (3 * n) + f (3 * n) + f (3 * n + 1) + f (3 * n + 2) = sm_ (fun t => f (3 * t) + f (3 * t + 1) + f (3 * t + 2)) n + (f (3 * n) + f (3 * n + 1) + f (3 * n + 2))
    rw [ih]
    omega
theorem sm_k {f : Nat → Int} (c : Int) : ∀ n, sm_ (fun i => f i * c) n = sm_ f n * c := by
  intro n
  induction n with
  | zero =>
    show (0 : Int) = 0 * c
    rw [Int.zero_mul]
  | succ n ih =>
    show sm_ (fun i => f i * c) n + f n * c = (sm_ f n + f n) * c
    rw [ih, Int.add_mul]
/-- one of a kind -/
theorem sm_u {P : Nat → Prop} {v : Int} {n : Nat} (h : ∀ i j, i < n → j < n → P i → P j → i = j) : sm_ (fun i => ib_ (P i) v) n = ib_ (∃ i, i < n ∧ P i) v := by
  by_cases z : ∃ i, i < n ∧ P i
  · rw [ib_t z]
    obtain ⟨k, hk, pk⟩ := z
    rw [sm_1 (f := fun i => ib_ (P i) v) (k := k) n hk (fun i hi e => ib_f (fun p => e (h i k hi hk p pk)))]
    exact ib_t pk
  · rw [ib_f z]
    exact sm_z n (fun i hi => ib_f (fun p => z ⟨i, hi, p⟩))
def s2_ (f : Nat → Nat → Int) : Int := sm_ (fun a => sm_ (fun b => f a b) 24) 24
theorem s2_c {f g : Nat → Nat → Int} (h : ∀ a b, a < 24 → b < 24 → f a b = g a b) : s2_ f = s2_ g := sm_c 24 (fun a ha => sm_c 24 (fun b hb => h a b ha hb))
theorem s2_a {f g : Nat → Nat → Int} : s2_ (fun a b => f a b + g a b) = s2_ f + s2_ g := by
  unfold s2_
  rw [sm_c (f := fun a => sm_ (fun b => f a b + g a b) 24) (g := fun a => sm_ (fun b => f a b) 24 + sm_ (fun b => g a b) 24) 24 (fun a _ => sm_a 24), sm_a]
theorem s2_s {f g : Nat → Nat → Int} : s2_ (fun a b => f a b - g a b) = s2_ f - s2_ g := by
  unfold s2_
  rw [sm_c (f := fun a => sm_ (fun b => f a b - g a b) 24) (g := fun a => sm_ (fun b => f a b) 24 - sm_ (fun b => g a b) 24) 24 (fun a _ => sm_s 24), sm_s]
/-- what turns its sign sums to nothing -/
theorem s2_0 {f : Nat → Nat → Int} (h : ∀ a b, a < 24 → b < 24 → f b a = -f a b) : s2_ f = 0 := by
  have e : s2_ f = s2_ (fun a b => f b a) := sm_w 24
  have e2 : s2_ (fun a b => f b a) = -s2_ f := by
    rw [s2_c (f := fun a b => f b a) (g := fun a b => -f a b) h]
    unfold s2_
    rw [sm_c (f := fun a => sm_ (fun b => -f a b) 24) (g := fun a => -sm_ (fun b => f a b) 24) 24 (fun a _ => sm_n 24), sm_n]
  omega
/-- cells with their ends -/
theorem s2_cell {C D : Nat → Nat} {R : Nat → Prop} {g : Nat → Nat → Int} {n : Nat} (hR : ∀ e, e < n → R e → C e < 24 ∧ D e < 24) (hu : ∀ e f, e < n → f < n → R e → R f → C e = C f → D e = D f → e = f) :
    sm_ (fun e => ib_ (R e) (g (C e) (D e))) n = s2_ (fun a b => ib_ (∃ e, e < n ∧ (R e ∧ C e = a ∧ D e = b)) (g a b)) := by
  have h1 : ∀ e, e < n → ib_ (R e) (g (C e) (D e)) = sm_ (fun a => sm_ (fun b => ib_ (R e ∧ C e = a ∧ D e = b) (g a b)) 24) 24 := by
    intro e he
    by_cases r : R e
    · have l := hR e he r
      rw [ib_t r, sm_1 (f := fun a => sm_ (fun b => ib_ (R e ∧ C e = a ∧ D e = b) (g a b)) 24) (k := C e) 24 l.1 (fun a _ ne => sm_z 24 (fun b _ => ib_f (fun q => ne q.2.1.symm)))]
      rw [sm_1 (f := fun b => ib_ (R e ∧ C e = C e ∧ D e = b) (g (C e) b)) (k := D e) 24 l.2 (fun b _ ne => ib_f (fun q => ne q.2.2.symm)), ib_t ⟨r, rfl, rfl⟩]
    · rw [ib_f r]
      exact (sm_z 24 (fun a _ => sm_z 24 (fun b _ => ib_f (fun q => r q.1)))).symm
  rw [sm_c n h1, sm_w]
  unfold s2_
  refine sm_c 24 (fun a _ => ?_)
  rw [sm_w]
  refine sm_c 24 (fun b _ => ?_)
  exact sm_u (fun i j hi hj p q => hu i j hi hj p.1 q.1 (by rw [p.2.1, q.2.1]) (by rw [p.2.2, q.2.2]))
/-- sides built of pieces: K s a b says that the piece from a to b lies on the side that starts at s -/
theorem s2_tel {H E : Nat → Nat → Prop} {K : Nat → Nat → Nat → Prop} {c : Nat → Nat → Int} (c0 : ∀ s, c s s = 0)
    (kh : ∀ s a b, K s a b → H a b ∧ s < 24 ∧ a < 24 ∧ b < 24 ∧ c a b = c s b - c s a) (k1 : ∀ a b, a < 24 → b < 24 → H a b → ∃ s, K s a b) (k2 : ∀ s s' a b, K s a b → K s' a b → s = s')
    (k3 : ∀ a a' b, H a b → H a' b → a = a') (k3' : ∀ a b b', H a b → H a b' → b = b')
    (k4 : ∀ s b, s ≠ b → (E s b ↔ (∃ a, K s a b) ∧ ¬ ∃ d, K s b d)) (k5 : ∀ s b d, s ≠ b → K s b d → ∃ a, K s a b) :
    s2_ (fun a b => ib_ (H a b) (c a b)) = s2_ (fun a b => ib_ (E a b) (c a b)) := by
  have e1 : ∀ a b, a < 24 → b < 24 → ib_ (H a b) (c a b) = sm_ (fun s => ib_ (K s a b) (c s b - c s a)) 24 := by
    intro a b ha hb
    by_cases h : H a b
    · obtain ⟨s, hs⟩ := k1 a b ha hb h
      have q := kh s a b hs
      rw [ib_t h, sm_1 (f := fun s => ib_ (K s a b) (c s b - c s a)) (k := s) 24 q.2.1 (fun i _ ne => ib_f (fun p => ne (k2 i s a b p hs))), ib_t hs]
      exact q.2.2.2.2
    · rw [ib_f h]
      exact (sm_z 24 (fun s _ => ib_f (fun p => h (kh s a b p).1))).symm
  have sp : ∀ (p : Prop) (u v : Int), ib_ p (u - v) = ib_ p u - ib_ p v := by
    intro p u v
    by_cases h : p
    · rw [ib_t h, ib_t h, ib_t h]
    · rw [ib_f h, ib_f h, ib_f h]; rfl
  have e2 : s2_ (fun a b => ib_ (H a b) (c a b)) = sm_ (fun s => s2_ (fun a b => ib_ (K s a b) (c s b - c s a))) 24 := by
    rw [s2_c e1]
    unfold s2_
    rw [sm_c (f := fun a => sm_ (fun b => sm_ (fun s => ib_ (K s a b) (c s b - c s a)) 24) 24) (g := fun a => sm_ (fun s => sm_ (fun b => ib_ (K s a b) (c s b - c s a)) 24) 24) 24 (fun a _ => sm_w 24), sm_w]
  rw [e2]
  unfold s2_ at *
  refine sm_c 24 (fun s hs => ?_)
  have e3 : sm_ (fun a => sm_ (fun b => ib_ (K s a b) (c s b - c s a)) 24) 24 = sm_ (fun a => sm_ (fun b => ib_ (K s a b) (c s b)) 24) 24 - sm_ (fun a => sm_ (fun b => ib_ (K s a b) (c s a)) 24) 24 := by
    rw [← sm_s]
    refine sm_c 24 (fun a _ => ?_)
    rw [← sm_s]
    exact sm_c 24 (fun b _ => sp _ _ _)
  rw [e3, sm_w, ← sm_s]
  refine sm_c 24 (fun b hb => ?_)
  rw [sm_u (P := fun a => K s a b) (v := c s b) (fun i j _ _ p q => k3 i j b (kh s i b p).1 (kh s j b q).1), sm_u (P := fun d => K s b d) (v := c s b) (fun i j _ _ p q => k3' b i j (kh s b i p).1 (kh s b j q).1)]
  show _ = ib_ (E s b) (c s b)
  by_cases sb : s = b
  · subst sb
    have z : ∀ p : Prop, ib_ p (c s s) = 0 := by
      intro p
      by_cases h : p
      · rw [ib_t h]; exact c0 s
      · exact ib_f h
    rw [z, z, z]
    rfl
  · have q4 := k4 s b sb
    by_cases A : ∃ a, K s a b
    · have A' : ∃ i, i < 24 ∧ K s i b := by
        obtain ⟨a, h⟩ := A
        exact ⟨a, (kh s a b h).2.2.1, h⟩
      rw [ib_t A']
      by_cases B : ∃ d, K s b d
      · have B' : ∃ i, i < 24 ∧ K s b i := by
          obtain ⟨d, h⟩ := B
          exact ⟨d, (kh s b d h).2.2.2.1, h⟩
        rw [ib_t B', ib_f (fun e => (q4.mp e).2 B)]
        omega
      · rw [ib_f (fun ⟨i, _, h⟩ => B ⟨i, h⟩), ib_t (q4.mpr ⟨A, B⟩)]
        omega
    · have B : ¬ ∃ d, K s b d := fun ⟨d, h⟩ => A (k5 s b d sb h)
      rw [ib_f (fun ⟨i, _, h⟩ => A ⟨i, h⟩), ib_f (fun ⟨i, _, h⟩ => B ⟨i, h⟩), ib_f (fun e => A (q4.mp e).1)]
      rfl
end
section
/-! sides of the hull -/
def hr_ (x y : Nat → Int) (U : Nat → Prop) (a b : Nat) : Prop := U a ∧ U b ∧ a ≠ b ∧ ∀ c, U c → 0 ≤ ge_T x y a b c
def he_ (x y : Nat → Int) (U : Nat → Prop) (a b : Nat) : Prop := hr_ x y U a b ∧ ∀ c, U c → c ≠ a → c ≠ b → ge_T x y a b c = 0 → 0 < ge_D x y a b c
def le_ (x y : Nat → Int) (U : Nat → Prop) (a b : Nat) : Prop := hr_ x y U a b ∧ ∀ c, U c → ge_T x y a b c = 0 → ge_D x y a b c ≤ 0
def cp_ (x y : Nat → Int) (a b : Nat) : Int := x a * y b - y a * x b
/-- the place of c along the line from p to q -/
def po_ (x y : Nat → Int) (p q c : Nat) : Int := (x c - x p) * (x q - x p) + (y c - y p) * (y q - y p)
section
variable {x y : Nat → Int} {U : Nat → Prop}
theorem po_p (p q : Nat) : po_ x y p q p = 0 := by
  unfold po_
  rw [Int.sub_self, Int.sub_self, Int.zero_mul, Int.zero_mul]
  rfl
theorem po_q (p q : Nat) : po_ x y p q q = ge_S x y p q := by
  unfold po_ ge_S
  generalize x p = xp; generalize y p = yp; generalize x q = xq; generalize y q = yq
  grind
theorem po_T {p q u v : Nat} (tu : ge_T x y p q u = 0) (tv : ge_T x y p q v = 0) (d : Nat) : ge_S x y p q * ge_T x y u v d = (po_ x y p q v - po_ x y p q u) * ge_T x y p q d := by
  have e : ge_S x y p q * ge_T x y u v d = (po_ x y p q v - po_ x y p q u) * ge_T x y p q d - (po_ x y p q d - po_ x y p q u) * ge_T x y p q v + (po_ x y p q d - po_ x y p q v) * ge_T x y p q u := by
    unfold ge_S ge_T po_
    generalize x p = xp; generalize y p = yp; generalize x q = xq; generalize y q = yq
    generalize x u = xu; generalize y u = yu; generalize x v = xv; generalize y v = yv; generalize x d = xd; generalize y d = yd
    grind
  rw [tu, tv, Int.mul_zero, Int.mul_zero, Int.sub_zero, Int.add_zero] at e
  exact e
theorem po_D {p q u v c : Nat} (tu : ge_T x y p q u = 0) (tv : ge_T x y p q v = 0) (tc : ge_T x y p q c = 0) : ge_S x y p q * ge_D x y u v c = (po_ x y p q u - po_ x y p q c) * (po_ x y p q v - po_ x y p q c) := by
  have e : ge_S x y p q * ge_D x y u v c = (po_ x y p q u - po_ x y p q c) * (po_ x y p q v - po_ x y p q c) + (ge_T x y p q u - ge_T x y p q c) * (ge_T x y p q v - ge_T x y p q c) := by
    unfold ge_S ge_T ge_D po_
    generalize x p = xp; generalize y p = yp; generalize x q = xq; generalize y q = yq
    generalize x u = xu; generalize y u = yu; generalize x v = xv; generalize y v = yv; generalize x c = xc; generalize y c = yc
    grind
  rw [tu, tv, tc] at e
  omega
theorem po_S {p q u v : Nat} (tu : ge_T x y p q u = 0) (tv : ge_T x y p q v = 0) : ge_S x y p q * ge_S x y u v = (po_ x y p q u - po_ x y p q v) * (po_ x y p q u - po_ x y p q v) := by
  have e : ge_S x y p q * ge_S x y u v = (po_ x y p q u - po_ x y p q v) * (po_ x y p q u - po_ x y p q v) + (ge_T x y p q u - ge_T x y p q v) * (ge_T x y p q u - ge_T x y p q v) := by
    unfold ge_S ge_T po_
    generalize x p = xp; generalize y p = yp; generalize x q = xq; generalize y q = yq
    generalize x u = xu; generalize y u = yu; generalize x v = xv; generalize y v = yv
    grind
  rw [tu, tv] at e
  omega
/-- a line of the hull: p before q, all points on its left, not all on it -/
def hl_ (x y : Nat → Int) (U : Nat → Prop) (p q : Nat) : Prop := ge_Ne x y U ∧ hr_ x y U p q ∧ ∃ d, U d ∧ 0 < ge_T x y p q d
theorem hl_S {p q : Nat} (H : hl_ x y U p q) : 0 < ge_S x y p q := ge_Sp H.1 H.2.1.1 H.2.1.2.1 H.2.1.2.2.1
theorem hl_eq {p q u v : Nat} (H : hl_ x y U p q) (uu : U u) (uv : U v) (tu : ge_T x y p q u = 0) (tv : ge_T x y p q v = 0) (e : po_ x y p q u = po_ x y p q v) : u = v := by
  by_cases z : u = v
  · exact z
  · exfalso
    have s := po_S tu tv
    rw [e, Int.sub_self, Int.mul_zero] at s
    have := Int.mul_pos (hl_S H) (ge_Sp H.1 uu uv z)
    omega
theorem hl_hr {p q u v : Nat} (H : hl_ x y U p q) (uu : U u) (uv : U v) (tu : ge_T x y p q u = 0) (tv : ge_T x y p q v = 0) : hr_ x y U u v ↔ po_ x y p q u < po_ x y p q v := by
  have s := hl_S H
  constructor
  · intro h
    by_cases z : po_ x y p q u < po_ x y p q v
    · exact z
    · exfalso
      have ne : po_ x y p q u ≠ po_ x y p q v := fun e => h.2.2.1 (hl_eq H uu uv tu tv e)
      obtain ⟨d, ud, td⟩ := H.2.2
      have e := po_T tu tv d
      have h1 := Int.mul_nonneg (Int.le_of_lt s) (h.2.2.2 d ud)
      have h2 := Int.mul_neg_of_neg_of_pos (show po_ x y p q v - po_ x y p q u < 0 by omega) td
      omega
  · intro h
    refine ⟨uu, uv, fun e => by rw [e] at h; omega, fun c uc => ?_⟩
    have e := po_T tu tv c
    have h1 := Int.mul_nonneg (show 0 ≤ po_ x y p q v - po_ x y p q u by omega) (H.2.1.2.2.2 c uc)
    exact sg_pp s (by rw [e]; exact h1)
theorem hl_on {p q u v c : Nat} (H : hl_ x y U p q) (tu : ge_T x y p q u = 0) (tv : ge_T x y p q v = 0) (h : po_ x y p q u < po_ x y p q v) : ge_T x y u v c = 0 ↔ ge_T x y p q c = 0 := by
  have s := hl_S H
  have e := po_T tu tv c
  constructor
  · intro z
    rw [z, Int.mul_zero] at e
    rcases Int.mul_eq_zero.mp e.symm with q1 | q1
    · omega
    · exact q1
  · intro z
    rw [z, Int.mul_zero] at e
    rcases Int.mul_eq_zero.mp e with q1 | q1
    · omega
    · exact q1
/-- the next and the last point along the line -/
theorem hl_nxt {p q b : Nat} (L : ∀ i, U i → i < 24) (H : hl_ x y U p q) (ub : U b) (tb : ge_T x y p q b = 0) (h : ∃ c, U c ∧ ge_T x y p q c = 0 ∧ po_ x y p q b < po_ x y p q c) : ∃ c, U c ∧ ge_T x y p q c = 0 ∧ he_ x y U b c := by
  obtain ⟨c0, u0, t0, h0⟩ := h
  obtain ⟨c, _, ⟨uc, tc, hc⟩, hm⟩ := mn_ex (P := fun c => U c ∧ ge_T x y p q c = 0 ∧ po_ x y p q b < po_ x y p q c) (R := fun i j => po_ x y p q i ≤ po_ x y p q j)
    (fun i j _ _ => by omega) (fun i j k _ _ _ r1 r2 => by omega) 24 ⟨c0, L c0 u0, u0, t0, h0⟩
  refine ⟨c, uc, tc, (hl_hr H ub uc tb tc).mpr hc, fun d ud db dc td => ?_⟩
  have tpd := (hl_on H tb tc hc).mp td
  have e := po_D tb tc tpd
  have s := hl_S H
  have n1 : po_ x y p q d ≠ po_ x y p q b := fun z => db (hl_eq H ud ub tpd tb z)
  have n2 : po_ x y p q d ≠ po_ x y p q c := fun z => dc (hl_eq H ud uc tpd tc z)
  refine sg_pP s ?_
  rw [e]
  by_cases z : po_ x y p q b < po_ x y p q d
  · have := hm d (L d ud) ⟨ud, tpd, z⟩
    exact Int.mul_pos_of_neg_of_neg (by omega) (by omega)
  · exact Int.mul_pos (by omega) (by omega)
theorem hl_prv {p q b : Nat} (L : ∀ i, U i → i < 24) (H : hl_ x y U p q) (ub : U b) (tb : ge_T x y p q b = 0) (h : ∃ c, U c ∧ ge_T x y p q c = 0 ∧ po_ x y p q c < po_ x y p q b) : ∃ a, U a ∧ ge_T x y p q a = 0 ∧ he_ x y U a b := by
  obtain ⟨c0, u0, t0, h0⟩ := h
  obtain ⟨c, _, ⟨uc, tc, hc⟩, hm⟩ := mn_ex (P := fun c => U c ∧ ge_T x y p q c = 0 ∧ po_ x y p q c < po_ x y p q b) (R := fun i j => po_ x y p q j ≤ po_ x y p q i)
    (fun i j _ _ => by omega) (fun i j k _ _ _ r1 r2 => by omega) 24 ⟨c0, L c0 u0, u0, t0, h0⟩
  refine ⟨c, uc, tc, (hl_hr H uc ub tc tb).mpr hc, fun d ud dc db td => ?_⟩
  have tpd := (hl_on H tc tb hc).mp td
  have e := po_D tc tb tpd
  have s := hl_S H
  have n1 : po_ x y p q d ≠ po_ x y p q b := fun z => db (hl_eq H ud ub tpd tb z)
  have n2 : po_ x y p q d ≠ po_ x y p q c := fun z => dc (hl_eq H ud uc tpd tc z)
  refine sg_pP s ?_
  rw [e]
  by_cases z : po_ x y p q d < po_ x y p q b
  · have := hm d (L d ud) ⟨ud, tpd, z⟩
    exact Int.mul_pos (by omega) (by omega)
  · exact Int.mul_pos_of_neg_of_neg (by omega) (by omega)
/-- within a longest side -/
theorem hl_le {s e c : Nat} (H : hl_ x y U s e) (l : le_ x y U s e) (uc : U c) (tc : ge_T x y s e c = 0) : 0 ≤ po_ x y s e c ∧ po_ x y s e c ≤ ge_S x y s e := by
  have d := l.2 c uc tc
  have g := po_D (p := s) (q := e) (u := s) (v := e) (ge_Tz3 x y s e) (ge_Tz2 x y s e) tc
  rw [po_p, po_q] at g
  have sp := hl_S H
  have m := Int.mul_nonpos_of_nonneg_of_nonpos (Int.le_of_lt sp) d
  constructor
  · by_cases z : 0 ≤ po_ x y s e c
    · exact z
    · have := Int.mul_pos (show 0 < 0 - po_ x y s e c by omega) (show 0 < ge_S x y s e - po_ x y s e c by omega)
      omega
  · by_cases z : po_ x y s e c ≤ ge_S x y s e
    · exact z
    · have := Int.mul_pos_of_neg_of_neg (show 0 - po_ x y s e c < 0 by omega) (show ge_S x y s e - po_ x y s e c < 0 by omega)
      omega
theorem cp_T (a b c : Nat) : ge_T x y a b c = cp_ x y a b + cp_ x y b c + cp_ x y c a := by
  unfold ge_T cp_
  generalize x a = xa; generalize y a = ya; generalize x b = xb; generalize y b = yb
  generalize x c = xc; generalize y c = yc
  grind
theorem cp_n (a b : Nat) : cp_ x y b a = -cp_ x y a b := by
  unfold cp_
  generalize x a = xa; generalize y a = ya; generalize x b = xb; generalize y b = yb
  grind
/-- the pieces of the hull's sides add up to the sides -/
theorem hl_sum (N : ge_Ne x y U) (L : ∀ i, U i → i < 24) (nc : ∀ a b, U a → U b → a ≠ b → ∃ d, U d ∧ ge_T x y a b d ≠ 0)
    (k3 : ∀ a a' b, he_ x y U a b → he_ x y U a' b → a = a') (k3' : ∀ a b b', he_ x y U a b → he_ x y U a b' → b = b') :
    s2_ (fun a b => ib_ (he_ x y U a b) (cp_ x y a b)) = s2_ (fun a b => ib_ (le_ x y U a b) (cp_ x y a b)) := by
  have mkl : ∀ p q, hr_ x y U p q → hl_ x y U p q := by
    intro p q h
    obtain ⟨d, ud, td⟩ := nc p q h.1 h.2.1 h.2.2.1
    exact ⟨N, h, d, ud, by have := h.2.2.2 d ud; omega⟩
  refine s2_tel (K := fun s a b => he_ x y U a b ∧ ∃ e, le_ x y U s e ∧ ge_T x y s e a = 0 ∧ ge_T x y s e b = 0) (fun s => ?_) ?_ ?_ ?_ k3 k3' ?_ ?_
  · have := cp_n (x := x) (y := y) s s
    omega
  · intro s a b ⟨h, e, l, ta, tb⟩
    refine ⟨h, L s l.1.1, L a h.1.1, L b h.1.2.1, ?_⟩
    have t := ge_col3 (N s e l.1.1 l.1.2.1 l.1.2.2.1) (ge_Tz3 x y s e) ta tb
    have c := cp_T (x := x) (y := y) s a b
    have n := cp_n (x := x) (y := y) s b
    omega
  · intro a b _ _ h
    have H := mkl a b h.1
    have ua := h.1.1
    have ub := h.1.2.1
    have pb : po_ x y a b a < po_ x y a b b := by
      rw [po_p, po_q]; exact hl_S H
    obtain ⟨s, _, ⟨us, ts⟩, hs⟩ := mn_ex (P := fun c => U c ∧ ge_T x y a b c = 0) (R := fun i j => po_ x y a b i ≤ po_ x y a b j)
      (fun i j _ _ => by omega) (fun i j k _ _ _ r1 r2 => by omega) 24 ⟨a, L a ua, ua, ge_Tz3 x y a b⟩
    obtain ⟨e, _, ⟨ue, te⟩, he⟩ := mn_ex (P := fun c => U c ∧ ge_T x y a b c = 0) (R := fun i j => po_ x y a b j ≤ po_ x y a b i)
      (fun i j _ _ => by omega) (fun i j k _ _ _ r1 r2 => by omega) 24 ⟨a, L a ua, ua, ge_Tz3 x y a b⟩
    have s1 := hs a (L a ua) ⟨ua, ge_Tz3 x y a b⟩
    have e1 := he b (L b ub) ⟨ub, ge_Tz2 x y a b⟩
    have se : po_ x y a b s < po_ x y a b e := by omega
    refine ⟨s, h, e, ⟨(hl_hr H us ue ts te).mpr se, fun c uc tc => ?_⟩, (hl_on H ts te se).mpr (ge_Tz3 x y a b), (hl_on H ts te se).mpr (ge_Tz2 x y a b)⟩
    have tpc := (hl_on H ts te se).mp tc
    have q1 := hs c (L c uc) ⟨uc, tpc⟩
    have q2 := he c (L c uc) ⟨uc, tpc⟩
    refine sg_pN (hl_S H) ?_
    rw [po_D ts te tpc]
    exact Int.mul_nonpos_of_nonpos_of_nonneg (by omega) (by omega)
  · intro s s' a b ⟨h, e, l, ta, tb⟩ ⟨_, e', l', ta', tb'⟩
    have H := mkl a b h.1
    have ns := N s e l.1.1 l.1.2.1 l.1.2.2.1
    have ns' := N s' e' l'.1.1 l'.1.2.1 l'.1.2.2.1
    have ts := ge_col3 ns ta tb (ge_Tz3 x y s e)
    have te := ge_col3 ns ta tb (ge_Tz2 x y s e)
    have ts' := ge_col3 ns' ta' tb' (ge_Tz3 x y s' e')
    have te' := ge_col3 ns' ta' tb' (ge_Tz2 x y s' e')
    have p1 := (hl_hr H l.1.1 l.1.2.1 ts te).mp l.1
    have p2 := (hl_hr H l'.1.1 l'.1.2.1 ts' te').mp l'.1
    have lo : ∀ s e s', U s' → le_ x y U s e → ge_T x y a b s = 0 → ge_T x y a b e = 0 → ge_T x y a b s' = 0 → po_ x y a b s < po_ x y a b e → po_ x y a b s ≤ po_ x y a b s' := by
      intro s e s' us' l ts te ts' p1
      have d := l.2 s' us' ((hl_on H ts te p1).mpr ts')
      have g := po_D ts te ts'
      have m := Int.mul_nonpos_of_nonneg_of_nonpos (Int.le_of_lt (hl_S H)) d
      by_cases z : po_ x y a b s ≤ po_ x y a b s'
      · exact z
      · have := Int.mul_pos (show 0 < po_ x y a b s - po_ x y a b s' by omega) (show 0 < po_ x y a b e - po_ x y a b s' by omega)
        omega
    have q1 := lo s e s' l'.1.1 l ts te ts' p1
    have q2 := lo s' e' s l.1.1 l' ts' te' ts p2
    exact hl_eq H l.1.1 l'.1.1 ts ts' (by omega)
  · intro s b sb
    constructor
    · intro l
      have H := mkl s b l.1
      constructor
      · obtain ⟨a, ua, ta, ha⟩ := hl_prv L H l.1.2.1 (ge_Tz2 x y s b) ⟨s, l.1.1, ge_Tz3 x y s b, by rw [po_p, po_q]; exact hl_S H⟩
        exact ⟨a, ha, b, l, ta, ge_Tz2 x y s b⟩
      · intro ⟨d, h, e, l', tb, td⟩
        have te : ge_T x y s b e = 0 := by rw [ge_T23, tb]; rfl
        have td' : ge_T x y s b d = 0 := ge_col3 (N s e l'.1.1 l'.1.2.1 l'.1.2.2.1) (ge_Tz3 x y s e) tb td
        have p := (hl_hr H l.1.2.1 h.1.2.1 (ge_Tz2 x y s b) td').mp h.1
        have q := hl_le H l h.1.2.1 td'
        rw [po_q] at p
        omega
    · intro ⟨⟨a, h, e, l, ta, tb⟩, nk⟩
      by_cases be : b = e
      · rw [be]; exact l
      · exfalso
        have H := mkl s e l.1
        have ub := h.1.2.1
        have q := hl_le H l ub tb
        have ne : po_ x y s e b ≠ po_ x y s e e := fun z => be (hl_eq H ub l.1.2.1 tb (ge_Tz2 x y s e) z)
        rw [po_q] at ne
        obtain ⟨c, uc, tc, hc⟩ := hl_nxt L H ub tb ⟨e, l.1.2.1, ge_Tz2 x y s e, by rw [po_q]; omega⟩
        exact nk ⟨c, hc, e, l, tb, tc⟩
  · intro s b d sb ⟨h, e, l, tb, td⟩
    have H := mkl s e l.1
    have ub := h.1.1
    have q := hl_le H l ub tb
    have ne : po_ x y s e b ≠ po_ x y s e s := fun z => sb (hl_eq H ub l.1.1 tb (ge_Tz3 x y s e) z).symm
    rw [po_p] at ne
    obtain ⟨a, ua, ta, ha⟩ := hl_prv L H ub tb ⟨s, l.1.1, ge_Tz3 x y s e, by rw [po_p]; omega⟩
    exact ⟨a, ha, e, l, ta, tb⟩
end
end
section
/-! the owed statement about the hull's area -/
def rl_ (a_alive a_corner : Nat → Int32) (t : Nat) : Prop := ¬ a_alive t = 0 ∧ cn_ a_corner (3 * t) ≠ 24 ∧ cn_ a_corner (3 * t + 1) ≠ 24 ∧ cn_ a_corner (3 * t + 2) ≠ 24
theorem he_F {x y w : Nat → Int} {W : Int} {s1 s2 s3 : Nat} {U : Nat → Prop} (P : ch_Pre x y w W s1 s2 s3 U) {a b : Nat} : he_ x y U a b ↔ hu_F (ch_X x y w W s1 s2 s3) (fun d => U d ∨ d = 24) b a 24 := by
  rw [fa_gh P]
  constructor
  · intro ⟨⟨ua, ub, ab, h1⟩, h2⟩
    refine ⟨ub, ua, fun e => ab e.symm, fun d ud d1 d2 => ?_⟩
    have q1 := h1 d ud
    have q2 := h2 d ud d2 d1
    rw [ge_T12, ge_D12]
    omega
  · intro ⟨ub, ua, ba, h⟩
    have T : ∀ c, U c → 0 ≤ ge_T x y a b c := by
      intro c uc
      by_cases c1 : c = a
      · rw [c1, ge_Tz3]; exact Int.le_refl 0
      by_cases c2 : c = b
      · rw [c2, ge_Tz2]; exact Int.le_refl 0
      have := h c uc c2 c1
      rw [ge_T12] at this
      omega
    refine ⟨⟨ua, ub, fun e => ba e.symm, T⟩, fun c uc c1 c2 t => ?_⟩
    have := h c uc c2 c1
    rw [ge_T12, ge_D12] at this
    omega
/-- the triangles' areas add up to the hull's -/
theorem tx_area {a_px a_py a_alive a_corner a_across : Nat → Int32} {U : Nat → Prop} (T : tx_Ok a_px a_py a_alive a_corner a_across U) :
    sm_ (fun t => ib_ (rl_ a_alive a_corner t) (ge_T (xi_ a_px) (xi_ a_py) (cn_ a_corner (3 * t)) (cn_ a_corner (3 * t + 1)) (cn_ a_corner (3 * t + 2)))) 72 = s2_ (fun a b => ib_ (le_ (xi_ a_px) (xi_ a_py) U a b) (cp_ (xi_ a_px) (xi_ a_py) a b)) := by
  obtain ⟨T1, rc, ra⟩ := T
  obtain ⟨w, W, s1, s2, s3, P, O⟩ := T1
  have Ax : hu_Ax (ch_X (xi_ a_px) (xi_ a_py) w W s1 s2 s3) := ch_ax
  have N := P.2.1
  have L := P.2.2.1
  -- by cells
  have c1 : sm_ (fun t => ib_ (rl_ a_alive a_corner t) (ge_T (xi_ a_px) (xi_ a_py) (cn_ a_corner (3 * t)) (cn_ a_corner (3 * t + 1)) (cn_ a_corner (3 * t + 2)))) 72 = sm_ (fun e => ib_ (rl_ a_alive a_corner (e / 3)) (cp_ (xi_ a_px) (xi_ a_py) (cn_ a_corner e) (cn_ a_corner (nx_ e)))) 216 := by
    have g := sm_3 (f := fun e => ib_ (rl_ a_alive a_corner (e / 3)) (cp_ (xi_ a_px) (xi_ a_py) (cn_ a_corner e) (cn_ a_corner (nx_ e)))) 72
    rw [show (216 : Nat) = 3 * 72 from rfl, g]
    refine sm_c 72 (fun t ht => ?_)
    rw [show 3 * t / 3 = t by omega, show (3 * t + 1) / 3 = t by omega, show (3 * t + 2) / 3 = t by omega, nx_0, nx_1, nx_2]
    by_cases r : rl_ a_alive a_corner t
    · rw [ib_t r, ib_t r, ib_t r, ib_t r, cp_T]
    · rw [ib_f r, ib_f r, ib_f r, ib_f r]; rfl
  have real : ∀ e, e < 216 → rl_ a_alive a_corner (e / 3) → cn_ a_corner e ≠ 24 ∧ cn_ a_corner (nx_ e) ≠ 24 ∧ cn_ a_corner (nx_ (nx_ e)) ≠ 24 := by
    intro e he r
    obtain ⟨t, ht, q | q | q⟩ := nx_cs e
    · rw [ht] at r
      rw [q, nx_0, nx_1]; exact ⟨r.2.1, r.2.2.1, r.2.2.2⟩
    · rw [ht] at r
      rw [q, nx_1, nx_2]; exact ⟨r.2.2.1, r.2.2.2, r.2.1⟩
    · rw [ht] at r
      rw [q, nx_2, nx_0]; exact ⟨r.2.2.2, r.2.1, r.2.2.1⟩
  have back : ∀ e, e < 216 → ¬ a_alive (e / 3) = 0 → cn_ a_corner e ≠ 24 → cn_ a_corner (nx_ e) ≠ 24 → cn_ a_corner (nx_ (nx_ e)) ≠ 24 → rl_ a_alive a_corner (e / 3) := by
    intro e he ae n1 n2 n3
    obtain ⟨t, ht, q | q | q⟩ := nx_cs e
    · rw [ht] at ae ⊢
      rw [q] at n1
      rw [q, nx_0] at n2
      rw [q, nx_0, nx_1] at n3
      exact ⟨ae, n1, n2, n3⟩
    · rw [ht] at ae ⊢
      rw [q] at n1
      rw [q, nx_1] at n2
      rw [q, nx_1, nx_2] at n3
      exact ⟨ae, n3, n1, n2⟩
    · rw [ht] at ae ⊢
      rw [q] at n1
      rw [q, nx_2] at n2
      rw [q, nx_2, nx_0] at n3
      exact ⟨ae, n2, n3, n1⟩
  rw [c1, s2_cell (C := cn_ a_corner) (D := fun e => cn_ a_corner (nx_ e)) (R := fun e => rl_ a_alive a_corner (e / 3)) (g := cp_ (xi_ a_px) (xi_ a_py)) (n := 216)
    (fun e he r => ⟨by have := (rc e he).2; have := (real e he r).1; omega, by have := (rc _ (nx_lt he)).2; have := (real e he r).2.1; omega⟩)
    (fun e f he hf r1 r2 h1 h2 => O.2.2.1 e f he hf r1.1 r2.1 h1 h2)]
  -- edges of triangles are facets' edges
  have ER : ∀ a b, (∃ e, e < 216 ∧ (rl_ a_alive a_corner (e / 3) ∧ cn_ a_corner e = a ∧ cn_ a_corner (nx_ e) = b)) ↔ (a ≠ 24 ∧ b ≠ 24 ∧ ∃ c, c ≠ 24 ∧ hu_F (ch_X (xi_ a_px) (xi_ a_py) w W s1 s2 s3) (fun d => U d ∨ d = 24) a b c) := by
    intro a b
    constructor
    · intro ⟨e, he, r, e1, e2⟩
      have q := real e he r
      have F := O.1 e he r.1
      rw [e1, e2] at F
      rw [e1, e2] at q
      exact ⟨q.1, q.2.1, _, q.2.2, F⟩
    · intro ⟨na, nb, c, nc, F⟩
      obtain ⟨e, he, ae, e1, e2, e3⟩ := O.2.1 a b c F
      exact ⟨e, he, back e he ae (by rw [e1]; exact na) (by rw [e2]; exact nb) (by rw [e3]; exact nc), e1, e2⟩
  have nc : ∀ a b, U a → U b → a ≠ b → ∃ d, U d ∧ ge_T (xi_ a_px) (xi_ a_py) a b d ≠ 0 := by
    intro a b ua ub ab
    obtain ⟨u1, u2, u3, ts⟩ := P.2.2.2.2.2
    by_cases q1 : ge_T (xi_ a_px) (xi_ a_py) a b s1 = 0
    · by_cases q2 : ge_T (xi_ a_px) (xi_ a_py) a b s2 = 0
      · by_cases q3 : ge_T (xi_ a_px) (xi_ a_py) a b s3 = 0
        · exact absurd (ge_col3 (N a b ua ub ab) q1 q2 q3) ts
        · exact ⟨s3, u3, q3⟩
      · exact ⟨s2, u2, q2⟩
    · exact ⟨s1, u1, q1⟩
  have sp : s2_ (fun a b => ib_ (∃ e, e < 216 ∧ (rl_ a_alive a_corner (e / 3) ∧ cn_ a_corner e = a ∧ cn_ a_corner (nx_ e) = b)) (cp_ (xi_ a_px) (xi_ a_py) a b))
      = s2_ (fun a b => ib_ ((∃ e, e < 216 ∧ (rl_ a_alive a_corner (e / 3) ∧ cn_ a_corner e = a ∧ cn_ a_corner (nx_ e) = b)) ∧ (∃ e, e < 216 ∧ (rl_ a_alive a_corner (e / 3) ∧ cn_ a_corner e = b ∧ cn_ a_corner (nx_ e) = a))) (cp_ (xi_ a_px) (xi_ a_py) a b) + ib_ (he_ (xi_ a_px) (xi_ a_py) U a b) (cp_ (xi_ a_px) (xi_ a_py) a b)) := by
    refine s2_c (fun a b ha hb => ?_)
    by_cases E : ∃ e, e < 216 ∧ (rl_ a_alive a_corner (e / 3) ∧ cn_ a_corner e = a ∧ cn_ a_corner (nx_ e) = b)
    · rw [ib_t E]
      obtain ⟨na, nb, c, ncc, F⟩ := (ER a b).mp E
      obtain ⟨d, G⟩ := fa_rev P F
      by_cases d24 : d = 24
      · subst d24
        rw [ib_f (fun q => ?_), ib_t ((he_F P).mpr G)]
        · omega
        · obtain ⟨_, _, c', nc', F'⟩ := (ER b a).mp q.2
          exact nc' (hu_uniq Ax F' G)
      · rw [ib_t ⟨E, (ER b a).mpr ⟨nb, na, d, d24, G⟩⟩, ib_f (fun q => d24 (hu_uniq Ax G ((he_F P).mp q)))]
        omega
    · rw [ib_f E, ib_f (fun q => E q.1), ib_f (fun q => E ?_)]
      · rfl
      · have G := (he_F P).mp q
        obtain ⟨c, F⟩ := fa_rev P G
        refine (ER a b).mpr ⟨by omega, by omega, c, fun c24 => ?_, F⟩
        subst c24
        obtain ⟨d, ud, td⟩ := nc a b q.1.1 q.1.2.1 q.1.2.2.1
        have h1 := fa_g0 P F ud
        have h2 := fa_g0 P G ud
        rw [ge_T12] at h2
        omega
  rw [sp, s2_a, s2_0, Int.zero_add]
  · refine hl_sum N L nc (fun a a' b h1 h2 => ?_) (fun a b b' h1 h2 => ?_)
    · exact hu_uniq Ax (hu_rot Ax (hu_rot Ax ((he_F P).mp h1))) (hu_rot Ax (hu_rot Ax ((he_F P).mp h2)))
    · exact hu_uniq Ax (hu_rot Ax ((he_F P).mp h1)) (hu_rot Ax ((he_F P).mp h2))
  · intro a b _ _
    rw [cp_n, ib_n]
    refine congrArg (fun z => -z) (ib_i ?_)
    exact ⟨fun q => ⟨q.2, q.1⟩, fun q => ⟨q.2, q.1⟩⟩
section
variable {f_size f_solid f_edges f_treeEdges : Int32} {a_used a_px a_py a_alive a_corner a_across a_bad a_startsAt a_endsAt a_edgeU a_edgeV a_edgeLen a_treeU a_treeV a_treeLen a_leader a_order a_mark : Nat → Int32} {post : Int32 → Prop}
theorem xw_area {U : Nat → Prop} (T : tx_Ok a_px a_py a_alive a_corner a_across U)
    (h : post (Int32.ofInt (sm_ (fun t => ib_ (rl_ a_alive a_corner t) (ge_T (xi_ a_px) (xi_ a_py) (cn_ a_corner (3 * t)) (cn_ a_corner (3 * t + 1)) (cn_ a_corner (3 * t + 2)))) 72))) : ∃ n, wX_hullArea2_13 post f_size f_solid f_edges f_treeEdges a_used a_px a_py a_alive a_corner a_across a_bad a_startsAt a_endsAt a_edgeU a_edgeV a_edgeLen a_treeU a_treeV a_treeLen a_leader a_order a_mark n 0 0 := by
  obtain ⟨T1, rc, ra⟩ := T
  have Bd : ge_Bd (xi_ a_px) (xi_ a_py) := by
    obtain ⟨w, W, s1, s2, s3, P, O⟩ := T1
    exact P.1
  have L : ∀ n t : Nat, t ≤ 72 → 72 < n + t → wX_hullArea2_13 post f_size f_solid f_edges f_treeEdges a_used a_px a_py a_alive a_corner a_across a_bad a_startsAt a_endsAt a_edgeU a_edgeV a_edgeLen a_treeU a_treeV a_treeLen a_leader a_order a_mark n (Int32.ofInt (sm_ (fun t => ib_ (rl_ a_alive a_corner t) (ge_T (xi_ a_px) (xi_ a_py) (cn_ a_corner (3 * t)) (cn_ a_corner (3 * t + 1)) (cn_ a_corner (3 * t + 2)))) t)) (nI t) := by
    intro n
    induction n with
    | zero => intro t ht hn; omega
    | succ n ih =>
      intro t ht hn
      rw [wX_hullArea2_13]
      refine pk_le 72 t (fun z => ?_) (fun z => ?_)
      · have e : t = 72 := by omega
        subst e; exact h
      have d0 := rc (3 * t) (by omega)
      have d1 := rc (3 * t + 1) (by omega)
      have d2 := rc (3 * t + 2) (by omega)
      have g := ih (t + 1) (by omega) (by omega)
      rw [show sm_ (fun t => ib_ (rl_ a_alive a_corner t) (ge_T (xi_ a_px) (xi_ a_py) (cn_ a_corner (3 * t)) (cn_ a_corner (3 * t + 1)) (cn_ a_corner (3 * t + 2)))) (t + 1) = sm_ (fun t => ib_ (rl_ a_alive a_corner t) (ge_T (xi_ a_px) (xi_ a_py) (cn_ a_corner (3 * t)) (cn_ a_corner (3 * t + 1)) (cn_ a_corner (3 * t + 2)))) t + ib_ (rl_ a_alive a_corner t) (ge_T (xi_ a_px) (xi_ a_py) (cn_ a_corner (3 * t)) (cn_ a_corner (3 * t + 1)) (cn_ a_corner (3 * t + 2))) from rfl] at g
      have skip : ¬ rl_ a_alive a_corner t → wX_hullArea2_13 post f_size f_solid f_edges f_treeEdges a_used a_px a_py a_alive a_corner a_across a_bad a_startsAt a_endsAt a_edgeU a_edgeV a_edgeLen a_treeU a_treeV a_treeLen a_leader a_order a_mark n (Int32.ofInt (sm_ (fun t => ib_ (rl_ a_alive a_corner t) (ge_T (xi_ a_px) (xi_ a_py) (cn_ a_corner (3 * t)) (cn_ a_corner (3 * t + 1)) (cn_ a_corner (3 * t + 2)))) t)) (nI (t + 1)) := by
        intro nr
        rw [ib_f nr, Int.add_zero] at g
        exact g
      rw [i3_1, i3_2, i3_0, cl_ (n := 3 * t) (by omega), cl_ (n := 3 * t + 1) (by omega), cl_ (n := 3 * t + 2) (by omega), cl_ (n := t) (by omega), d0.1, d1.1, d2.1, nI_1]
      refine ⟨in_ (by omega), nm_e ⟨in_ (by omega), nm_e ⟨in_ (by omega), nm_e ⟨in_ z, br_c (fun q => nm_e (skip (fun r => r.1 q))) (fun q => pk_eq (cn_ a_corner (3 * t)) 24 (fun q1 => nm_e (skip (fun r => r.2.1 q1))) (fun q1 => pk_eq (cn_ a_corner (3 * t + 1)) 24 (fun q2 => nm_e (skip (fun r => r.2.2.1 q2))) (fun q2 => pk_eq (cn_ a_corner (3 * t + 2)) 24 (fun q3 => nm_e (skip (fun r => r.2.2.2 q3))) (fun q3 => ?_))))⟩⟩⟩⟩
      have l0 := d0.2
      have l1 := d1.2
      have l2 := d2.2
      have b0 : cn_ a_corner (3 * t) < 24 := by omega
      have b1 : cn_ a_corner (3 * t + 1) < 24 := by omega
      have b2 : cn_ a_corner (3 * t + 2) < 24 := by omega
      refine xw_turn b0 b1 b2 ?_
      rw [of_a, t32_i Bd b0 b1 b2]
      rw [ib_t ⟨q, q1, q2, q3⟩] at g
      exact nm_e (nm_e g)
  exact ⟨73, L 73 0 (by omega) (by omega)⟩
end
section
variable {a_here a_xs a_ys a_way : Nat → Int32} {post : Int32 → Prop}
theorem cp_i (Bd : ge_Bd (xi_ a_xs) (xi_ a_ys)) {a b : Nat} (ha : a < 24) (hb : b < 24) : ((a_xs a * a_ys b) - (a_ys a * a_xs b)).toInt = cp_ (xi_ a_xs) (xi_ a_ys) a b := by
  have h1 : (0 ≤ (a_xs a).toInt ∧ (a_xs a).toInt ≤ 127) ∧ (0 ≤ (a_ys a).toInt ∧ (a_ys a).toInt ≤ 127) := Bd a ha
  have h2 : (0 ≤ (a_xs b).toInt ∧ (a_xs b).toInt ≤ 127) ∧ (0 ≤ (a_ys b).toInt ∧ (a_ys b).toInt ≤ 127) := Bd b hb
  have m1 := ge_mb (p := (a_xs a).toInt) (q := (a_ys b).toInt) (k := 127) (l := 127) (by omega) (by omega) (by omega) (by omega)
  have m2 := ge_mb (p := (a_ys a).toInt) (q := (a_xs b).toInt) (k := 127) (l := 127) (by omega) (by omega) (by omega) (by omega)
  have e1 : (a_xs a * a_ys b).toInt = (a_xs a).toInt * (a_ys b).toInt := ar_mul (by omega) (by omega)
  have e2 : (a_ys a * a_xs b).toInt = (a_ys a).toInt * (a_xs b).toInt := ar_mul (by omega) (by omega)
  rw [ar_sub, e1, e2]
  · rfl
  · rw [e1, e2]; omega
  · rw [e1, e2]; omega
theorem yw_area (Bd : ge_Bd (xi_ a_xs) (xi_ a_ys)) (h : post (Int32.ofInt (s2_ (fun a b => ib_ (le_ (xi_ a_xs) (xi_ a_ys) (us_ a_here) a b) (cp_ (xi_ a_xs) (xi_ a_ys) a b))))) : wpY_hullArea2 post (a_here, a_xs, a_ys, a_way) := by
  unfold wpY_hullArea2
  dsimp only
  have L12 : ∀ (J : Int32 → Int32 → Prop) (a : Nat) (S : Int), a < 24 → J (Int32.ofInt (S + sm_ (fun b => ib_ (le_ (xi_ a_xs) (xi_ a_ys) (us_ a_here) a b) (cp_ (xi_ a_xs) (xi_ a_ys) a b)) 24)) (nI (a + 1)) →
      ∀ n b : Nat, b ≤ 24 → 24 < n + b → wY_hullArea2_12 post J (nI a) a_here a_xs a_ys a_way n (Int32.ofInt (S + sm_ (fun b => ib_ (le_ (xi_ a_xs) (xi_ a_ys) (us_ a_here) a b) (cp_ (xi_ a_xs) (xi_ a_ys) a b)) b)) (nI b) := by
    intro J a S ha hJ n
    induction n with
    | zero => intro b hb hn; omega
    | succ n ih =>
      intro b hb hn
      rw [wY_hullArea2_12]
      refine pk_le 24 b (fun z => ?_) (fun z => ?_)
      · have e : b = 24 := by omega
        subst e
        rw [nI_1]
        exact nm_e hJ
      have g := ih (b + 1) (by omega) (by omega)
      rw [show sm_ (fun b => ib_ (le_ (xi_ a_xs) (xi_ a_ys) (us_ a_here) a b) (cp_ (xi_ a_xs) (xi_ a_ys) a b)) (b + 1) = sm_ (fun b => ib_ (le_ (xi_ a_xs) (xi_ a_ys) (us_ a_here) a b) (cp_ (xi_ a_xs) (xi_ a_ys) a b)) b + ib_ (le_ (xi_ a_xs) (xi_ a_ys) (us_ a_here) a b) (cp_ (xi_ a_xs) (xi_ a_ys) a b) from rfl, ← Int.add_assoc] at g
      have skip : ¬ le_ (xi_ a_xs) (xi_ a_ys) (us_ a_here) a b → wY_hullArea2_12 post J (nI a) a_here a_xs a_ys a_way n (Int32.ofInt (S + sm_ (fun b => ib_ (le_ (xi_ a_xs) (xi_ a_ys) (us_ a_here) a b) (cp_ (xi_ a_xs) (xi_ a_ys) a b)) b)) (nI (b + 1)) := by
        intro nl
        rw [ib_f nl, Int.add_zero] at g
        exact g
      rw [cl_ (n := a) (by omega), cl_ (n := b) (by omega), nI_1]
      refine ⟨in_ ha, br_c (fun q => nm_e (skip (fun l => l.1.1.2 q))) (fun q => ⟨in_ z, br_c (fun q1 => nm_e (skip (fun l => l.1.2.1.2 q1))) (fun q1 => pk_eq a b (fun q2 => nm_e (skip (fun l => l.1.2.2.1 q2))) (fun q2 => yw_noneRight Bd ha z (fun k1 => br_f (by decide) (yw_longest Bd ha z (fun k2 => br_f (by decide) ⟨in_ ha, in_ z, in_ ha, in_ z, ?_⟩) (fun k2 => br_t rfl (nm_e (skip (fun l => k2 l.2)))))) (fun k1 => br_t rfl (nm_e (skip (fun l => k1 l.1.2.2.2))))))⟩)⟩
      rw [of_a, cp_i Bd ha z]
      rw [ib_t ⟨⟨⟨ha, q⟩, ⟨z, q1⟩, q2, k1⟩, k2⟩] at g
      exact nm_e (nm_e g)
  have L4 : ∀ n a : Nat, a ≤ 24 → 24 < n + a → wY_hullArea2_4 post a_here a_xs a_ys a_way n (Int32.ofInt (sm_ (fun a => sm_ (fun b => ib_ (le_ (xi_ a_xs) (xi_ a_ys) (us_ a_here) a b) (cp_ (xi_ a_xs) (xi_ a_ys) a b)) 24) a)) (nI a) := by
    intro n
    induction n with
    | zero => intro a ha hn; omega
    | succ n ih =>
      intro a ha hn
      rw [wY_hullArea2_4]
      refine pk_le 24 a (fun z => ?_) (fun z => ?_)
      · have e : a = 24 := by omega
        subst e; exact h
      · have g := L12 (wY_hullArea2_4 post a_here a_xs a_ys a_way n) a (sm_ (fun a => sm_ (fun b => ib_ (le_ (xi_ a_xs) (xi_ a_ys) (us_ a_here) a b) (cp_ (xi_ a_xs) (xi_ a_ys) a b)) 24) a) z (ih (a + 1) (by omega) (by omega)) 25 0 (by omega) (by omega)
        rw [show sm_ (fun b => ib_ (le_ (xi_ a_xs) (xi_ a_ys) (us_ a_here) a b) (cp_ (xi_ a_xs) (xi_ a_ys) a b)) 0 = 0 from rfl, Int.add_zero] at g
        exact ⟨25, g⟩
  exact ⟨25, L4 25 0 (by omega) (by omega)⟩
end
theorem i_vc_hullArea2 {k : Nat} {u : SX} {v : SY} (I : i_Rel k u v) (hk : k + 4 ≤ 2048) : wpX_hullArea2 (fun r => wpY_hullArea2 (fun r' => r' = r ∧ i_Rel (k + 4) u v) v) u := by
  refine zz_el (P := fun u v => wpX_hullArea2 (fun r => wpY_hullArea2 (fun r' => r' = r ∧ i_Rel (k + 4) u v) v) u) ?_ I
  intro f_size f_solid f_edges f_treeEdges a_used a_px a_py a_alive a_corner a_across a_bad a_startsAt a_endsAt a_edgeU a_edgeV a_edgeLen a_treeU a_treeV a_treeLen a_leader a_order a_mark a_way R
  have R' := R
  obtain ⟨Bd, N, hs, _, hsol, _, _⟩ := R
  unfold wpX_hullArea2
  dsimp only
  rcases hsol with ⟨s0, co⟩ | ⟨s1, T⟩
  · refine br_t s0 (yw_area Bd ⟨?_, zz_mk R'⟩)
    rw [s2_0]
    · rfl
    · intro a b _ _
      rw [cp_n, ib_n]
      refine congrArg (fun z => -z) (ib_i ?_)
      have sw : ∀ a b, le_ (xi_ a_px) (xi_ a_py) (us_ a_used) a b → le_ (xi_ a_px) (xi_ a_py) (us_ a_used) b a := by
        intro a b ⟨⟨ua, ub, ab, h1⟩, h2⟩
        refine ⟨⟨ub, ua, fun e => ab e.symm, fun c uc => by rw [co b a c ub ua uc]; exact Int.le_refl 0⟩, fun c uc _ => ?_⟩
        rw [ge_D12]
        exact h2 c uc (co a b c ua ub uc)
      exact ⟨sw b a, sw a b⟩
  · refine br_f (by rw [s1]; decide) (xw_area T (yw_area Bd ⟨?_, zz_mk R'⟩))
    rw [tx_area T]
end
