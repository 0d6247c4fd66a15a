section
/-! rows of kit/rows (PURE-ROWS), pasted -/
theorem pk_us {f : Nat → Int32} {k : Nat} {x : Int32} : upd f k x k = x := if_pos rfl
theorem pk_un {f : Nat → Int32} {k j : Nat} {x : Int32} (h : j ≠ k) : upd f k x j = f j := if_neg h
theorem pk_uLs {f : Nat → Int64} {k : Nat} {x : Int64} : vp_updL f k x k = x := if_pos rfl
theorem pk_uLn {f : Nat → Int64} {k j : Nat} {x : Int64} (h : j ≠ k) : vp_updL f k x j = f j := if_neg h
theorem pk_sub {a b : Nat} (h : b ≤ a) : nI a - nI b = nI (a - b) := by
  obtain ⟨c, rfl⟩ : ∃ c, a = c + b := ⟨a - b, by omega⟩
  rw [← nI_add, Int32.add_sub_cancel, Nat.add_sub_cancel]
theorem pk_m1 (n : Nat) : nI (n + 1) + (-1) = nI n := by
  rw [← nI_1, Int32.add_assoc, show (1 : Int32) + (-1) = 0 from rfl, Int32.add_zero]
theorem pk_mul (a b : Nat) : nI a * nI b = nI (a * b) := (Int32.ofNat_mul a b).symm
theorem pk_div {a d : Nat} (ha : a < 2 ^ 31) (h0 : 0 < d) (hd : d < 2 ^ 31) : nI a / nI d = nI (a / d) := by
  apply Int32.toInt_inj.mp
  rw [lg_idiv_nonneg (by rw [nI_toInt ha]; omega) (by rw [nI_toInt hd]; omega), nI_toInt ha, nI_toInt hd, nI_toInt (Nat.lt_of_le_of_lt (Nat.div_le_self a d) ha)]
  first | rfl | exact (Int.natCast_ediv _ _).symm
theorem pk_ix (x : Int32) {n : Nat} (hn : n < 2 ^ 31) : x < 0 ∨ nI n ≤ x ∨ ∃ j : Nat, j < n ∧ x = nI j := by
  by_cases h : x < 0
  · exact Or.inl h
  · obtain ⟨j, hj, rfl⟩ := nI_of h
    by_cases h2 : j < n
    · exact Or.inr (Or.inr ⟨j, h2, rfl⟩)
    · exact Or.inr (Or.inl (nI_le (by omega) hj))
theorem pk_le {x y : Int32} {A B : Prop} (a b : Nat) (f : a ≤ b → A) (g : b < a → B) (hx : x = nI a := by rfl) (hy : y = nI b := by rfl) (ha : a < 2 ^ 31 := by omega) (hb : b < 2 ^ 31 := by omega) : (x ≤ y → A) ∧ (¬ x ≤ y → B) := by
  subst hx hy
  rw [nI_leI ha hb]
  exact ⟨f, fun z => g (by omega)⟩
theorem pk_lt {x y : Int32} {A B : Prop} (a b : Nat) (f : a < b → A) (g : b ≤ a → B) (hx : x = nI a := by rfl) (hy : y = nI b := by rfl) (ha : a < 2 ^ 31 := by omega) (hb : b < 2 ^ 31 := by omega) : (x < y → A) ∧ (¬ x < y → B) := by
  subst hx hy
  rw [nI_ltI ha hb]
  exact ⟨f, fun z => g (by omega)⟩
theorem pk_eq {x y : Int32} {A B : Prop} (a b : Nat) (f : a = b → A) (g : a ≠ b → B) (hx : x = nI a := by rfl) (hy : y = nI b := by rfl) (ha : a < 2 ^ 31 := by omega) (hb : b < 2 ^ 31 := by omega) : (x = y → A) ∧ (¬ x = y → B) := by
  subst hx hy
  rw [nI_eq ha hb]
  exact ⟨f, g⟩
theorem pk_in {x : Int32} (n N : Nat) (h : n < N) (hx : x = nI n := by rfl) (hN : N < 2 ^ 31 := by omega) : vp_in x N := by
  subst hx
  exact vp_in_nI h hN
theorem pk_cl {x : Int32} (n : Nat) (hx : x = nI n := by rfl) (h : n < 2 ^ 31 := by omega) : x.toNatClampNeg = n := by
  subst hx
  exact nI_clamp h
theorem pk_lT {n : Nat} (h : n < 2 ^ 63) : (lN n).toInt = (n : Int) := lg_ofNat_toInt h
theorem pk_lLT {a b : Nat} (ha : a < 2 ^ 63) (hb : b < 2 ^ 63) : lN a < lN b ↔ a < b := by
  rw [Int64.lt_iff_toInt_lt, pk_lT ha, pk_lT hb]; omega
theorem pk_lLE {a b : Nat} (ha : a < 2 ^ 63) (hb : b < 2 ^ 63) : lN a ≤ lN b ↔ a ≤ b := by
  rw [Int64.le_iff_toInt_le, pk_lT ha, pk_lT hb]; omega
theorem pk_lEQ {a b : Nat} (ha : a < 2 ^ 63) (hb : b < 2 ^ 63) : lN a = lN b ↔ a = b := by
  rw [← Int64.toInt_inj, pk_lT ha, pk_lT hb]; omega
theorem pk_lDiv {a b : Nat} (ha : a < 2 ^ 63) (h0 : 0 < b) (hb : b < 2 ^ 63) : lN a / lN b = lN (a / b) := by
  apply Int64.toInt_inj.mp
  rw [lg_ldiv_nonneg (by rw [pk_lT ha]; omega) (by rw [pk_lT hb]; omega), pk_lT ha, pk_lT hb, pk_lT (Nat.lt_of_le_of_lt (Nat.div_le_self a b) ha)]
  rfl
end
section
/-! arrays of naturals, literals, counts, sorted lists -/
def ps_f (f : Nat → Nat) : Nat → Int32 := fun i => nI (f i)
def ps_l (f : Nat → Nat) : Nat → Int64 := fun i => lN (f i)
def ps_u (f : Nat → Nat) (i x : Nat) : Nat → Nat := fun j => if j = i then x else f j
theorem ps_fa (f : Nat → Nat) (i : Nat) : ps_f f i = nI (f i) := rfl
theorem ps_la (f : Nat → Nat) (i : Nat) : ps_l f i = lN (f i) := rfl
theorem ps_us {f : Nat → Nat} {i x : Nat} : ps_u f i x i = x := if_pos rfl
theorem ps_un {f : Nat → Nat} {i j x : Nat} (h : j ≠ i) : ps_u f i x j = f j := if_neg h
theorem ps_uf (f : Nat → Nat) (i x : Nat) : upd (ps_f f) i (nI x) = ps_f (ps_u f i x) := by
  funext j
  by_cases h : j = i
  · subst h
    rw [pk_us, ps_fa, ps_us]
  · rw [pk_un h, ps_fa, ps_fa, ps_un h]
theorem ps_ul (f : Nat → Nat) (i x : Nat) : vp_updL (ps_l f) i (lN x) = ps_l (ps_u f i x) := by
  funext j
  by_cases h : j = i
  · subst h
    rw [pk_uLs, ps_la, ps_us]
  · rw [pk_uLn h, ps_la, ps_la, ps_un h]
theorem ps_f0 : (fun _ => 0 : Nat → Int32) = ps_f (fun _ => 0) := rfl
theorem ps_l0 : (fun _ => 0 : Nat → Int64) = ps_l (fun _ => 0) := rfl
theorem ps_le0 {n : Nat} (h : n < 2 ^ 31) : (nI n ≤ 0) ↔ n = 0 := by
  rw [← nI_0, nI_leI h (by decide)]
  omega
theorem ps_nlt0 {n : Nat} (h : n < 2 ^ 31) : (nI n < 0) ↔ False := ⟨fun z => nI_pos h z, False.elim⟩
theorem ps_ge0 {n : Nat} (h : n < 2 ^ 31) : ((0 : Int32) ≤ nI n) ↔ True := ⟨fun _ => trivial, fun _ => nI_pos' h⟩
theorem ps_lit8 : (8 : Int32) = nI 8 := rfl
theorem ps_8le {n : Nat} (h : n < 2 ^ 31) : ((8 : Int32) ≤ nI n) ↔ 8 ≤ n := by
  rw [ps_lit8, nI_leI (by decide) h]
theorem ps_sub1 {n : Nat} (h : 0 < n) : nI n - 1 = nI (n - 1) := by
  obtain ⟨k, rfl⟩ : ∃ k, n = k + 1 := ⟨n - 1, by omega⟩
  exact nI_pred k
theorem ps_m1 {n : Nat} (h : 0 < n) : nI n + (-1) = nI (n - 1) := by
  obtain ⟨k, rfl⟩ : ∃ k, n = k + 1 := ⟨n - 1, by omega⟩
  exact pk_m1 k
theorem ps_10 : ((1 : Int32) = 0) ↔ False := ⟨fun h => absurd h (by decide), False.elim⟩
theorem ps_20 : ((2 : Int32) = 0) ↔ False := ⟨fun h => absurd h (by decide), False.elim⟩
theorem ps_half {n : Nat} (h : 0 < n) (hn : n < 2 ^ 31) : (nI n - 1) / 2 = nI ((n - 1) / 2) := by
  rw [ps_sub1 h]
  exact pk_div (a := n - 1) (d := 2) (by omega) (by omega) (by omega)
theorem ps_dbl (n : Nat) : 2 * nI n = nI (2 * n) := pk_mul 2 n
/-- how many below n have p -/
def ps_n (p : Nat → Bool) : Nat → Nat
  | 0 => 0
  | n + 1 => ps_n p n + (if p n = true then 1 else 0)
theorem ps_n_s (p : Nat → Bool) (n : Nat) : ps_n p (n + 1) = ps_n p n + (if p n = true then 1 else 0) := rfl
theorem ps_n_le (p : Nat → Bool) (n : Nat) : ps_n p n ≤ n := by
  induction n with
  | zero => exact Nat.le_refl 0
  | succ n ih =>
    rw [ps_n_s]
    split <;> omega
theorem ps_n_congr {p r : Nat → Bool} {n : Nat} (h : ∀ j, j < n → p j = r j) : ps_n p n = ps_n r n := by
  induction n with
  | zero => rfl
  | succ n ih =>
    rw [ps_n_s, ps_n_s, ih (fun j hj => h j (by omega)), h n (by omega)]
theorem ps_n_0 {p : Nat → Bool} {n : Nat} (h : ∀ j, j < n → p j = false) : ps_n p n = 0 := by
  induction n with
  | zero => rfl
  | succ n ih =>
    rw [ps_n_s, ih (fun j hj => h j (by omega)), h n (by omega)]
    rfl
theorem ps_n_one {p r : Nat → Bool} {n j : Nat} (hj : j < n) (h0 : p j = true) (h1 : r j = false) (h : ∀ i, i ≠ j → r i = p i) : ps_n p n = ps_n r n + 1 := by
  induction n with
  | zero => omega
  | succ n ih =>
    rw [ps_n_s, ps_n_s]
    by_cases e : j = n
    · subst e
      rw [h0, h1, ps_n_congr (p := r) (r := p) (fun i hi => h i (by omega))]
      rfl
    · rw [ih (by omega), h n (by omega)]
      omega
/-- how many below n have status v -/
def ps_c (q : Nat → Nat) (v n : Nat) : Nat := ps_n (fun j => decide (q j = v)) n
theorem ps_c_sum (q : Nat → Nat) (n : Nat) : ps_c q 0 n + ps_c q 1 n + ps_c q 2 n ≤ n := by
  induction n with
  | zero => exact Nat.le_refl 0
  | succ n ih =>
    unfold ps_c at ih ⊢
    rw [ps_n_s, ps_n_s, ps_n_s]
    simp only [decide_eq_true_eq]
    split <;> split <;> split <;> omega
/-- H takes each number of P once, at the places below N -/
def ps_B (H : Nat → Nat) (N : Nat) (P : Nat → Prop) : Prop :=
  (∀ p, p < N → P (H p)) ∧ (∀ y, P y → ∃ p, p < N ∧ H p = y) ∧ (∀ p p', p < N → p' < N → H p = H p' → p = p')
theorem ps_B_congr {H : Nat → Nat} {N : Nat} {P R : Nat → Prop} (h : ∀ y, P y ↔ R y) (B : ps_B H N P) : ps_B H N R :=
  ⟨fun p hp => (h _).mp (B.1 p hp), fun y hy => B.2.1 y ((h y).mpr hy), B.2.2⟩
theorem ps_cntN {J : Nat} : ∀ (N : Nat) (H : Nat → Nat) (p : Nat → Bool), ps_B H N (fun y => y < J ∧ p y = true) → ps_n p J = N := by
  intro N
  induction N with
  | zero =>
    intro H p B
    refine ps_n_0 fun j hj => ?_
    cases e : p j with
    | false => rfl
    | true =>
      obtain ⟨i, hi, _⟩ := B.2.1 j ⟨hj, e⟩
      omega
  | succ N ih =>
    intro H p B
    have hN := B.1 N (by omega)
    have e := ih H (fun y => if y = H N then false else p y) ⟨?_, ?_, fun i i' hi hi' => B.2.2 i i' (by omega) (by omega)⟩
    · rw [← e]
      refine ps_n_one hN.1 hN.2 (if_pos rfl) (fun i hi => if_neg hi)
    · intro i hi
      have h1 := B.1 i (by omega)
      have h2 : H i ≠ H N := fun z => by have := B.2.2 i N (by omega) (by omega) z; omega
      exact ⟨h1.1, by show (if H i = H N then false else p (H i)) = true; rw [if_neg h2]; exact h1.2⟩
    · intro y hy
      obtain ⟨hy1, hy2⟩ := hy
      by_cases z : y = H N
      · exact absurd hy2 (by show ¬ (if y = H N then false else p y) = true; rw [if_pos z]; decide)
      · have hy3 : p y = true := by
          have : (if y = H N then false else p y) = true := hy2
          rw [if_neg z] at this
          exact this
        obtain ⟨i, hi, ei⟩ := B.2.1 y ⟨hy1, hy3⟩
        refine ⟨i, ?_, ei⟩
        have : i ≠ N := fun w => z (by rw [← ei, w])
        omega
theorem ps_cnt {J N v : Nat} {H q : Nat → Nat} (B : ps_B H N (fun y => y < J ∧ q y = v)) : ps_c q v J = N :=
  ps_cntN N H _ (ps_B_congr (fun y => by rw [decide_eq_true_eq]) B)
/-- C's first c are the numbers of P, by arrival and number -/
def ps_S (C : Nat → Nat) (c : Nat) (a : Nat → Nat) (P : Nat → Prop) : Prop :=
  (∀ i, i < c → P (C i)) ∧ (∀ y, P y → ∃ i, i < c ∧ C i = y) ∧ (∀ i i', i < i' → i' < c → 24 * a (C i) + C i < 24 * a (C i') + C i')
theorem ps_S_congr {C : Nat → Nat} {c : Nat} {a : Nat → Nat} {P R : Nat → Prop} (h : ∀ y, P y ↔ R y) (S : ps_S C c a P) : ps_S C c a R :=
  ⟨fun p hp => (h _).mp (S.1 p hp), fun y hy => S.2.1 y ((h y).mpr hy), S.2.2⟩
theorem ps_S_B {C : Nat → Nat} {c : Nat} {a : Nat → Nat} {P : Nat → Prop} (S : ps_S C c a P) : ps_B C c P := by
  refine ⟨S.1, S.2.1, fun p p' hp hp' e => ?_⟩
  rcases Nat.lt_trichotomy p p' with z | z | z
  · have := S.2.2 p p' z hp'
    rw [e] at this
    omega
  · exact z
  · have := S.2.2 p' p z hp
    rw [e] at this
    omega
theorem ps_S_ext {C D : Nat → Nat} {c : Nat} {a : Nat → Nat} {P : Nat → Prop} (h : ∀ i, i < c → D i = C i) (S : ps_S C c a P) : ps_S D c a P := by
  refine ⟨fun i hi => by rw [h i hi]; exact S.1 i hi, fun y hy => ?_, fun i i' hi hi' => ?_⟩
  · obtain ⟨i, hi, e⟩ := S.2.1 y hy
    exact ⟨i, hi, by rw [h i hi]; exact e⟩
  · rw [h i (by omega), h i' hi']
    exact S.2.2 i i' hi hi'
/-- the first one goes -/
theorem ps_S_tl {C : Nat → Nat} {c : Nat} {a : Nat → Nat} {P R : Nat → Prop} (S : ps_S C (c + 1) a P) (h : ∀ y, R y ↔ P y ∧ y ≠ C 0) : ps_S (fun i => C (1 + i)) c a R := by
  refine ⟨fun i hi => (h _).mpr ⟨S.1 _ (by omega), fun e => ?_⟩, fun y hy => ?_, fun i i' hi hi' => S.2.2 _ _ (by omega) (by omega)⟩
  · have := S.2.2 0 (1 + i) (by omega) (by omega)
    have e' : C (1 + i) = C 0 := e
    rw [e'] at this
    omega
  · obtain ⟨hy1, hy2⟩ := (h y).mp hy
    obtain ⟨i, hi, e⟩ := S.2.1 y hy1
    have : i ≠ 0 := fun z => hy2 (by rw [← e, z])
    exact ⟨i - 1, by omega, by show C (1 + (i - 1)) = y; rw [show 1 + (i - 1) = i by omega]; exact e⟩
/-- one more behind the last -/
theorem ps_S_sn {C : Nat → Nat} {c y : Nat} {a : Nat → Nat} {P R : Nat → Prop} (S : ps_S C c a P) (hb : ∀ z, P z → 24 * a z + z < 24 * a y + y) (h : ∀ z, R z ↔ P z ∨ z = y) : ps_S (ps_u C c y) (c + 1) a R := by
  refine ⟨fun i hi => (h _).mpr ?_, fun z hz => ?_, fun i i' hi hi' => ?_⟩
  · by_cases e : i = c
    · rw [e, ps_us]
      exact Or.inr rfl
    · rw [ps_un e]
      exact Or.inl (S.1 i (by omega))
  · rcases (h z).mp hz with w | w
    · obtain ⟨i, hi, e⟩ := S.2.1 z w
      exact ⟨i, by omega, by rw [ps_un (by omega)]; exact e⟩
    · exact ⟨c, by omega, by rw [ps_us]; exact w.symm⟩
  · rw [ps_un (by omega : i ≠ c)]
    by_cases e : i' = c
    · rw [e, ps_us]
      exact hb _ (S.1 i (by omega))
    · rw [ps_un e]
      exact S.2.2 i i' hi (by omega)
/-- the one at place p goes -/
theorem ps_S_rm {C D : Nat → Nat} {c p : Nat} {a : Nat → Nat} {P R : Nat → Prop} (hp : p ≤ c) (S : ps_S C (c + 1) a P) (h : ∀ y, R y ↔ P y ∧ y ≠ C p) (hD : ∀ i, i < c → D i = C (if i < p then i else i + 1)) : ps_S D c a R := by
  have B := ps_S_B S
  refine ⟨fun i hi => ?_, fun y hy => ?_, fun i i' hi hi' => ?_⟩
  · rw [hD i hi]
    refine (h _).mpr ⟨S.1 _ (by split <;> omega), fun e => ?_⟩
    have := B.2.2 _ _ (by split <;> omega) (by omega) e
    split at this <;> omega
  · obtain ⟨hy1, hy2⟩ := (h y).mp hy
    obtain ⟨i, hi, e⟩ := S.2.1 y hy1
    have hip : i ≠ p := fun z => hy2 (by rw [← e, z])
    by_cases z : i < p
    · exact ⟨i, by omega, by rw [hD i (by omega), if_pos z]; exact e⟩
    · exact ⟨i - 1, by omega, by rw [hD _ (by omega), if_neg (by omega), show i - 1 + 1 = i by omega]; exact e⟩
  · rw [hD i (by omega), hD i' hi']
    exact S.2.2 _ _ (by split <;> split <;> omega) (by split <;> omega)
/-- one more at place p: those before it below it, those from it on above it -/
theorem ps_S_in {C D : Nat → Nat} {c p y : Nat} {a : Nat → Nat} {P R : Nat → Prop} (hp : p ≤ c) (S : ps_S C c a P) (h : ∀ z, R z ↔ P z ∨ z = y) (hD : ∀ i, i < c + 1 → D i = if i = p then y else C (if i < p then i else i - 1)) (hlo : ∀ i, i < p → 24 * a (C i) + C i < 24 * a y + y) (hhi : ∀ i, p ≤ i → i < c → 24 * a y + y < 24 * a (C i) + C i) : ps_S D (c + 1) a R := by
  refine ⟨fun i hi => ?_, fun z hz => ?_, fun i i' hi hi' => ?_⟩
  · rw [hD i hi]
    by_cases e : i = p
    · rw [if_pos e]
      exact (h _).mpr (Or.inr rfl)
    · rw [if_neg e]
      exact (h _).mpr (Or.inl (S.1 _ (by split <;> omega)))
  · rcases (h z).mp hz with w | w
    · obtain ⟨i, hi, e⟩ := S.2.1 z w
      by_cases z : i < p
      · exact ⟨i, by omega, by rw [hD i (by omega), if_neg (by omega), if_pos z]; exact e⟩
      · exact ⟨i + 1, by omega, by rw [hD _ (by omega), if_neg (by omega), if_neg (by omega), show i + 1 - 1 = i by omega]; exact e⟩
    · exact ⟨p, by omega, by rw [hD p (by omega), if_pos rfl]; exact w.symm⟩
  · rw [hD i (by omega), hD i' hi']
    by_cases e : i = p
    · rw [if_pos e, if_neg (by omega), if_neg (by omega)]
      exact hhi _ (by omega) (by omega)
    · rw [if_neg e]
      by_cases e' : i' = p
      · rw [if_pos e', if_pos (by omega)]
        exact hlo _ (by omega)
      · rw [if_neg e']
        exact S.2.2 _ _ (by split <;> split <;> omega) (by split <;> omega)
end
section
/-! the heap by itself: keys, order, a hole that moves -/
def ps_k (m : Nat → Nat) (x : Nat) : Nat := 24 * m x + x
def ps_H (m H : Nat → Nat) (N : Nat) : Prop := ∀ p, 0 < p → p < N → ps_k m (H ((p - 1) / 2)) ≤ ps_k m (H p)
/-- order but for the hole at i -/
def ps_O (m H : Nat → Nat) (N i : Nat) : Prop :=
  (∀ p, 0 < p → p < N → p ≠ i → (p - 1) / 2 ≠ i → ps_k m (H ((p - 1) / 2)) ≤ ps_k m (H p)) ∧
  (0 < i → ∀ p, 0 < p → p < N → (p - 1) / 2 = i → ps_k m (H ((i - 1) / 2)) ≤ ps_k m (H p))
/-- x at i is not above its parent; not below its children -/
def ps_U (m H : Nat → Nat) (i x : Nat) : Prop := 0 < i → ps_k m (H ((i - 1) / 2)) ≤ ps_k m x
def ps_D (m H : Nat → Nat) (N i x : Nat) : Prop := ∀ p, 0 < p → p < N → (p - 1) / 2 = i → ps_k m x ≤ ps_k m (H p)
theorem ps_stop {m H : Nat → Nat} {N i x : Nat} (O : ps_O m H N i) (U : ps_U m H i x) (D : ps_D m H N i x) : ps_H m (ps_u H i x) N := by
  intro p h0 hp
  by_cases e : p = i
  · subst e
    rw [ps_us, ps_un (by omega)]
    exact U h0
  · rw [ps_un e]
    by_cases e2 : (p - 1) / 2 = i
    · rw [e2, ps_us]
      exact D p h0 hp e2
    · rw [ps_un e2]
      exact O.1 p h0 hp e e2
theorem ps_up {m H : Nat → Nat} {N i : Nat} (hi : i < N) (h0 : 0 < i) (O : ps_O m H N i) : ps_O m (ps_u H i (H ((i - 1) / 2))) N ((i - 1) / 2) := by
  obtain ⟨O1, O2⟩ := O
  constructor
  · intro p hp0 hp hpr hppr
    by_cases e : (p - 1) / 2 = i
    · rw [e, ps_us, ps_un (by omega : p ≠ i)]
      exact O2 h0 p hp0 hp e
    · by_cases e2 : p = i
      · exact absurd (by rw [e2]) hppr
      · rw [ps_un e, ps_un e2]
        exact O1 p hp0 hp e2 e
  · intro hr p hp0 hp hpr
    have hrr : ((i - 1) / 2 - 1) / 2 ≠ i := by omega
    have q1 := O1 ((i - 1) / 2) hr (by omega) (by omega) hrr
    rw [ps_un hrr]
    by_cases e : p = i
    · rw [e, ps_us]
      exact q1
    · rw [ps_un e]
      have q2 := O1 p hp0 hp e (by omega)
      rw [hpr] at q2
      exact Nat.le_trans q1 q2
theorem ps_upD {m H : Nat → Nat} {N i x : Nat} (hi : i < N) (h0 : 0 < i) (O : ps_O m H N i) (hx : ps_k m x < ps_k m (H ((i - 1) / 2))) : ps_D m (ps_u H i (H ((i - 1) / 2))) N ((i - 1) / 2) x := by
  intro p hp0 hp hpr
  by_cases e : p = i
  · rw [e, ps_us]
    omega
  · rw [ps_un e]
    have q2 := O.1 p hp0 hp e (by omega)
    rw [hpr] at q2
    omega
theorem ps_dn {m H : Nat → Nat} {N i c : Nat} (hc : c < N) (hc0 : 0 < c) (hci : (c - 1) / 2 = i) (O : ps_O m H N i) (hmin : ∀ p, 0 < p → p < N → (p - 1) / 2 = i → ps_k m (H c) ≤ ps_k m (H p)) : ps_O m (ps_u H i (H c)) N c := by
  obtain ⟨O1, O2⟩ := O
  constructor
  · intro p hp0 hp hpc hppc
    by_cases e : (p - 1) / 2 = i
    · rw [e, ps_us, ps_un (by omega : p ≠ i)]
      exact hmin p hp0 hp e
    · by_cases e2 : p = i
      · subst e2
        rw [ps_us, ps_un e]
        exact O2 hp0 c hc0 hc hci
      · rw [ps_un e, ps_un e2]
        exact O1 p hp0 hp e2 e
  · intro _ p hp0 hp hpc
    rw [hci, ps_us, ps_un (by omega : p ≠ i)]
    have := O1 p hp0 hp (by omega) (by omega)
    rw [hpc] at this
    exact this
theorem ps_dnU {m H : Nat → Nat} {i c x : Nat} (hci : (c - 1) / 2 = i) (hx : ps_k m (H c) < ps_k m x) : ps_U m (ps_u H i (H c)) c x := by
  intro _
  rw [hci, ps_us]
  omega
/-- the hole at any place of a heap -/
theorem ps_Oof {m H : Nat → Nat} {N i : Nat} (hi : i < N) (h : ps_H m H N) : ps_O m H N i :=
  ⟨fun p h0 hp _ _ => h p h0 hp, fun h0 p hp0 hp e => Nat.le_trans (h i h0 hi) (by have := h p hp0 hp; rw [e] at this; exact this)⟩
theorem ps_Hle {m H : Nat → Nat} {N M : Nat} (h : ps_H m H N) (hM : M ≤ N) : ps_H m H M := fun p h0 hp => h p h0 (by omega)
theorem ps_root {m H : Nat → Nat} {N : Nat} (h : ps_H m H N) : ∀ p, p < N → ps_k m (H 0) ≤ ps_k m (H p) := by
  intro p
  induction p using Nat.strongRecOn with
  | _ p ih =>
    intro hp
    by_cases e : p = 0
    · subst e
      exact Nat.le_refl _
    · exact Nat.le_trans (ih ((p - 1) / 2) (by omega) (by omega)) (h p (by omega) hp)
/-- two places change -/
theorem ps_sw {H : Nat → Nat} {N i r x : Nat} {P : Nat → Prop} (hi : i < N) (hr : r < N) (hne : r ≠ i) (B : ps_B (ps_u H i x) N P) : ps_B (ps_u (ps_u H i (H r)) r x) N P := by
  have key : ∀ p, ps_u (ps_u H i (H r)) r x p = ps_u H i x (if p = r then i else if p = i then r else p) := by
    intro p
    by_cases e : p = r
    · rw [if_pos e, e, ps_us, ps_us]
    · rw [if_neg e, ps_un e]
      by_cases e2 : p = i
      · rw [if_pos e2, e2, ps_us, ps_un hne]
      · rw [if_neg e2, ps_un e2, ps_un e2]
  refine ⟨fun p hp => ?_, fun y hy => ?_, fun p p' hp hp' e => ?_⟩
  · rw [key]
    refine B.1 _ ?_
    split
    · exact hi
    · split
      · exact hr
      · exact hp
  · obtain ⟨p, hp, e⟩ := B.2.1 y hy
    refine ⟨if p = r then i else if p = i then r else p, ?_, ?_⟩
    · split
      · exact hi
      · split
        · exact hr
        · exact hp
    · rw [key, ← e]
      refine congrArg _ ?_
      by_cases e1 : p = r
      · rw [if_pos e1, if_neg (Ne.symm hne), if_pos rfl, e1]
      · rw [if_neg e1]
        by_cases e2 : p = i
        · rw [if_pos e2, if_pos rfl, e2]
        · rw [if_neg e2, if_neg e1, if_neg e2]
  · rw [key, key] at e
    have z := B.2.2 _ _ (by split; exact hi; split; exact hr; exact hp) (by split; exact hi; split; exact hr; exact hp') e
    clear e key B
    repeat' split at z
    all_goals omega
/-- the last one fills place p, whose own goes -/
theorem ps_Brm {H : Nat → Nat} {N p : Nat} {P : Nat → Prop} (hp : p < N) (B : ps_B H (N + 1) P) : ps_B (ps_u H p (H N)) N (fun y => P y ∧ y ≠ H p) := by
  refine ⟨fun i hi => ?_, fun y hy => ?_, fun i i' hi hi' e => ?_⟩
  · by_cases e : i = p
    · rw [e, ps_us]
      exact ⟨B.1 N (by omega), fun z => by have := B.2.2 N p (by omega) (by omega) z; omega⟩
    · rw [ps_un e]
      exact ⟨B.1 i (by omega), fun z => e (B.2.2 i p (by omega) (by omega) z)⟩
  · obtain ⟨i, hi, e⟩ := B.2.1 y hy.1
    by_cases z : i = N
    · exact ⟨p, hp, by rw [ps_us, ← z]; exact e⟩
    · have zp : i ≠ p := fun w => hy.2 (by rw [← e, w])
      exact ⟨i, by omega, by rw [ps_un zp]; exact e⟩
  · by_cases z : i = p
    · by_cases z' : i' = p
      · omega
      · rw [z, ps_us, ps_un z'] at e
        have := B.2.2 N i' (by omega) (by omega) e
        omega
    · by_cases z' : i' = p
      · rw [z', ps_us, ps_un z] at e
        have := B.2.2 i N (by omega) (by omega) e
        omega
      · rw [ps_un z, ps_un z'] at e
        exact B.2.2 i i' (by omega) (by omega) e
theorem ps_Blast {H : Nat → Nat} {N : Nat} {P : Nat → Prop} (B : ps_B H (N + 1) P) : ps_B H N (fun y => P y ∧ y ≠ H N) := by
  refine ⟨fun i hi => ⟨B.1 i (by omega), fun z => by have := B.2.2 i N (by omega) (by omega) z; omega⟩, fun y hy => ?_, fun i i' hi hi' => B.2.2 i i' (by omega) (by omega)⟩
  obtain ⟨i, hi, e⟩ := B.2.1 y hy.1
  have : i ≠ N := fun w => hy.2 (by rw [← e, w])
  exact ⟨i, by omega, e⟩
theorem ps_Badd {H : Nat → Nat} {N x : Nat} {P R : Nat → Prop} (B : ps_B H N P) (hx : ¬ P x) (h : ∀ y, R y ↔ P y ∨ y = x) : ps_B (ps_u H N x) (N + 1) R := by
  refine ⟨fun i hi => (h _).mpr ?_, fun y hy => ?_, fun i i' hi hi' e => ?_⟩
  · by_cases z : i = N
    · rw [z, ps_us]
      exact Or.inr rfl
    · rw [ps_un z]
      exact Or.inl (B.1 i (by omega))
  · rcases (h y).mp hy with w | w
    · obtain ⟨i, hi, e⟩ := B.2.1 y w
      exact ⟨i, by omega, by rw [ps_un (by omega)]; exact e⟩
    · exact ⟨N, by omega, by rw [ps_us, w]⟩
  · by_cases z : i = N
    · by_cases z' : i' = N
      · omega
      · rw [z, ps_us, ps_un z'] at e
        exact absurd (by rw [e]; exact B.1 i' (by omega)) hx
    · by_cases z' : i' = N
      · rw [z', ps_us, ps_un z] at e
        exact absurd (by rw [← e]; exact B.1 i (by omega)) hx
      · rw [ps_un z, ps_un z'] at e
        exact B.2.2 i i' (by omega) (by omega) e
end
section
/-! the heap's walks -/
section
variable {t j h c l : Int32} {k : Int64} {sz ar so ad fi wo hj cj lj : Nat → Int32}
theorem ps_so1 {post : Int32 → Prop} {m : Nat → Nat} {x y : Nat} (hx : x < 24) (hy : y < 24) (bx : m x < 2 ^ 62) (b2 : m y < 2 ^ 62) (hk : ps_k m x < ps_k m y) (hp : post 1) : wpX_sooner post (t, j, k, h, c, l, sz, ar, so, ad, fi, wo, ps_l m, hj, cj, lj) (nI x) (nI y) := by
  unfold ps_k at hk
  have vx : vp_in (nI x) 24 := vp_in_nI hx (by decide)
  have vy : vp_in (nI y) 24 := vp_in_nI hy (by decide)
  refine ⟨vx, vy, ?_⟩
  rw [nI_clamp (by omega), nI_clamp (by omega), ps_la, ps_la, pk_lLT (by omega) (by omega), pk_lEQ (by omega) (by omega), nI_leI (by omega) (by omega)]
  exact ⟨fun _ => hp, fun _ => ⟨vx, vy, fun _ => ⟨fun _ => by omega, fun _ => hp⟩, fun _ => by omega⟩⟩
theorem ps_so0 {post : Int32 → Prop} {m : Nat → Nat} {x y : Nat} (hx : x < 24) (hy : y < 24) (bx : m x < 2 ^ 62) (b2 : m y < 2 ^ 62) (hk : ¬ ps_k m x < ps_k m y) (hp : post 0) : wpX_sooner post (t, j, k, h, c, l, sz, ar, so, ad, fi, wo, ps_l m, hj, cj, lj) (nI x) (nI y) := by
  unfold ps_k at hk
  have vx : vp_in (nI x) 24 := vp_in_nI hx (by decide)
  have vy : vp_in (nI y) 24 := vp_in_nI hy (by decide)
  refine ⟨vx, vy, ?_⟩
  rw [nI_clamp (by omega), nI_clamp (by omega), ps_la, ps_la, pk_lLT (by omega) (by omega), pk_lEQ (by omega) (by omega), nI_leI (by omega) (by omega)]
  exact ⟨fun _ => by omega, fun _ => ⟨vx, vy, fun _ => ⟨fun _ => hp, fun _ => by omega⟩, fun _ => hp⟩⟩
theorem ps_push15 {m : Nat → Nat} {N x : Nat} {P : Nat → Prop} (hN : N ≤ 8) (hP : ∀ y, P y → y < 24 ∧ m y < 2 ^ 62) (hx : P x) : ∀ (i : Nat) (H : Nat → Nat), i < N → ps_B (ps_u H i x) N P → ps_O m H N i → ps_D m H N i x → ∃ H' : Nat → Nat, ps_B H' N P ∧ ps_H m H' N ∧ ∀ (post : SX → Prop) (n : Nat), i < n → post (t, j, k, h, c, l, sz, ar, so, ad, fi, wo, ps_l m, ps_f H', cj, lj) → wX_push_15 post (nI x) t j k h c l n (nI i) sz ar so ad fi wo (ps_l m) (ps_f H) cj lj := by
  intro i
  induction i using Nat.strongRecOn with
  | _ i ih =>
    intro H hi B O D
    obtain ⟨hx1, hx2⟩ := hP x hx
    have hv : vp_in (nI i) 8 := vp_in_nI (by omega) (by decide)
    by_cases h0 : i = 0
    · refine ⟨ps_u H i x, B, ps_stop O (fun z => by omega) D, fun post n hn hp => ?_⟩
      obtain ⟨n, rfl⟩ : ∃ n', n = n' + 1 := ⟨n - 1, by omega⟩
      subst h0
      refine br_t ((ps_le0 (by omega)).mpr rfl) ⟨hv, nm_r ?_ hp⟩
      rw [nI_clamp (by omega), ps_uf]
    · have hle : ¬ nI i ≤ 0 := nI_nle (by omega) (by omega)
      have eh : (nI i - 1) / 2 = nI ((i - 1) / 2) := ps_half (by omega) (by omega)
      have hv2 : vp_in ((nI i - 1) / 2) 8 := by rw [eh]; exact vp_in_nI (by omega) (by decide)
      have ec : ((nI i - 1) / 2).toNatClampNeg = (i - 1) / 2 := by rw [eh]; exact nI_clamp (by omega)
      have hr := hP _ (by have := B.1 ((i - 1) / 2) (by omega); rw [ps_un (by omega)] at this; exact this)
      by_cases hk : ps_k m x < ps_k m (H ((i - 1) / 2))
      · obtain ⟨H', h1, h2, h3⟩ := ih ((i - 1) / 2) (by omega) (ps_u H i (H ((i - 1) / 2))) (by omega) (ps_sw hi (by omega) (by omega) B) (ps_up hi (by omega) O) (ps_upD hi (by omega) O hk)
        refine ⟨H', h1, h2, fun post n hn hp => ?_⟩
        obtain ⟨n, rfl⟩ : ∃ n', n = n' + 1 := ⟨n - 1, by omega⟩
        refine br_f hle ⟨by decide, hv2, ?_⟩
        rw [ec, ps_fa]
        refine ps_so1 hx1 hr.1 hx2 hr.2 hk (br_f (by decide) ⟨by decide, hv2, hv, nm_r ?_ ⟨by decide, nm_r eh (h3 post n (by omega) hp)⟩⟩)
        rw [nI_clamp (by omega), ps_uf]
      · refine ⟨ps_u H i x, B, ps_stop O (fun _ => by omega) D, fun post n hn hp => ?_⟩
        obtain ⟨n, rfl⟩ : ∃ n', n = n' + 1 := ⟨n - 1, by omega⟩
        refine br_f hle ⟨by decide, hv2, ?_⟩
        rw [ec, ps_fa]
        refine ps_so0 hx1 hr.1 hx2 hr.2 hk (br_t rfl ⟨hv, nm_r ?_ hp⟩)
        rw [nI_clamp (by omega), ps_uf]
theorem ps_push {m H : Nat → Nat} {N x : Nat} {P R : Nat → Prop} (hN : N < 8) (hR : ∀ y, R y → y < 24 ∧ m y < 2 ^ 62) (hx : ¬ P x) (h : ∀ y, R y ↔ P y ∨ y = x) (B : ps_B H N P) (O : ps_H m H N) : ∃ H' : Nat → Nat, ps_B H' (N + 1) R ∧ ps_H m H' (N + 1) ∧ ∀ post : SX → Prop, post (t, j, k, nI (N + 1), c, l, sz, ar, so, ad, fi, wo, ps_l m, ps_f H', cj, lj) → wpX_push post (t, j, k, nI N, c, l, sz, ar, so, ad, fi, wo, ps_l m, ps_f H, cj, lj) (nI x) := by
  obtain ⟨H', h1, h2, h3⟩ := ps_push15 (t := t) (j := j) (h := nI (N + 1)) (c := c) (l := l) (k := k) (sz := sz) (ar := ar) (so := so) (ad := ad) (fi := fi) (wo := wo) (cj := cj) (lj := lj) (m := m) (N := N + 1) (x := x) (by omega) hR ((h x).mpr (Or.inr rfl)) N H (by omega) (ps_Badd B hx h) ⟨fun p hp0 hp hne _ => O p hp0 (by omega), fun h0 p hp0 hp e => by omega⟩ (fun p hp0 hp e => by omega)
  exact ⟨H', h1, h2, fun post hp => nm_r (nI_1 N) ⟨N + 1, h3 post (N + 1) (by omega) hp⟩⟩
end
end
section
/-! sinking, taking out -/
section
variable {t j c l : Int32} {k : Int64} {sz ar so ad fi wo cj lj : Nat → Int32} {m : Nat → Nat} {N x : Nat} {P : Nat → Prop}
/-- what a sink from step st on yields -/
def ps_K (t j c l : Int32) (k : Int64) (sz ar so ad fi wo cj lj : Nat → Int32) (m : Nat → Nat) (N x : Nat) (P : Nat → Prop) (d st i : Nat) (H : Nat → Nat) : Prop :=
  ∃ H' : Nat → Nat, ps_B H' N P ∧ ps_H m H' N ∧ ∀ (post : SX → Prop) (n : Nat), d < n → post (t, j, k, nI N, c, l, sz, ar, so, ad, fi, wo, ps_l m, ps_f H', cj, lj) → wX_sink_5 post (nI x) t j k (nI N) c l n (nI i) (nI st) sz ar so ad fi wo (ps_l m) (ps_f H) cj lj
theorem ps_s56a {post : SX → Prop} {J5 : Int32 → Int32 → (Nat → Int32) → (Nat → Int32) → (Nat → Int32) → (Nat → Int32) → (Nat → Int32) → (Nat → Int32) → (Nat → Int64) → (Nat → Int32) → (Nat → Int32) → (Nat → Int32) → Prop} {i st e : Nat} {H : Nat → Nat} (he : N ≤ e) (hb : e < 2 ^ 31) (K : J5 (nI i) (nI (st + 1)) sz ar so ad fi wo (ps_l m) (ps_f H) cj lj) : wX_sink_56 post J5 (nI x) (nI i) (nI st) (nI e) t j k (nI N) c l sz ar so ad fi wo (ps_l m) (ps_f H) cj lj :=
  br_t (nI_le he hb) (nm_r (nI_1 st) K)
theorem ps_s56b {post : SX → Prop} {J5 : Int32 → Int32 → (Nat → Int32) → (Nat → Int32) → (Nat → Int32) → (Nat → Int32) → (Nat → Int32) → (Nat → Int32) → (Nat → Int64) → (Nat → Int32) → (Nat → Int32) → (Nat → Int32) → Prop} {i st e : Nat} {H : Nat → Nat} (hN : N ≤ 8) (he : e < N) (hx : x < 24 ∧ m x < 2 ^ 62) (hH : H e < 24 ∧ m (H e) < 2 ^ 62) (hk : ¬ ps_k m (H e) < ps_k m x) (K : J5 (nI i) (nI (st + 1)) sz ar so ad fi wo (ps_l m) (ps_f H) cj lj) : wX_sink_56 post J5 (nI x) (nI i) (nI st) (nI e) t j k (nI N) c l sz ar so ad fi wo (ps_l m) (ps_f H) cj lj := by
  refine br_f (nI_ge he (by omega)) ⟨vp_in_nI (by omega) (by decide), ?_⟩
  rw [nI_clamp (by omega : e < 2 ^ 31), ps_fa]
  exact ps_so0 hH.1 hx.1 hH.2 hx.2 hk (br_t rfl (nm_r (nI_1 st) K))
theorem ps_s56c {post : SX → Prop} {J5 : Int32 → Int32 → (Nat → Int32) → (Nat → Int32) → (Nat → Int32) → (Nat → Int32) → (Nat → Int32) → (Nat → Int32) → (Nat → Int64) → (Nat → Int32) → (Nat → Int32) → (Nat → Int32) → Prop} {i st e : Nat} {H : Nat → Nat} (hN : N ≤ 8) (hi : i < 8) (he : e < N) (hx : x < 24 ∧ m x < 2 ^ 62) (hH : H e < 24 ∧ m (H e) < 2 ^ 62) (hk : ps_k m (H e) < ps_k m x) (K : J5 (nI e) (nI (st + 1)) sz ar so ad fi wo (ps_l m) (ps_f (ps_u H i (H e))) cj lj) : wX_sink_56 post J5 (nI x) (nI i) (nI st) (nI e) t j k (nI N) c l sz ar so ad fi wo (ps_l m) (ps_f H) cj lj := by
  have hv : vp_in (nI e) 8 := vp_in_nI (by omega) (by decide)
  refine br_f (nI_ge he (by omega)) ⟨hv, ?_⟩
  rw [nI_clamp (by omega : e < 2 ^ 31), ps_fa]
  refine ps_so1 hH.1 hx.1 hH.2 hx.2 hk (br_f (by decide) ⟨hv, vp_in_nI hi (by decide), nm_r ?_ (nm_r (nI_1 st) K)⟩)
  rw [nI_clamp (by omega), ps_uf]
theorem ps_sink5 (hN : N ≤ 8) (hP : ∀ y, P y → y < 24 ∧ m y < 2 ^ 62) (hx : P x) : ∀ (d st i : Nat) (H : Nat → Nat), st + d = 8 → i < N → ps_B (ps_u H i x) N P → ps_O m H N i → ps_U m H i x → (st ≤ i ∨ ps_D m H N i x) → ps_K t j c l k sz ar so ad fi wo cj lj m N x P d st i H := by
  intro d
  induction d with
  | zero =>
    intro st i H hst hi B O U D
    refine ⟨ps_u H i x, B, ps_stop O U (D.resolve_left (by omega)), fun post n hn hp => ?_⟩
    obtain ⟨n, rfl⟩ : ∃ n', n = n' + 1 := ⟨n - 1, by omega⟩
    refine br_t ((ps_8le (by omega)).mpr (by omega)) ⟨vp_in_nI (by omega) (by decide), nm_r ?_ hp⟩
    rw [nI_clamp (by omega), ps_uf]
  | succ d ih =>
    intro st i H hst hi B O U D
    have hx' := hP x hx
    have hh : ∀ p, p < N → p ≠ i → H p < 24 ∧ m (H p) < 2 ^ 62 := fun p hp hne => hP _ (by have := B.1 p hp; rw [ps_un hne] at this; exact this)
    have h8 : ¬ (8 : Int32) ≤ nI st := fun z => by rw [ps_8le (by omega)] at z; omega
    have ee : 2 * nI i + 1 = nI (2 * i + 1) := by rw [ps_dbl, nI_1]
    have ee1 : nI (2 * i + 1) + 1 = nI (2 * i + 1 + 1) := nI_1 _
    by_cases n1 : N ≤ 2 * i + 1
    · obtain ⟨H', b1, b2, b3⟩ := ih (st + 1) i H (by omega) hi B O U (Or.inr fun p hp0 hp e => by omega)
      refine ⟨H', b1, b2, fun post n hn hp => ?_⟩
      obtain ⟨n, rfl⟩ : ∃ n', n = n' + 1 := ⟨n - 1, by omega⟩
      refine br_f h8 (nm_r ee (br_t ?_ (ps_s56a n1 (by omega) (b3 post n (by omega) hp))))
      rw [ee1]
      exact nI_le (by omega) (by omega)
    · by_cases n2 : N ≤ 2 * i + 1 + 1
      · by_cases hk : ps_k m (H (2 * i + 1)) < ps_k m x
        · obtain ⟨H', b1, b2, b3⟩ := ih (st + 1) (2 * i + 1) (ps_u H i (H (2 * i + 1))) (by omega) (by omega) (ps_sw hi (by omega) (by omega) B) (ps_dn (by omega) (by omega) (by omega) O (fun p hp0 hp e => by rw [show p = 2 * i + 1 by omega]; exact Nat.le_refl _)) (ps_dnU (by omega) hk) (by rcases D with D | D; exact Or.inl (by omega); exact absurd (D (2 * i + 1) (by omega) (by omega) (by omega)) (by omega))
          refine ⟨H', b1, b2, fun post n hn hp => ?_⟩
          obtain ⟨n, rfl⟩ : ∃ n', n = n' + 1 := ⟨n - 1, by omega⟩
          refine br_f h8 (nm_r ee (br_t ?_ (ps_s56c hN (by omega) (by omega) hx' (hh _ (by omega) (by omega)) hk (b3 post n (by omega) hp))))
          rw [ee1]
          exact nI_le (by omega) (by omega)
        · obtain ⟨H', b1, b2, b3⟩ := ih (st + 1) i H (by omega) hi B O U (Or.inr fun p hp0 hp e => by rw [show p = 2 * i + 1 by omega]; omega)
          refine ⟨H', b1, b2, fun post n hn hp => ?_⟩
          obtain ⟨n, rfl⟩ : ∃ n', n = n' + 1 := ⟨n - 1, by omega⟩
          refine br_f h8 (nm_r ee (br_t ?_ (ps_s56b hN (by omega) hx' (hh _ (by omega) (by omega)) hk (b3 post n (by omega) hp))))
          rw [ee1]
          exact nI_le (by omega) (by omega)
      · -- two children
        have ha := hh (2 * i + 1) (by omega) (by omega)
        have hb := hh (2 * i + 1 + 1) (by omega) (by omega)
        have hn2 : ¬ nI N ≤ nI (2 * i + 1) + 1 := by
          rw [ee1]
          exact nI_ge (by omega) (by omega)
        have hva : vp_in (nI (2 * i + 1)) 8 := vp_in_nI (by omega) (by decide)
        have hvb : vp_in (nI (2 * i + 1) + 1) 8 := by rw [ee1]; exact vp_in_nI (by omega) (by decide)
        have eca : (nI (2 * i + 1)).toNatClampNeg = 2 * i + 1 := nI_clamp (by omega)
        have ecb : (nI (2 * i + 1) + 1).toNatClampNeg = 2 * i + 1 + 1 := by rw [ee1]; exact nI_clamp (by omega)
        have hch : ∀ p, 0 < p → p < N → (p - 1) / 2 = i → p = 2 * i + 1 ∨ p = 2 * i + 1 + 1 := fun p hp0 hp e => by omega
        by_cases ks : ps_k m (H (2 * i + 1 + 1)) < ps_k m (H (2 * i + 1))
        · have hmin : ∀ p, 0 < p → p < N → (p - 1) / 2 = i → ps_k m (H (2 * i + 1 + 1)) ≤ ps_k m (H p) := fun p hp0 hp e => by
            rcases hch p hp0 hp e with z | z <;> rw [z]
            omega
            exact Nat.le_refl _
          by_cases hk : ps_k m (H (2 * i + 1 + 1)) < ps_k m x
          · obtain ⟨H', b1, b2, b3⟩ := ih (st + 1) (2 * i + 1 + 1) (ps_u H i (H (2 * i + 1 + 1))) (by omega) (by omega) (ps_sw hi (by omega) (by omega) B) (ps_dn (by omega) (by omega) (by omega) O hmin) (ps_dnU (by omega) hk) (by rcases D with D | D; exact Or.inl (by omega); exact absurd (D (2 * i + 1 + 1) (by omega) (by omega) (by omega)) (by omega))
            refine ⟨H', b1, b2, fun post n hn hp => ?_⟩
            obtain ⟨n, rfl⟩ : ∃ n', n = n' + 1 := ⟨n - 1, by omega⟩
            refine br_f h8 (nm_r ee (br_f hn2 ⟨hvb, hva, ?_⟩))
            rw [eca, ecb, ps_fa, ps_fa]
            exact ps_so1 hb.1 ha.1 hb.2 ha.2 ks (br_f (by decide) (nm_r ee1 (ps_s56c hN (by omega) (by omega) hx' hb hk (b3 post n (by omega) hp))))
          · obtain ⟨H', b1, b2, b3⟩ := ih (st + 1) i H (by omega) hi B O U (Or.inr fun p hp0 hp e => by have := hmin p hp0 hp e; omega)
            refine ⟨H', b1, b2, fun post n hn hp => ?_⟩
            obtain ⟨n, rfl⟩ : ∃ n', n = n' + 1 := ⟨n - 1, by omega⟩
            refine br_f h8 (nm_r ee (br_f hn2 ⟨hvb, hva, ?_⟩))
            rw [eca, ecb, ps_fa, ps_fa]
            exact ps_so1 hb.1 ha.1 hb.2 ha.2 ks (br_f (by decide) (nm_r ee1 (ps_s56b hN (by omega) hx' hb hk (b3 post n (by omega) hp))))
        · have hmin : ∀ p, 0 < p → p < N → (p - 1) / 2 = i → ps_k m (H (2 * i + 1)) ≤ ps_k m (H p) := fun p hp0 hp e => by
            rcases hch p hp0 hp e with z | z <;> rw [z]
            exact Nat.le_refl _
            omega
          by_cases hk : ps_k m (H (2 * i + 1)) < ps_k m x
          · obtain ⟨H', b1, b2, b3⟩ := ih (st + 1) (2 * i + 1) (ps_u H i (H (2 * i + 1))) (by omega) (by omega) (ps_sw hi (by omega) (by omega) B) (ps_dn (by omega) (by omega) (by omega) O hmin) (ps_dnU (by omega) hk) (by rcases D with D | D; exact Or.inl (by omega); exact absurd (D (2 * i + 1) (by omega) (by omega) (by omega)) (by omega))
            refine ⟨H', b1, b2, fun post n hn hp => ?_⟩
            obtain ⟨n, rfl⟩ : ∃ n', n = n' + 1 := ⟨n - 1, by omega⟩
            refine br_f h8 (nm_r ee (br_f hn2 ⟨hvb, hva, ?_⟩))
            rw [eca, ecb, ps_fa, ps_fa]
            exact ps_so0 hb.1 ha.1 hb.2 ha.2 ks (br_t rfl (ps_s56c hN (by omega) (by omega) hx' ha hk (b3 post n (by omega) hp)))
          · obtain ⟨H', b1, b2, b3⟩ := ih (st + 1) i H (by omega) hi B O U (Or.inr fun p hp0 hp e => by have := hmin p hp0 hp e; omega)
            refine ⟨H', b1, b2, fun post n hn hp => ?_⟩
            obtain ⟨n, rfl⟩ : ∃ n', n = n' + 1 := ⟨n - 1, by omega⟩
            refine br_f h8 (nm_r ee (br_f hn2 ⟨hvb, hva, ?_⟩))
            rw [eca, ecb, ps_fa, ps_fa]
            exact ps_so0 hb.1 ha.1 hb.2 ha.2 ks (br_t rfl (ps_s56b hN (by omega) hx' ha hk (b3 post n (by omega) hp)))
theorem ps_to31 (hN : N ≤ 8) (hP : ∀ y, P y → y < 24 ∧ m y < 2 ^ 62) (hx : P x) : ∀ (i : Nat) (H : Nat → Nat), i < N → ps_B (ps_u H i x) N P → ps_O m H N i → ∃ H' : Nat → Nat, ps_B H' N P ∧ ps_H m H' N ∧ ∀ (post : SX → Prop) (n : Nat), i < n → post (t, j, k, nI N, c, l, sz, ar, so, ad, fi, wo, ps_l m, ps_f H', cj, lj) → wX_takeOut_31 post (nI x) t j k (nI N) c l n (nI i) sz ar so ad fi wo (ps_l m) (ps_f H) cj lj := by
  intro i
  induction i using Nat.strongRecOn with
  | _ i ih =>
    intro H hi B O
    obtain ⟨hx1, hx2⟩ := hP x hx
    have sk : ps_U m H i x → ps_K t j c l k sz ar so ad fi wo cj lj m N x P 8 0 i H := fun U => ps_sink5 hN hP hx 8 0 i H (by omega) hi B O U (Or.inl (by omega))
    by_cases h0 : i = 0
    · obtain ⟨H', b1, b2, b3⟩ := sk (fun z => by omega)
      refine ⟨H', b1, b2, fun post n hn hp => ?_⟩
      obtain ⟨n, rfl⟩ : ∃ n', n = n' + 1 := ⟨n - 1, by omega⟩
      refine br_t ((ps_le0 (by omega)).mpr h0) ?_
      exact ⟨9, b3 _ 9 (by omega) hp⟩
    · have hle : ¬ nI i ≤ 0 := nI_nle (by omega) (by omega)
      have hv : vp_in (nI i) 8 := vp_in_nI (by omega) (by decide)
      have eh : (nI i - 1) / 2 = nI ((i - 1) / 2) := ps_half (by omega) (by omega)
      have hv2 : vp_in ((nI i - 1) / 2) 8 := by rw [eh]; exact vp_in_nI (by omega) (by decide)
      have ec : ((nI i - 1) / 2).toNatClampNeg = (i - 1) / 2 := by rw [eh]; exact nI_clamp (by omega)
      have hr := hP _ (by have := B.1 ((i - 1) / 2) (by omega); rw [ps_un (by omega)] at this; exact this)
      by_cases hk : ps_k m x < ps_k m (H ((i - 1) / 2))
      · obtain ⟨H', h1, h2, h3⟩ := ih ((i - 1) / 2) (by omega) (ps_u H i (H ((i - 1) / 2))) (by omega) (ps_sw hi (by omega) (by omega) B) (ps_up hi (by omega) O)
        refine ⟨H', h1, h2, fun post n hn hp => ?_⟩
        obtain ⟨n, rfl⟩ : ∃ n', n = n' + 1 := ⟨n - 1, by omega⟩
        refine br_f hle ⟨by decide, hv2, ?_⟩
        rw [ec, ps_fa]
        refine ps_so1 hx1 hr.1 hx2 hr.2 hk (br_f (by decide) ⟨by decide, hv2, hv, nm_r ?_ ⟨by decide, nm_r eh (h3 post n (by omega) hp)⟩⟩)
        rw [nI_clamp (by omega), ps_uf]
      · obtain ⟨H', b1, b2, b3⟩ := sk (fun z => by omega)
        refine ⟨H', b1, b2, fun post n hn hp => ?_⟩
        obtain ⟨n, rfl⟩ : ∃ n', n = n' + 1 := ⟨n - 1, by omega⟩
        refine br_f hle ⟨by decide, hv2, ?_⟩
        rw [ec, ps_fa]
        exact ps_so0 hx1 hr.1 hx2 hr.2 hk (br_t rfl ⟨9, b3 _ 9 (by omega) hp⟩)
theorem ps_take {H : Nat → Nat} {p : Nat} (hN : N < 8) (hP : ∀ y, P y → y < 24 ∧ m y < 2 ^ 62) (hp : p ≤ N) (B : ps_B H (N + 1) P) (O : ps_H m H (N + 1)) : ∃ H' : Nat → Nat, ps_B H' N (fun y => P y ∧ y ≠ H p) ∧ ps_H m H' N ∧ ∀ post : SX → Prop, post (t, j, k, nI N, c, l, sz, ar, so, ad, fi, wo, ps_l m, ps_f H', cj, lj) → wpX_takeOut post (t, j, k, nI (N + 1), c, l, sz, ar, so, ad, fi, wo, ps_l m, ps_f H, cj, lj) (nI p) := by
  have hv : vp_in (nI N) 8 := vp_in_nI hN (by decide)
  have ec : ps_f H (nI N).toNatClampNeg = nI (H N) := by rw [nI_clamp (by omega)]; rfl
  by_cases e : p = N
  · refine ⟨H, by rw [e]; exact ps_Blast B, ps_Hle O (by omega), fun post hq => ?_⟩
    exact nm_r (nI_pred N) ⟨hv, nm_r ec (br_t (by rw [e]) hq)⟩
  · have hxn : H N ≠ H p := fun z => by have := B.2.2 N p (by omega) (by omega) z; omega
    obtain ⟨H', b1, b2, b3⟩ := ps_to31 (t := t) (j := j) (c := c) (l := l) (k := k) (sz := sz) (ar := ar) (so := so) (ad := ad) (fi := fi) (wo := wo) (cj := cj) (lj := lj) (m := m) (N := N) (x := H N) (P := fun y => P y ∧ y ≠ H p) (by omega) (fun y hy => hP y hy.1) ⟨B.1 N (by omega), hxn⟩ p H (by omega) (ps_Brm (by omega) B) (ps_Oof (by omega) (ps_Hle O (by omega)))
    refine ⟨H', b1, b2, fun post hq => ?_⟩
    exact nm_r (nI_pred N) ⟨hv, nm_r ec (br_f (fun z => e ((nI_eq (by omega) (by omega)).mp z)) ⟨p + 1, b3 post (p + 1) (by omega) hq⟩)⟩
end
end
section
/-! the invariant; arrivals -/
def ps_y1 (T s a q g : Nat) (A F : Int32) : Prop :=
  1 ≤ s ∧ s ≤ 100000 ∧ a ≤ T + 1000 ∧ q ≤ 4 ∧ (q = 4 → g = 1) ∧ (q ≠ 4 → g = 0) ∧ (q = 3 → 0 ≤ F) ∧ (q ≤ 2 → F < 0) ∧ (q = 2 ∨ q = 3 → 0 ≤ A) ∧ (q < 2 → A < 0)
def ps_Y (T J : Nat) (s a q g : Nat → Nat) (A F : Nat → Int32) : Prop := ∀ y, y < J → ps_y1 T (s y) (a y) (q y) (g y) (A y) (F y)
def ps_W (J K : Nat) (s q w wx m : Nat → Nat) : Prop := ∀ y, y < J → (q y = 2 → m y + w y = K + s y ∧ w y < s y) ∧ (q y ≠ 2 → wx y = w y) ∧ (q y < 2 → w y = 0)
def ps_T (τ J : Nat) (a q : Nat → Nat) : Prop := ∀ y, y < J → (q y = 0 → τ ≤ a y) ∧ (q y = 1 → a y < τ)
def ps_I (τ T J K h c l : Nat) (s a q w wx m g H C L : Nat → Nat) (A F : Nat → Int32) : Prop :=
  (J ≤ 24 ∧ h ≤ 8 ∧ K ≤ 840 * T ∧ T < 2 ^ 24) ∧ ps_Y T J s a q g A F ∧ ps_W J K s q w wx m ∧ ps_T τ J a q ∧
  ps_S C c a (fun y => y < J ∧ q y = 0) ∧ ps_S L l a (fun y => y < J ∧ q y = 1) ∧ ps_B H h (fun y => y < J ∧ q y = 2) ∧ ps_H m H h
section
variable {t j h l : Int32} {k : Int64} {sz ar so ad fi wo hj lj : Nat → Int32} {mk : Nat → Int64}
theorem ps_a83 {c d : Nat} (hc : c + d ≤ 24) : ∀ (e i : Nat) (C : Nat → Nat), i + e = c → ∃ C' : Nat → Nat, (∀ p, p < c → C' p = if p < i then C p else C (p + d)) ∧ ∀ (post : SX → Prop) (n : Nat), e < n → post (t, j, k, h, nI c, l, sz, ar, so, ad, fi, wo, mk, hj, ps_f C', lj) → wX_arrive_83 post (nI d) t j k h (nI c) l n (nI i) sz ar so ad fi wo mk hj (ps_f C) lj := by
  intro e
  induction e with
  | zero =>
    intro i C hi
    refine ⟨C, fun p hp => (if_pos (by omega)).symm, fun post n hn hp => ?_⟩
    obtain ⟨n, rfl⟩ : ∃ n', n = n' + 1 := ⟨n - 1, by omega⟩
    exact br_t (nI_le (by omega) (by omega)) hp
  | succ e ih =>
    intro i C hi
    obtain ⟨C', h1, h2⟩ := ih (i + 1) (ps_u C i (C (i + d))) (by omega)
    refine ⟨C', fun p hp => ?_, fun post n hn hp => ?_⟩
    · rw [h1 p hp]
      by_cases z : p < i
      · rw [if_pos (by omega), if_pos z, ps_un (by omega)]
      · rw [if_neg z]
        by_cases z2 : p = i
        · rw [if_pos (by omega), z2, ps_us]
        · rw [if_neg (by omega), ps_un (by omega)]
    · obtain ⟨n, rfl⟩ : ∃ n', n = n' + 1 := ⟨n - 1, by omega⟩
      refine br_f (nI_ge (by omega) (by omega)) ?_
      rw [nI_add]
      refine ⟨vp_in_nI (by omega) (by decide), vp_in_nI (by omega) (by decide), nm_r ?_ (nm_r (nI_1 i) (h2 post n (by omega) hp))⟩
      rw [nI_clamp (by omega), nI_clamp (by omega), ps_fa, ps_uf]
theorem ps_a71 {d n : Nat} {C : Nat → Nat} (hc : d + n ≤ 24) : ∃ C' : Nat → Nat, (∀ p, p < d → C' p = C (p + n)) ∧ ∀ post : SX → Prop, post (t, j, k, h, nI d, l, sz, ar, so, ad, fi, wo, mk, hj, ps_f C', lj) → wX_arrive_71 post (nI n) t j k h (nI (n + d)) l sz ar so ad fi wo mk hj (ps_f C) lj := by
  obtain ⟨C', h1, h2⟩ := ps_a83 (t := t) (j := j) (h := h) (l := l) (k := k) (sz := sz) (ar := ar) (so := so) (ad := ad) (fi := fi) (wo := wo) (hj := hj) (lj := lj) (mk := mk) hc d 0 C (by omega)
  refine ⟨C', fun p hp => (h1 p hp).trans (if_neg (by omega)), fun post hp => nm_r ?_ ⟨d + 1, h2 post (d + 1) (by omega) hp⟩⟩
  rw [pk_sub (by omega)]
  exact congrArg nI (by omega)
end
section
variable {h : Int32} {k : Int64} {sz ad fi wo hj : Nat → Int32} {mk : Nat → Int64}
theorem ps_a2 {T J c : Nat} {a C : Nat → Nat} (hT : T < 2 ^ 24) (hJ : J ≤ 24) (ha : ∀ y, y < J → a y < 2 ^ 30) (hc : c ≤ 24) : ∀ (d n l : Nat) (q L : Nat → Nat), n + d = c → ps_S (fun i => C (n + i)) d a (fun y => y < J ∧ q y = 0) → ps_S L l a (fun y => y < J ∧ q y = 1) → (∀ y, y < J → (q y = 0 → T ≤ a y) ∧ (q y = 1 → a y ≤ T)) → (∀ x y, x < J → y < J → q x = 1 → q y = 0 → 24 * a x + x < 24 * a y + y) →
    ∃ (c' l' : Nat) (q' C' L' : Nat → Nat), ps_S C' c' a (fun y => y < J ∧ q' y = 0) ∧ ps_S L' l' a (fun y => y < J ∧ q' y = 1) ∧ ps_T (T + 1) J a q' ∧ (∀ y, q' y = q y ∨ (y < J ∧ q y = 0 ∧ q' y = 1)) ∧ ∀ (post : SX → Prop) (n' : Nat), d < n' → post (nI T, nI J, k, h, nI c', nI l', sz, ps_f a, ps_f q', ad, fi, wo, mk, hj, ps_f C', ps_f L') → wX_arrive_2 post (nI T) (nI J) k h (nI c) n' (nI n) (nI l) sz (ps_f a) (ps_f q) ad fi wo mk hj (ps_f C) (ps_f L) := by
  intro d
  induction d with
  | zero =>
    intro n l q L hn SC SL ht hx
    obtain ⟨C', h1, h2⟩ := ps_a71 (t := nI T) (j := nI J) (h := h) (l := nI l) (k := k) (sz := sz) (ar := ps_f a) (so := ps_f q) (ad := ad) (fi := fi) (wo := wo) (hj := hj) (lj := ps_f L) (mk := mk) (d := 0) (n := n) (C := C) (by omega)
    refine ⟨0, l, q, C', L, ps_S_ext (fun i hi => by omega) SC, SL, fun y hy => ⟨fun e => ?_, fun e => by have := (ht y hy).2 e; omega⟩, fun y => Or.inl rfl, fun post n' hn' hp => ?_⟩
    · obtain ⟨i, hi, _⟩ := SC.2.1 y ⟨hy, e⟩
      omega
    · obtain ⟨n', rfl⟩ : ∃ n'', n' = n'' + 1 := ⟨n' - 1, by omega⟩
      subst hn
      exact br_t (nI_le (by omega) (by omega)) (h2 post hp)
  | succ d ih =>
    intro n l q L hn SC SL ht hx
    have h0 := SC.1 0 (by omega)
    have h0J : C n < J := h0.1
    have h0q : q (C n) = 0 := h0.2
    have e1 := ps_cnt (ps_S_B SC)
    have e2 := ps_cnt (ps_S_B SL)
    have e3 := ps_c_sum q J
    have haC := ha _ h0J
    have ecn : (nI n).toNatClampNeg = n := nI_clamp (by omega)
    have eCn : ps_f C n = nI (C n) := rfl
    have ecC : (nI (C n)).toNatClampNeg = C n := nI_clamp (by omega)
    have eaC : ps_f a (C n) = nI (a (C n)) := rfl
    have hvn : vp_in (nI n) 24 := vp_in_nI (by omega) (by decide)
    have hvC : vp_in (nI (C n)) 24 := vp_in_nI (by omega) (by decide)
    have hcc : ¬ nI c ≤ nI n := nI_ge (by omega) (by omega)
    by_cases hT2 : T < a (C n)
    · obtain ⟨C', h1, h2⟩ := ps_a71 (t := nI T) (j := nI J) (h := h) (l := nI l) (k := k) (sz := sz) (ar := ps_f a) (so := ps_f q) (ad := ad) (fi := fi) (wo := wo) (hj := hj) (lj := ps_f L) (mk := mk) (d := d + 1) (n := n) (C := C) (by omega)
      refine ⟨d + 1, l, q, C', L, ps_S_ext (fun i hi => by rw [h1 i hi, Nat.add_comm]) SC, SL, fun y hy => ⟨fun e => ?_, fun e => by have := (ht y hy).2 e; omega⟩, fun y => Or.inl rfl, fun post n' hn' hp => ?_⟩
      · obtain ⟨i, hi, ei⟩ := SC.2.1 y ⟨hy, e⟩
        have ei' : C (n + i) = y := ei
        by_cases z : i = 0
        · subst z
          rw [← ei']
          exact hT2
        · have := SC.2.2 0 i (by omega) hi
          have t2 : 24 * a (C n) + C n < 24 * a (C (n + i)) + C (n + i) := this
          rw [ei'] at t2
          omega
      · obtain ⟨n', rfl⟩ : ∃ n'', n' = n'' + 1 := ⟨n' - 1, by omega⟩
        subst hn
        refine br_f hcc ⟨hvn, ?_⟩
        rw [ecn, eCn, ecC, eaC]
        exact ⟨hvC, br_t ((nI_ltI (by omega) (by omega)).mpr hT2) (h2 post hp)⟩
    · have q1 : ∀ y, y ≠ C n → ps_u q (C n) 1 y = q y := fun y hy => ps_un hy
      have q2 : ps_u q (C n) 1 (C n) = 1 := ps_us
      have hmin : ∀ y, y < J → q y = 0 → y ≠ C n → 24 * a (C n) + C n < 24 * a y + y := by
        intro y hy e hne
        obtain ⟨i, hi, ei⟩ := SC.2.1 y ⟨hy, e⟩
        have ei' : C (n + i) = y := ei
        have hi0 : i ≠ 0 := fun z => by subst z; exact hne ei'.symm
        have := SC.2.2 0 i (by omega) hi
        have t2 : 24 * a (C n) + C n < 24 * a (C (n + i)) + C (n + i) := this
        rw [ei'] at t2
        exact t2
      obtain ⟨c', l', q', C', L', b1, b2, b3, b4, b5⟩ := ih (n + 1) (l + 1) (ps_u q (C n) 1) (ps_u L l (C n)) (by omega)
        (ps_S_ext (fun i hi => by show C (n + 1 + i) = C (n + (1 + i)); rw [Nat.add_assoc]) (ps_S_tl SC (R := fun y => y < J ∧ ps_u q (C n) 1 y = 0) (fun y => by
          show (y < J ∧ ps_u q (C n) 1 y = 0) ↔ (y < J ∧ q y = 0) ∧ y ≠ C n
          by_cases z : y = C n
          · subst z; rw [q2]; omega
          · rw [q1 y z]; omega)))
        (ps_S_sn SL (fun z hz => hx z (C n) hz.1 h0J hz.2 h0q) (fun y => by
          show (y < J ∧ ps_u q (C n) 1 y = 1) ↔ (y < J ∧ q y = 1) ∨ y = C n
          by_cases z : y = C n
          · subst z; rw [q2]; omega
          · rw [q1 y z]; omega))
        (fun y hy => by
          have := ht y hy
          by_cases z : y = C n
          · subst z; rw [q2]; omega
          · rw [q1 y z]; exact this)
        (fun x y hxJ hyJ ex ey => by
          by_cases z : y = C n
          · subst z; rw [q2] at ey; omega
          · rw [q1 y z] at ey
            by_cases z2 : x = C n
            · subst z2; exact hmin y hyJ ey z
            · rw [q1 x z2] at ex
              exact hx x y hxJ hyJ ex ey)
      refine ⟨c', l', q', C', L', b1, b2, b3, fun y => ?_, fun post n' hn' hp => ?_⟩
      · have := b4 y
        by_cases z : y = C n
        · subst z; rw [q2] at this; right; refine ⟨h0J, h0q, ?_⟩; omega
        · rw [q1 y z] at this; exact this
      · obtain ⟨n', rfl⟩ : ∃ n'', n' = n'' + 1 := ⟨n' - 1, by omega⟩
        refine br_f hcc ⟨hvn, ?_⟩
        rw [ecn, eCn, ecC, eaC]
        have hvl : vp_in (nI l) 24 := vp_in_nI (by omega) (by decide)
        refine ⟨hvC, br_f (fun z => hT2 ((nI_ltI (by omega) (by omega)).mp z)) ⟨hvn, hvC, nm_r (ps_uf q (C n) 1) ⟨hvn, hvl, nm_r ?_ (nm_r (nI_1 l) (nm_r (nI_1 n) (b5 post n' (by omega) hp)))⟩⟩⟩
        rw [nI_clamp (by omega), ps_uf]
end
section
variable {T J K h c l : Nat} {s a q w wx m g H C L : Nat → Nat} {A F : Nat → Int32}
theorem ps_arrive (I : ps_I T T J K h c l s a q w wx m g H C L A F) : ∃ (c' l' : Nat) (q' C' L' : Nat → Nat), ps_I (T + 1) T J K h c' l' s a q' w wx m g H C' L' A F ∧ ∀ post : SX → Prop, post (nI T, nI J, lN K, nI h, nI c', nI l', ps_f s, ps_f a, ps_f q', A, F, ps_f wx, ps_l m, ps_f H, ps_f C', ps_f L') → wpX_arrive post (nI T, nI J, lN K, nI h, nI c, nI l, ps_f s, ps_f a, ps_f q, A, F, ps_f wx, ps_l m, ps_f H, ps_f C, ps_f L) := by
  obtain ⟨⟨i1, i2, i3, i4⟩, IY, IW, IT, IC, IL, IB, IH⟩ := I
  have e1 := ps_cnt (ps_S_B IC)
  have e3 := ps_c_sum q J
  obtain ⟨c', l', q', C', L', b1, b2, b3, b4, b5⟩ := ps_a2 (h := nI h) (k := lN K) (sz := ps_f s) (ad := A) (fi := F) (wo := ps_f wx) (hj := ps_f H) (mk := ps_l m) (T := T) (J := J) (c := c) (a := a) (C := C) i4 i1 (fun y hy => by have := (IY y hy).2.2.1; omega) (by omega) c 0 l q L (by omega) (ps_S_ext (fun i hi => by show C (0 + i) = C i; rw [Nat.zero_add]) IC) IL (fun y hy => ⟨(IT y hy).1, fun e => Nat.le_of_lt ((IT y hy).2 e)⟩) (fun x y hx hy ex ey => by have := (IT x hx).2 ex; have := (IT y hy).1 ey; omega)
  refine ⟨c', l', q', C', L', ⟨⟨i1, i2, i3, i4⟩, ?_, ?_, b3, b1, b2, ps_B_congr (fun y => ?_) IB, IH⟩, fun post hp => ⟨c + 1, b5 post (c + 1) (by omega) hp⟩⟩
  · intro y hy
    have z := IY y hy
    rcases b4 y with e | ⟨_, e, e'⟩
    · rw [e]; exact z
    · rw [e] at z
      rw [e']
      obtain ⟨z1, z2, z3, z4, z5, z6, z7, z8, z9, z10⟩ := z
      exact ⟨z1, z2, z3, by omega, fun f => by omega, fun _ => z6 (by omega), fun f => by omega, fun _ => z8 (by omega), fun f => by omega, fun _ => z10 (by omega)⟩
  · intro y hy
    have z := IW y hy
    rcases b4 y with e | ⟨_, e, e'⟩
    · rw [e]; exact z
    · rw [e] at z
      rw [e']
      exact ⟨fun f => by omega, fun _ => z.2.1 (by omega), fun _ => z.2.2 (by omega)⟩
  · rcases b4 y with e | ⟨_, e, e'⟩
    · show (y < J ∧ q y = 2) ↔ (y < J ∧ q' y = 2)
      rw [e]
    · show (y < J ∧ q y = 2) ↔ (y < J ∧ q' y = 2)
      rw [e, e']
      omega
end
end
section
/-! the reference's walks: state, counts, the front of the line, the shares -/
def ps_y (T : Nat) (a q : Nat → Nat) (y : Nat) : Nat := if q y < 2 then (if T ≤ a y then 0 else 1) else q y
def ps_R (a q : Nat → Nat) (i : Nat) (x : Int32) : Prop :=
  (x = -1 ∧ ∀ y, y < i → q y ≠ 1) ∨ ∃ b, x = nI b ∧ b < i ∧ q b = 1 ∧ ∀ y, y < i → q y = 1 → 24 * a b + b ≤ 24 * a y + y
section
variable {T J : Nat} {s a q w g : Nat → Nat} {A F : Nat → Int32}
theorem ps_known1 {post : Int32 → Prop} {y : Nat} (hJ : J ≤ 24) (hy : y < J) (hp : post 1) : wpY_known post (nI J, nI T, ps_f s, ps_f a, ps_f w, A, F, ps_f g) (nI y) :=
  br_f (nI_pos (by omega)) (br_f (nI_ge hy (by omega)) hp)
theorem ps_ystate (hJ : J ≤ 24) (hT : T < 2 ^ 24) (Y : ps_Y T J s a q g A F) {post : Int32 → Prop} {y : Nat} (hy : y < J) (hp : post (nI (ps_y T a q y))) : wpY_state post (nI J, nI T, ps_f s, ps_f a, ps_f w, A, F, ps_f g) (nI y) := by
  obtain ⟨z1, z2, z3, z4, z5, z6, z7, z8, z9, z10⟩ := Y y hy
  have hv : vp_in (nI y) 24 := vp_in_nI (by omega) (by decide)
  have ec : (nI y).toNatClampNeg = y := nI_clamp (by omega)
  unfold wpY_state
  refine ps_known1 hJ hy ?_
  refine br_f (by decide) ⟨hv, ?_⟩
  rw [ec, ps_fa, ps_fa]
  unfold ps_y at hp
  by_cases e4 : q y = 4
  · rw [if_neg (by omega), e4] at hp
    rw [z5 e4]
    exact br_f (by decide) hp
  · rw [z6 e4]
    refine br_t rfl ⟨hv, ?_⟩
    by_cases e3 : q y = 3
    · rw [if_neg (by omega), e3] at hp
      exact br_f (Int32.not_lt.mpr (z7 e3)) hp
    · refine br_t (z8 (by omega)) ⟨hv, ?_⟩
      by_cases e2 : q y = 2
      · rw [if_neg (by omega), e2] at hp
        exact br_f (Int32.not_lt.mpr (z9 (Or.inl e2))) hp
      · refine br_t (z10 (by omega)) ⟨hv, ?_⟩
        rw [if_pos (by omega)] at hp
        by_cases ht : T ≤ a y
        · rw [if_pos ht] at hp
          exact br_t ((nI_leI (by omega) (by omega)).mpr ht) hp
        · rw [if_neg ht] at hp
          exact br_f (fun z => ht ((nI_leI (by omega) (by omega)).mp z)) hp
theorem ps_yin4 (hJ : J ≤ 24) (hT : T < 2 ^ 24) (Y : ps_Y T J s a q g A F) {v : Nat} (hv : v < 2 ^ 31) (post : Int32 → Prop) (hp : post (nI (ps_n (fun y => decide (ps_y T a q y = v)) J))) : ∀ (d i : Nat), i + d = J → ∀ n, d < n → wY_inState_4 post (nI v) (nI J) (nI T) (ps_f s) (ps_f a) (ps_f w) A F (ps_f g) n (nI (ps_n (fun y => decide (ps_y T a q y = v)) i)) (nI i) := by
  intro d
  induction d with
  | zero =>
    intro i hi n hn
    obtain ⟨n, rfl⟩ : ∃ n', n = n' + 1 := ⟨n - 1, by omega⟩
    have : i = J := by omega
    subst this
    exact br_t (nI_le (by omega) (by omega)) hp
  | succ d ih =>
    intro i hi n hn
    obtain ⟨n, rfl⟩ : ∃ n', n = n' + 1 := ⟨n - 1, by omega⟩
    have K := ih (i + 1) (by omega) n (by omega)
    have hq : ps_y T a q i ≤ 4 := by
      have := (Y i (by omega)).2.2.2.1
      unfold ps_y
      split
      · split <;> omega
      · exact this
    rw [ps_n_s] at K
    refine br_f (nI_ge (by omega) (by omega)) (ps_ystate hJ hT Y (by omega) ?_)
    by_cases e : ps_y T a q i = v
    · rw [if_pos (by rw [decide_eq_true_eq]; exact e)] at K
      exact br_t (congrArg nI e) (nm_r (nI_1 _) (nm_r (nI_1 _) K))
    · rw [if_neg (by rw [decide_eq_true_eq]; exact e)] at K
      exact br_f (fun z => e ((nI_eq (by omega) hv).mp z)) (nm_r (nI_1 _) K)
theorem ps_yserved (hJ : J ≤ 24) (hT : T < 2 ^ 24) (Y : ps_Y T J s a q g A F) {post : Int32 → Prop} (hp : post (nI (ps_c q 2 J))) : wpY_served post (nI J, nI T, ps_f s, ps_f a, ps_f w, A, F, ps_f g) := by
  refine ⟨J + 1, ps_yin4 hJ hT Y (v := 2) (by decide) _ ?_ J 0 (by omega) (J + 1) (by omega)⟩
  rw [ps_n_congr (r := fun y => decide (q y = 2))]
  · exact hp
  · intro y hy
    refine decide_eq_decide.mpr ?_
    unfold ps_y
    split
    · split <;> omega
    · exact Iff.rfl
theorem ps_ywaiting (hJ : J ≤ 24) (hT : T < 2 ^ 24) (Y : ps_Y T J s a q g A F) (tm : ps_T T J a q) {post : Int32 → Prop} (hp : post (nI (ps_c q 1 J))) : wpY_waiting post (nI J, nI T, ps_f s, ps_f a, ps_f w, A, F, ps_f g) := by
  refine ⟨J + 1, ps_yin4 hJ hT Y (v := 1) (by decide) _ ?_ J 0 (by omega) (J + 1) (by omega)⟩
  rw [ps_n_congr (r := fun y => decide (q y = 1))]
  · exact hp
  · intro y hy
    have := tm y hy
    refine decide_eq_decide.mpr ?_
    unfold ps_y
    split
    · split <;> omega
    · exact Iff.rfl
theorem ps_yf4 (hJ : J ≤ 24) (hT : T < 2 ^ 24) (Y : ps_Y T J s a q g A F) (tm : ps_T (T + 1) J a q) : ∀ (d i : Nat) (x : Int32), i + d = J → ps_R a q i x → ∃ r, ps_R a q J r ∧ ∀ (post : Int32 → Prop) (n : Nat), d < n → post r → wY_front_4 post (nI J) (nI T) (ps_f s) (ps_f a) (ps_f w) A F (ps_f g) n x (nI i) := by
  intro d
  induction d with
  | zero =>
    intro i x hi R
    have : i = J := by omega
    subst this
    refine ⟨x, R, fun post n hn hp => ?_⟩
    obtain ⟨n, rfl⟩ : ∃ n', n = n' + 1 := ⟨n - 1, by omega⟩
    exact br_t (nI_le (by omega) (by omega)) hp
  | succ d ih =>
    intro i x hi R
    obtain ⟨z1, z2, z3, z4, z5, z6, z7, z8, z9, z10⟩ := Y i (by omega)
    have ht := tm i (by omega)
    have hv : vp_in (nI i) 24 := vp_in_nI (by omega) (by decide)
    have ec : (nI i).toNatClampNeg = i := nI_clamp (by omega)
    have hji : ¬ nI J ≤ nI i := nI_ge (by omega) (by omega)
    by_cases e1 : q i = 1
    · have g0 : ps_f g i = 0 := by rw [ps_fa, z6 (by omega)]; rfl
      have a0 : ¬ (0 : Int32) ≤ A i := Int32.not_le.mpr (z10 (by omega))
      have t0 : ¬ nI T < ps_f a i := nI_nlt (by have := ht.2 e1; omega) (by omega)
      rcases R with ⟨ex, hno⟩ | ⟨b, ex, hb, eb, hmin⟩
      · obtain ⟨r, R', hr⟩ := ih (i + 1) (nI i) (by omega) (Or.inr ⟨i, rfl, by omega, e1, fun y hy ey => by
          by_cases z : y = i
          · rw [z]; exact Nat.le_refl _
          · exact absurd ey (hno y (by omega))⟩)
        refine ⟨r, R', fun post n hn hp => ?_⟩
        obtain ⟨n, rfl⟩ : ∃ n', n = n' + 1 := ⟨n - 1, by omega⟩
        refine br_f hji ⟨hv, ?_⟩
        rw [ec]
        subst ex
        exact br_t g0 ⟨hv, br_f a0 ⟨hv, br_f t0 (br_f (by decide) (br_t (by decide) (nm_r (nI_1 i) (hr post n (by omega) hp))))⟩⟩
      · have hab := (Y b (by omega)).2.2.1
        have ecb : (nI b).toNatClampNeg = b := nI_clamp (by omega)
        have hvb : vp_in (nI b) 24 := vp_in_nI (by omega) (by decide)
        by_cases cmp : a b ≤ a i
        · obtain ⟨r, R', hr⟩ := ih (i + 1) x (by omega) (Or.inr ⟨b, ex, by omega, eb, fun y hy ey => by
            by_cases z : y = i
            · rw [z]; omega
            · exact hmin y (by omega) ey⟩)
          refine ⟨r, R', fun post n hn hp => ?_⟩
          obtain ⟨n, rfl⟩ : ∃ n', n = n' + 1 := ⟨n - 1, by omega⟩
          refine br_f hji ⟨hv, ?_⟩
          rw [ec]
          subst ex
          refine br_t g0 ⟨hv, br_f a0 ⟨hv, br_f t0 (br_f (by decide) (br_f (nI_pos (by omega)) ⟨hv, hvb, br_t ?_ (nm_r (nI_1 i) (hr post n (by omega) hp))⟩))⟩⟩
          rw [ec, ecb]
          exact nI_le cmp (by omega)
        · obtain ⟨r, R', hr⟩ := ih (i + 1) (nI i) (by omega) (Or.inr ⟨i, rfl, by omega, e1, fun y hy ey => by
            by_cases z : y = i
            · rw [z]; exact Nat.le_refl _
            · have := hmin y (by omega) ey
              omega⟩)
          refine ⟨r, R', fun post n hn hp => ?_⟩
          obtain ⟨n, rfl⟩ : ∃ n', n = n' + 1 := ⟨n - 1, by omega⟩
          refine br_f hji ⟨hv, ?_⟩
          rw [ec]
          subst ex
          refine br_t g0 ⟨hv, br_f a0 ⟨hv, br_f t0 (br_f (by decide) (br_f (nI_pos (by omega)) ⟨hv, hvb, br_f ?_ (nm_r (nI_1 i) (hr post n (by omega) hp))⟩))⟩⟩
          rw [ec, ecb]
          exact nI_ge (by omega) (by omega)
    · obtain ⟨r, R', hr⟩ := ih (i + 1) x (by omega) (by
        rcases R with ⟨ex, hno⟩ | ⟨b, ex, hb, eb, hmin⟩
        · refine Or.inl ⟨ex, fun y hy => ?_⟩
          by_cases z : y = i
          · rw [z]; exact e1
          · exact hno y (by omega)
        · refine Or.inr ⟨b, ex, by omega, eb, fun y hy ey => ?_⟩
          by_cases z : y = i
          · exact absurd (by rw [← z]; exact ey) e1
          · exact hmin y (by omega) ey)
      refine ⟨r, R', fun post n hn hp => ?_⟩
      obtain ⟨n, rfl⟩ : ∃ n', n = n' + 1 := ⟨n - 1, by omega⟩
      refine br_f hji ⟨hv, ?_⟩
      rw [ec]
      by_cases e4 : q i = 4
      · refine br_f ?_ (br_t rfl (nm_r (nI_1 i) (hr post n (by omega) hp)))
        rw [ps_fa, z5 e4]
        decide
      · refine br_t ?_ ⟨hv, ?_⟩
        · rw [ps_fa, z6 e4]
          rfl
        · by_cases e0 : q i = 0
          · refine br_f (Int32.not_le.mpr (z10 (by omega))) ⟨hv, br_t ?_ (br_t rfl (nm_r (nI_1 i) (hr post n (by omega) hp)))⟩
            exact nI_lt (by have := ht.1 e0; omega) (by omega)
          · exact br_t (z9 (by omega)) (br_t rfl (nm_r (nI_1 i) (hr post n (by omega) hp)))
theorem ps_yfront (hJ : J ≤ 24) (hT : T < 2 ^ 24) (Y : ps_Y T J s a q g A F) (tm : ps_T (T + 1) J a q) : ∃ r, ps_R a q J r ∧ ∀ post : Int32 → Prop, post r → wpY_front post (nI J, nI T, ps_f s, ps_f a, ps_f w, A, F, ps_f g) := by
  obtain ⟨r, R, hr⟩ := ps_yf4 (w := w) hJ hT Y tm J 0 (-1) (by omega) (Or.inl ⟨rfl, fun y hy => by omega⟩)
  exact ⟨r, R, fun post hp => ⟨J + 1, hr post (J + 1) (by omega) hp⟩⟩
theorem ps_yopen2 (hJ : J ≤ 24) (Y : ps_Y T J s a q g A F) : ∀ (d i : Nat), i + d = J → ∃ r : Int32, ((r = 0 ∧ ∀ y, i ≤ y → y < J → 3 ≤ q y) ∨ r = 1) ∧ ∀ (post : Int32 → Prop) (n : Nat), d < n → post r → wY_anyOpen_2 post (nI J) (nI T) (ps_f s) (ps_f a) (ps_f w) A F (ps_f g) n (nI i) := by
  intro d
  induction d with
  | zero =>
    intro i hi
    refine ⟨0, Or.inl ⟨rfl, fun y h1 h2 => by omega⟩, fun post n hn hp => ?_⟩
    obtain ⟨n, rfl⟩ : ∃ n', n = n' + 1 := ⟨n - 1, by omega⟩
    exact br_t (nI_le (by omega) (by omega)) hp
  | succ d ih =>
    intro i hi
    obtain ⟨z1, z2, z3, z4, z5, z6, z7, z8, z9, z10⟩ := Y i (by omega)
    have hv : vp_in (nI i) 24 := vp_in_nI (by omega) (by decide)
    have ec : (nI i).toNatClampNeg = i := nI_clamp (by omega)
    have hji : ¬ nI J ≤ nI i := nI_ge (by omega) (by omega)
    obtain ⟨r, R, hr⟩ := ih (i + 1) (by omega)
    by_cases e : q i < 3
    · refine ⟨1, Or.inr rfl, fun post n hn hp => ?_⟩
      obtain ⟨n, rfl⟩ : ∃ n', n = n' + 1 := ⟨n - 1, by omega⟩
      refine br_f hji ⟨hv, ?_⟩
      rw [ec]
      refine br_t ?_ ⟨hv, br_f (Int32.not_le.mpr (z8 (by omega))) hp⟩
      rw [ps_fa, z6 (by omega)]
      rfl
    · refine ⟨r, ?_, fun post n hn hp => ?_⟩
      · rcases R with ⟨e0, hall⟩ | e1
        · refine Or.inl ⟨e0, fun y h1 h2 => ?_⟩
          by_cases z : y = i
          · rw [z]; omega
          · exact hall y (by omega) h2
        · exact Or.inr e1
      · obtain ⟨n, rfl⟩ : ∃ n', n = n' + 1 := ⟨n - 1, by omega⟩
        refine br_f hji ⟨hv, ?_⟩
        rw [ec]
        by_cases e4 : q i = 4
        · refine br_f ?_ (nm_r (nI_1 i) (hr post n (by omega) hp))
          rw [ps_fa, z5 e4]
          decide
        · refine br_t ?_ ⟨hv, br_t (z7 (by omega)) (nm_r (nI_1 i) (hr post n (by omega) hp))⟩
          rw [ps_fa, z6 e4]
          rfl
theorem ps_yopen (hJ : J ≤ 24) (Y : ps_Y T J s a q g A F) : ∃ r : Int32, ((r = 0 ∧ ∀ y, y < J → 3 ≤ q y) ∨ r = 1) ∧ ∀ post : Int32 → Prop, post r → wpY_anyOpen post (nI J, nI T, ps_f s, ps_f a, ps_f w, A, F, ps_f g) := by
  obtain ⟨r, R, hr⟩ := ps_yopen2 (w := w) hJ Y J 0 (by omega)
  refine ⟨r, ?_, fun post hp => ⟨J + 1, hr post (J + 1) (by omega) hp⟩⟩
  rcases R with ⟨e, h⟩ | e
  · exact Or.inl ⟨e, fun y hy => h y (by omega) hy⟩
  · exact Or.inr e
end
end
section
/-! handing out the shares: closed forms and the reference's loop -/
def ps_w (q s : Nat → Nat) (sh i : Nat) (w : Nat → Nat) : Nat → Nat := fun y => if y < i ∧ q y = 2 then (if s y ≤ w y + sh then s y else w y + sh) else w y
def ps_ff (q s : Nat → Nat) (sh t i : Nat) (w : Nat → Nat) (F : Nat → Int32) : Nat → Int32 := fun y => if y < i ∧ q y = 2 ∧ s y ≤ w y + sh then nI t else F y
def ps_d (q s : Nat → Nat) (sh : Nat) (w : Nat → Nat) (i : Nat) : Nat := ps_n (fun y => decide (q y = 2 ∧ s y ≤ w y + sh)) i
section
variable {q s w : Nat → Nat} {sh t i : Nat} {F : Nat → Int32}
theorem ps_w_i : ps_w q s sh i w i = w i := if_neg (by omega)
theorem ps_ff_i : ps_ff q s sh t i w F i = F i := if_neg (by omega)
theorem ps_w_no (h : q i ≠ 2) : ps_w q s sh (i + 1) w = ps_w q s sh i w := by
  funext y
  unfold ps_w
  by_cases z : y = i
  · subst z
    rw [if_neg (by omega), if_neg (by omega)]
  · by_cases z2 : y < i ∧ q y = 2
    · rw [if_pos z2, if_pos (by omega)]
    · rw [if_neg z2, if_neg (by omega)]
theorem ps_w_yes {x : Nat} (h : q i = 2) (hx : x = if s i ≤ w i + sh then s i else w i + sh) : ps_u (ps_w q s sh i w) i x = ps_w q s sh (i + 1) w := by
  funext y
  by_cases z : y = i
  · subst z
    rw [ps_us]
    unfold ps_w
    rw [if_pos ⟨by omega, h⟩]
    exact hx
  · rw [ps_un z]
    unfold ps_w
    by_cases z2 : y < i ∧ q y = 2
    · rw [if_pos z2, if_pos (show y < i + 1 ∧ q y = 2 by omega)]
    · rw [if_neg z2, if_neg (by omega)]
theorem ps_ff_no (h : ¬ (q i = 2 ∧ s i ≤ w i + sh)) : ps_ff q s sh t (i + 1) w F = ps_ff q s sh t i w F := by
  funext y
  unfold ps_ff
  by_cases z : y = i
  · subst z
    rw [if_neg (by omega), if_neg (by omega)]
  · by_cases z2 : y < i ∧ q y = 2 ∧ s y ≤ w y + sh
    · rw [if_pos z2, if_pos (by omega)]
    · rw [if_neg z2, if_neg (by omega)]
theorem ps_ff_yes (h : q i = 2 ∧ s i ≤ w i + sh) : upd (ps_ff q s sh t i w F) i (nI t) = ps_ff q s sh t (i + 1) w F := by
  funext y
  by_cases z : y = i
  · subst z
    rw [pk_us]
    unfold ps_ff
    rw [if_pos ⟨by omega, h⟩]
  · rw [pk_un z]
    unfold ps_ff
    by_cases z2 : y < i ∧ q y = 2 ∧ s y ≤ w y + sh
    · rw [if_pos z2, if_pos (by omega)]
    · rw [if_neg z2, if_neg (by omega)]
theorem ps_d_yes (h : q i = 2 ∧ s i ≤ w i + sh) : ps_d q s sh w (i + 1) = ps_d q s sh w i + 1 := by
  unfold ps_d
  rw [ps_n_s, if_pos (decide_eq_true h)]
theorem ps_d_no (h : ¬ (q i = 2 ∧ s i ≤ w i + sh)) : ps_d q s sh w (i + 1) = ps_d q s sh w i := by
  unfold ps_d
  rw [ps_n_s, if_neg (by rw [decide_eq_true_eq]; exact h)]
  rfl
theorem ps_w_0 : ps_w q s sh 0 w = w := by
  funext y
  exact if_neg (by omega)
theorem ps_ff_0 : ps_ff q s sh t 0 w F = F := by
  funext y
  exact if_neg (by omega)
theorem ps_w_none {J : Nat} (h : ∀ y, y < J → q y ≠ 2) : ps_w q s sh J w = w := by
  funext y
  exact if_neg (fun z => h y z.1 z.2)
theorem ps_ff_none {J : Nat} (h : ∀ y, y < J → ¬ (q y = 2 ∧ s y ≤ w y + sh)) : ps_ff q s sh t J w F = F := by
  funext y
  exact if_neg (fun z => h y z.1 z.2)
theorem ps_d_none {J : Nat} (h : ∀ y, y < J → ¬ (q y = 2 ∧ s y ≤ w y + sh)) : ps_d q s sh w J = 0 := ps_n_0 fun y hy => decide_eq_false (h y hy)
end
section
variable {T J : Nat} {s a q w g : Nat → Nat} {A F : Nat → Int32}
theorem ps_y58 (hJ : J ≤ 24) (hT : T < 2 ^ 24) (Y : ps_Y T J s a q g A F) {sh : Nat} (hs : sh < 2 ^ 24) (hw : ∀ y, y < J → q y = 2 → w y < s y) (post : Int32 → SY → Prop) (hp : post (nI (ps_d q s sh w J)) (nI J, nI T, ps_f s, ps_f a, ps_f (ps_w q s sh J w), A, ps_ff q s sh T J w F, ps_f g)) : ∀ (d i : Nat), i + d = J → ∀ n, d < n → wY_oneTick_58 post (nI sh) (nI J) (nI T) n (nI (ps_d q s sh w i)) (nI i) (ps_f s) (ps_f a) (ps_f (ps_w q s sh i w)) A (ps_ff q s sh T i w F) (ps_f g) := by
  intro d
  induction d with
  | zero =>
    intro i hi n hn
    obtain ⟨n, rfl⟩ : ∃ n', n = n' + 1 := ⟨n - 1, by omega⟩
    have : i = J := by omega
    subst this
    exact br_t (nI_le (by omega) (by omega)) hp
  | succ d ih =>
    intro i hi n hn
    obtain ⟨n, rfl⟩ : ∃ n', n = n' + 1 := ⟨n - 1, by omega⟩
    have K := ih (i + 1) (by omega) n (by omega)
    obtain ⟨z1, z2, z3, z4, z5, z6, z7, z8, z9, z10⟩ := Y i (by omega)
    have hv : vp_in (nI i) 24 := vp_in_nI (by omega) (by decide)
    have ec : (nI i).toNatClampNeg = i := nI_clamp (by omega)
    have hji : ¬ nI J ≤ nI i := nI_ge (by omega) (by omega)
    have ew : ps_w q s sh i w i = w i := ps_w_i
    refine br_f hji ⟨hv, ?_⟩
    rw [ec, ps_ff_i]
    by_cases e2 : q i = 2
    · have g0 : ps_f g i = 0 := by rw [ps_fa, z6 (by omega)]; rfl
      have hwi := hw i (by omega) e2
      refine br_t g0 ⟨hv, br_f (Int32.not_lt.mpr (z9 (Or.inl e2))) ⟨hv, br_f (Int32.not_le.mpr (z8 (by omega))) ?_⟩⟩
      refine br_f (by decide) ⟨hv, hv, ?_⟩
      have esub : ps_f s (nI i).toNatClampNeg - ps_f (ps_w q s sh i w) (nI i).toNatClampNeg = nI (s i - w i) := by
        rw [ec, ps_fa, ps_fa, ew, pk_sub (by omega)]
      rw [esub]
      by_cases fin : s i ≤ w i + sh
      · refine br_f (nI_nlt (by omega) (by omega)) ⟨hv, hv, nm_r (e' := ps_f (ps_w q s sh (i + 1) w)) ?_ ⟨hv, nm_r (e' := ps_ff q s sh T (i + 1) w F) ?_ (nm_r (e' := nI (ps_d q s sh w (i + 1))) ?_ (nm_r (nI_1 i) K))⟩⟩
        · rw [ec, ps_fa, ps_uf, ps_w_yes e2 (by rw [if_pos fin])]
        · rw [ec, ps_ff_yes ⟨e2, fin⟩]
        · rw [nI_1, ps_d_yes ⟨e2, fin⟩]
      · rw [ps_d_no (by omega), ps_ff_no (by omega)] at K
        refine br_t (nI_lt (by omega) (by omega)) (br_f (by decide) ⟨hv, hv, nm_r (e' := ps_f (ps_w q s sh (i + 1) w)) ?_ (nm_r (nI_1 i) K)⟩)
        rw [ec, ps_fa, ew, nI_add, ps_uf, ps_w_yes e2 (by rw [if_neg fin])]
    · rw [ps_d_no (by omega), ps_ff_no (by omega), ps_w_no e2] at K
      by_cases e4 : q i = 4
      · refine br_f ?_ (br_t rfl (br_t rfl (nm_r (nI_1 i) K)))
        rw [ps_fa, z5 e4]
        decide
      · refine br_t (by rw [ps_fa, z6 e4]; rfl) ⟨hv, ?_⟩
        by_cases e3 : q i = 3
        · exact br_f (Int32.not_lt.mpr (z9 (Or.inr e3))) ⟨hv, br_t (z7 e3) (br_t rfl (br_t rfl (nm_r (nI_1 i) K)))⟩
        · exact br_t (z10 (by omega)) (br_t rfl (br_t rfl (nm_r (nI_1 i) K)))
/-- the shares of a settled state, from a place of at least 8 on -/
theorem ps_ysh (hJ : J ≤ 24) (hT : T < 2 ^ 24) (Y : ps_Y T J s a q g A F) {h p : Nat} (hh : ps_c q 2 J = h) (hp8 : 8 ≤ p) (hp31 : p < 2 ^ 31) (hw : ∀ y, y < J → q y = 2 → w y < s y) (post : Int32 → SY → Prop) (n : Nat) (hp : post (nI (ps_d q s (840 / h) w J)) (nI J, nI T, ps_f s, ps_f a, ps_f (ps_w q s (840 / h) J w), A, ps_ff q s (840 / h) T J w F, ps_f g)) : wY_oneTick_5 post (nI J) (nI T) (n + 1) (nI p) (ps_f s) (ps_f a) (ps_f w) A F (ps_f g) := by
  have hhJ : h ≤ 24 := by
    have := ps_n_le (fun j => decide (q j = 2)) J
    unfold ps_c at hh
    omega
  refine br_t ((ps_8le hp31).mpr hp8) (ps_yserved hJ hT Y ?_)
  rw [hh]
  by_cases h0 : h = 0
  · have hn : ∀ y, y < J → q y ≠ 2 := by
      intro y hy e
      have := ps_n_one (p := fun j => decide (q j = 2)) (r := fun j => if j = y then false else decide (q j = 2)) hy (decide_eq_true e) (if_pos rfl) (fun i hi => if_neg hi)
      unfold ps_c at hh
      omega
    rw [ps_w_none hn, ps_ff_none (fun y hy z => hn y hy z.1), ps_d_none (fun y hy z => hn y hy z.1)] at hp
    refine br_f ?_ hp
    rw [h0]
    exact nI_nlt (a := 0) (b := 0) (by omega) (by omega)
  · have e840 : (840 : Int32) / nI h = nI (840 / h) := pk_div (a := 840) (by omega) (by omega) (by omega)
    have hs : 840 / h ≤ 840 := Nat.div_le_self _ _
    refine br_t (nI_lt (a := 0) (by omega) (by omega)) ⟨nI_ne0 (by omega) (by omega), nm_r e840 ⟨J + 1, ?_⟩⟩
    have K := ps_y58 hJ hT Y (sh := 840 / h) (by omega) hw post hp J 0 (by omega) (J + 1) (by omega)
    rw [ps_w_0, ps_ff_0] at K
    exact K
/-- the place loop where the line is empty or all places are taken -/
theorem ps_yset (hJ : J ≤ 24) (hT : T < 2 ^ 24) (Y : ps_Y T J s a q g A F) (tm : ps_T (T + 1) J a q) {h : Nat} (hh : ps_c q 2 J = h) (hw : ∀ y, y < J → q y = 2 → w y < s y) (post : Int32 → SY → Prop) (hp : post (nI (ps_d q s (840 / h) w J)) (nI J, nI T, ps_f s, ps_f a, ps_f (ps_w q s (840 / h) J w), A, ps_ff q s (840 / h) T J w F, ps_f g)) : ∀ (d p : Nat), p + d = 8 → (d = 0 ∨ ∀ y, y < J → q y ≠ 1) → ∀ n, d < n → wY_oneTick_5 post (nI J) (nI T) n (nI p) (ps_f s) (ps_f a) (ps_f w) A F (ps_f g) := by
  intro d
  induction d with
  | zero =>
    intro p hpd _ n hn
    obtain ⟨n, rfl⟩ : ∃ n', n = n' + 1 := ⟨n - 1, by omega⟩
    exact ps_ysh hJ hT Y hh (by omega) (by omega) hw post n hp
  | succ d ih =>
    intro p hpd hno n hn
    obtain ⟨n, rfl⟩ : ∃ n', n = n' + 1 := ⟨n - 1, by omega⟩
    have hno' := hno.resolve_left (by omega)
    have K := ih (p + 1) (by omega) (Or.inr hno') n (by omega)
    obtain ⟨r, R, hr⟩ := ps_yfront (w := w) hJ hT Y tm
    rcases R with ⟨e, _⟩ | ⟨b, _, hb, eb, _⟩
    · refine br_f (fun z => by rw [ps_8le (by omega)] at z; omega) (hr _ ?_)
      rw [e]
      exact br_t (by decide) (nm_r (nI_1 p) K)
    · exact absurd eb (hno' b hb)
end
end
section
/-! from the line to the places, in lockstep with the reference -/
section
variable {t j h c : Int32} {k : Int64} {sz ar so ad fi wo hj cj : Nat → Int32} {mk : Nat → Int64}
theorem ps_d84 {l d : Nat} (hc : l + d ≤ 24) : ∀ (e i : Nat) (L : Nat → Nat), i + e = l → ∃ L' : Nat → Nat, (∀ p, p < l → L' p = if p < i then L p else L (p + d)) ∧ ∀ (post : SX → Prop) (n : Nat), e < n → post (t, j, k, h, c, nI l, sz, ar, so, ad, fi, wo, mk, hj, cj, ps_f L') → wX_admit_84 post (nI d) t j k h c (nI l) n (nI i) sz ar so ad fi wo mk hj cj (ps_f L) := by
  intro e
  induction e with
  | zero =>
    intro i L hi
    refine ⟨L, fun p hp => (if_pos (by omega)).symm, fun post n hn hp => ?_⟩
    obtain ⟨n, rfl⟩ : ∃ n', n = n' + 1 := ⟨n - 1, by omega⟩
    exact br_t (nI_le (by omega) (by omega)) hp
  | succ e ih =>
    intro i L hi
    obtain ⟨L', h1, h2⟩ := ih (i + 1) (ps_u L i (L (i + d))) (by omega)
    refine ⟨L', fun p hp => ?_, fun post n hn hp => ?_⟩
    · rw [h1 p hp]
      by_cases z : p < i
      · rw [if_pos (by omega), if_pos z, ps_un (by omega)]
      · rw [if_neg z]
        by_cases z2 : p = i
        · rw [if_pos (by omega), z2, ps_us]
        · rw [if_neg (by omega), ps_un (by omega)]
    · obtain ⟨n, rfl⟩ : ∃ n', n = n' + 1 := ⟨n - 1, by omega⟩
      refine br_f (nI_ge (by omega) (by omega)) ?_
      rw [nI_add]
      refine ⟨vp_in_nI (by omega) (by decide), vp_in_nI (by omega) (by decide), nm_r ?_ (nm_r (nI_1 i) (h2 post n (by omega) hp))⟩
      rw [nI_clamp (by omega), nI_clamp (by omega), ps_fa, ps_uf]
theorem ps_d72 {d n : Nat} {L : Nat → Nat} (hc : d + n ≤ 24) : ∃ L' : Nat → Nat, (∀ p, p < d → L' p = L (p + n)) ∧ ∀ post : SX → Prop, post (t, j, k, h, c, nI d, sz, ar, so, ad, fi, wo, mk, hj, cj, ps_f L') → wX_admit_72 post (nI n) t j k h c (nI (n + d)) sz ar so ad fi wo mk hj cj (ps_f L) := by
  obtain ⟨L', h1, h2⟩ := ps_d84 (t := t) (j := j) (h := h) (c := c) (k := k) (sz := sz) (ar := ar) (so := so) (ad := ad) (fi := fi) (wo := wo) (hj := hj) (cj := cj) (mk := mk) hc d 0 L (by omega)
  refine ⟨L', fun p hp => (h1 p hp).trans (if_neg (by omega)), fun post hp => nm_r ?_ ⟨d + 1, h2 post (d + 1) (by omega) hp⟩⟩
  rw [pk_sub (by omega)]
  exact congrArg nI (by omega)
end
section
variable {T J K h c l : Nat} {s a q w wx m g H C L : Nat → Nat} {A F : Nat → Int32}
theorem ps_I_L {τ : Nat} {L' : Nat → Nat} (h' : ∀ i, i < l → L' i = L i) (I : ps_I τ T J K h c l s a q w wx m g H C L A F) : ps_I τ T J K h c l s a q w wx m g H C L' A F := by
  obtain ⟨i1, IY, IW, IT, IC, IL, IB, IH⟩ := I
  exact ⟨i1, IY, IW, IT, IC, ps_S_ext h' IL, IB, IH⟩
/-- the first of the line gets a place -/
theorem ps_adS {d : Nat} (l' : Int32) (lj : Nat → Int32) (I : ps_I (T + 1) T J K h c (d + 1) s a q w wx m g H C L A F) (h8 : h < 8) : ∃ H' : Nat → Nat,
    ps_I (T + 1) T J K (h + 1) c d s a (ps_u q (L 0) 2) w wx (ps_u m (L 0) (K + s (L 0))) g H' C (fun i => L (1 + i)) (upd A (L 0) (nI T)) F ∧ L 0 < J ∧ q (L 0) = 1 ∧ s (L 0) ≤ 100000 ∧ (∀ y, y < J → q y = 1 → 24 * a (L 0) + L 0 ≤ 24 * a y + y) ∧
    ∀ (post : SX → Prop), post (nI T, nI J, lN K, nI (h + 1), nI c, l', ps_f s, ps_f a, ps_f (ps_u q (L 0) 2), upd A (L 0) (nI T), F, ps_f wx, ps_l (ps_u m (L 0) (K + s (L 0))), ps_f H', ps_f C, lj) → wpX_push post (nI T, nI J, lN K, nI h, nI c, l', ps_f s, ps_f a, ps_f (ps_u q (L 0) 2), upd A (L 0) (nI T), F, ps_f wx, ps_l (ps_u m (L 0) (K + s (L 0))), ps_f H, ps_f C, lj) (nI (L 0)) := by
  obtain ⟨⟨i1, i2, i3, i4⟩, IY, IW, IT, IC, IL, IB, IH⟩ := I
  obtain ⟨h0J, h0q⟩ := IL.1 0 (by omega)
  generalize hy0 : L 0 = y0 at *
  have hs := (IY y0 h0J).2.1
  have q1 : ∀ y, y ≠ y0 → ps_u q y0 2 y = q y := fun y hy => ps_un hy
  have q2 : ps_u q y0 2 y0 = 2 := ps_us
  have m1 : ∀ y, y ≠ y0 → ps_u m y0 (K + s y0) y = m y := fun y hy => ps_un hy
  have m2 : ps_u m y0 (K + s y0) y0 = K + s y0 := ps_us
  have W' : ps_W J K s (ps_u q y0 2) w wx (ps_u m y0 (K + s y0)) := by
    intro y hy
    have z := IW y hy
    by_cases e : y = y0
    · subst e
      rw [q2, m2]
      have := z.2.2 (by omega)
      have := (IY y hy).1
      exact ⟨fun _ => by omega, fun f => by omega, fun f => by omega⟩
    · rw [q1 y e, m1 y e]
      exact z
  have hR : ∀ y, (y < J ∧ ps_u q y0 2 y = 2) → y < 24 ∧ ps_u m y0 (K + s y0) y < 2 ^ 62 := by
    intro y ⟨hy, e⟩
    have := (W' y hy).1 e
    have := (IY y hy).2.1
    omega
  have hHne : ∀ p, p < h → H p ≠ y0 := fun p hp e => by
    have := (IB.1 p hp).2
    rw [e] at this
    omega
  have IH' : ps_H (ps_u m y0 (K + s y0)) H h := by
    intro p hp0 hp
    have := IH p hp0 hp
    unfold ps_k at this ⊢
    rw [m1 _ (hHne p hp), m1 _ (hHne ((p - 1) / 2) (by omega))]
    exact this
  have hRP : ∀ y, (y < J ∧ ps_u q y0 2 y = 2) ↔ (y < J ∧ q y = 2) ∨ y = y0 := by
    intro y
    by_cases e : y = y0
    · subst e
      rw [q2]
      omega
    · rw [q1 y e]
      omega
  obtain ⟨H', b1, b2, b3⟩ := ps_push (t := nI T) (j := nI J) (c := nI c) (l := l') (k := lN K) (sz := ps_f s) (ar := ps_f a) (so := ps_f (ps_u q y0 2)) (ad := upd A y0 (nI T)) (fi := F) (wo := ps_f wx) (cj := ps_f C) (lj := lj) (m := ps_u m y0 (K + s y0)) (H := H) (N := h) (x := y0) h8 hR (fun z => by omega) hRP IB IH'
  refine ⟨H', ⟨⟨i1, by omega, i3, i4⟩, ?_, W', ?_, ps_S_congr ?_ IC, ps_S_tl IL ?_, b1, b2⟩, h0J, h0q, hs, ?_, b3⟩
  · intro y hy
    have z := IY y hy
    by_cases e : y = y0
    · subst e
      rw [q2, pk_us]
      rw [h0q] at z
      obtain ⟨z1, z2, z3, z4, z5, z6, z7, z8, z9, z10⟩ := z
      exact ⟨z1, z2, z3, by omega, fun f => by omega, fun _ => z6 (by omega), fun f => by omega, fun _ => z8 (by omega), fun _ => nI_pos' (by omega), fun f => by omega⟩
    · rw [q1 y e, pk_un e]
      exact z
  · intro y hy
    have z := IT y hy
    by_cases e : y = y0
    · subst e
      rw [q2]
      exact ⟨fun f => by omega, fun f => by omega⟩
    · rw [q1 y e]
      exact z
  · intro y
    by_cases e : y = y0
    · subst e
      rw [q2]
      omega
    · rw [q1 y e]
  · intro y
    rw [hy0]
    by_cases e : y = y0
    · subst e
      rw [q2]
      omega
    · rw [q1 y e]
      omega
  · intro y hy e
    obtain ⟨i, hi, ei⟩ := IL.2.1 y ⟨hy, e⟩
    by_cases z : i = 0
    · rw [z, hy0] at ei
      rw [ei]
      exact Nat.le_refl _
    · have := IL.2.2 0 i (by omega) hi
      rw [hy0, ei] at this
      exact Nat.le_of_lt this
/-- the reference's place loop finds the same one -/
theorem ps_adY {y0 : Nat} (hJ : J ≤ 24) (hT : T < 2 ^ 24) (Y : ps_Y T J s a q g A F) (tm : ps_T (T + 1) J a q) (h8 : h < 8) (hy : y0 < J) (hq : q y0 = 1) (hmin : ∀ y, y < J → q y = 1 → 24 * a y0 + y0 ≤ 24 * a y + y) (post : Int32 → SY → Prop) (n : Nat) (K : wY_oneTick_5 post (nI J) (nI T) n (nI (h + 1)) (ps_f s) (ps_f a) (ps_f w) (upd A y0 (nI T)) F (ps_f g)) : wY_oneTick_5 post (nI J) (nI T) (n + 1) (nI h) (ps_f s) (ps_f a) (ps_f w) A F (ps_f g) := by
  obtain ⟨r, R, hr⟩ := ps_yfront (w := w) hJ hT Y tm
  refine br_f (fun z => by rw [ps_8le (by omega)] at z; omega) (hr _ ?_)
  rcases R with ⟨_, hno⟩ | ⟨b, e, hb, eb, hm⟩
  · exact absurd hq (hno y0 hy)
  · have h1 := hm y0 hy hq
    have h2 := hmin b hb eb
    have hby : b = y0 := by omega
    subst hby
    rw [e]
    refine br_f (nI_pos (by omega)) ⟨vp_in_nI (by omega) (by decide), nm_r ?_ (nm_r (nI_1 h) K)⟩
    rw [nI_clamp (by omega)]
theorem ps_ad2 {L0 : Nat → Nat} {l0 : Nat} (hl0 : l0 ≤ 24) : ∀ (d n h : Nat) (q m H : Nat → Nat) (A : Nat → Int32), n + d = l0 → ps_I (T + 1) T J K h c d s a q w wx m g H C (fun i => L0 (n + i)) A F →
    ∃ (h' l' : Nat) (q' m' H' L' : Nat → Nat) (A' : Nat → Int32), ps_I (T + 1) T J K h' c l' s a q' w wx m' g H' C L' A' F ∧ (l' = 0 ∨ h' = 8) ∧ h ≤ h' ∧ (∀ y, q' y = q y ∨ (q y = 1 ∧ q' y = 2)) ∧ (∀ y, A' y = A y ∨ (y < J ∧ q y = 1)) ∧
    (∀ (post : SX → Prop) (n' : Nat), d < n' → post (nI T, nI J, lN K, nI h', nI c, nI l', ps_f s, ps_f a, ps_f q', A', F, ps_f wx, ps_l m', ps_f H', ps_f C, ps_f L') → wX_admit_2 post n' (nI n) (nI T) (nI J) (lN K) (nI h) (nI c) (nI l0) (ps_f s) (ps_f a) (ps_f q) A F (ps_f wx) (ps_l m) (ps_f H) (ps_f C) (ps_f L0)) ∧
    (∀ (post : Int32 → SY → Prop) (n' : Nat), wY_oneTick_5 post (nI J) (nI T) n' (nI h') (ps_f s) (ps_f a) (ps_f w) A' F (ps_f g) → wY_oneTick_5 post (nI J) (nI T) (n' + (h' - h)) (nI h) (ps_f s) (ps_f a) (ps_f w) A F (ps_f g)) := by
  intro d
  induction d with
  | zero =>
    intro n h q m H A hn I
    obtain ⟨L', b1, b2⟩ := ps_d72 (t := nI T) (j := nI J) (h := nI h) (c := nI c) (k := lN K) (sz := ps_f s) (ar := ps_f a) (so := ps_f q) (ad := A) (fi := F) (wo := ps_f wx) (hj := ps_f H) (cj := ps_f C) (mk := ps_l m) (d := 0) (n := n) (L := L0) (by omega)
    refine ⟨h, 0, q, m, H, L', A, ps_I_L (fun i hi => by omega) I, Or.inl rfl, Nat.le_refl _, fun y => Or.inl rfl, fun y => Or.inl rfl, fun post n' hn' hp => ?_, fun post n' hp => ?_⟩
    · obtain ⟨n', rfl⟩ : ∃ n'', n' = n'' + 1 := ⟨n' - 1, by omega⟩
      subst hn
      exact br_t (nI_le (by omega) (by omega)) (b2 post hp)
    · rw [Nat.sub_self]
      exact hp
  | succ d ih =>
    intro n h q m H A hn I
    have hln : ¬ nI l0 ≤ nI n := nI_ge (by omega) (by omega)
    have i2 := I.1.2.1
    by_cases h8 : h = 8
    · obtain ⟨L', b1, b2⟩ := ps_d72 (t := nI T) (j := nI J) (h := nI h) (c := nI c) (k := lN K) (sz := ps_f s) (ar := ps_f a) (so := ps_f q) (ad := A) (fi := F) (wo := ps_f wx) (hj := ps_f H) (cj := ps_f C) (mk := ps_l m) (d := d + 1) (n := n) (L := L0) (by omega)
      refine ⟨h, d + 1, q, m, H, L', A, ps_I_L (fun i hi => by rw [b1 i hi, Nat.add_comm]) I, Or.inr h8, Nat.le_refl _, fun y => Or.inl rfl, fun y => Or.inl rfl, fun post n' hn' hp => ?_, fun post n' hp => ?_⟩
      · obtain ⟨n', rfl⟩ : ∃ n'', n' = n'' + 1 := ⟨n' - 1, by omega⟩
        subst hn
        exact br_f hln (br_t ((ps_8le (by omega)).mpr (by omega)) (b2 post hp))
      · rw [Nat.sub_self]
        exact hp
    · obtain ⟨H1, I1, e1, e2, e3, e4, e5⟩ := ps_adS (nI l0) (ps_f L0) I (by omega)
      have en : n + 0 = n := rfl
      rw [en] at I1 e1 e2 e3 e4 e5
      obtain ⟨h', l', q', m', H', L', A', I2, f1, f2, f3, f4, f5, f6⟩ := ih (n + 1) (h + 1) _ _ H1 _ (by omega) (ps_I_L (fun i hi => by show L0 (n + 1 + i) = L0 (n + (1 + i)); rw [Nat.add_assoc]) I1)
      refine ⟨h', l', q', m', H', L', A', I2, f1, by omega, fun y => ?_, fun y => ?_, fun post n' hn' hp => ?_, fun post n' hp => ?_⟩
      · have := f3 y
        by_cases z : y = L0 n
        · subst z
          rw [ps_us] at this
          omega
        · rw [ps_un z] at this
          exact this
      · by_cases z : y = L0 n
        · subst z
          exact Or.inr ⟨e1, e2⟩
        · have := f4 y
          rw [ps_un z, pk_un z] at this
          exact this
      · obtain ⟨n', rfl⟩ : ∃ n'', n' = n'' + 1 := ⟨n' - 1, by omega⟩
        have i1 := I.1.1
        have hvn : vp_in (nI n) 24 := vp_in_nI (by omega) (by decide)
        have hvy : vp_in (nI (L0 n)) 24 := vp_in_nI (by omega) (by decide)
        have ec : (nI (L0 n)).toNatClampNeg = L0 n := nI_clamp (by omega)
        refine br_f hln (br_f (fun z => by rw [ps_8le (by omega)] at z; omega) ⟨hvn, nm_r (e' := nI (L0 n)) (by rw [nI_clamp (by omega)]; rfl) ⟨hvy, nm_r (e' := ps_f (ps_u q (L0 n) 2)) (by rw [ec]; exact ps_uf q (L0 n) 2) ⟨hvy, nm_r (e' := upd A (L0 n) (nI T)) (by rw [ec]) ⟨hvy, hvy, nm_r (e' := ps_l (ps_u m (L0 n) (K + s (L0 n)))) ?_ ?_⟩⟩⟩⟩)
        · rw [ec, ps_fa, nI_l (by omega), lN_add, ps_ul]
        · exact e5 _ (nm_r (nI_1 n) (f5 post n' (by omega) hp))
      · have i4 := I.1.2.2.2
        have := ps_adY (w := w) I.1.1 i4 I.2.1 I.2.2.2.1 (by omega) e1 e2 e4 post (n' + (h' - (h + 1))) (f6 post n' hp)
        rw [show n' + (h' - h) = n' + (h' - (h + 1)) + 1 by omega]
        exact this
theorem ps_adm (I : ps_I (T + 1) T J K h c l s a q w wx m g H C L A F) :
    ∃ (h' l' : Nat) (q' m' H' L' : Nat → Nat) (A' : Nat → Int32), ps_I (T + 1) T J K h' c l' s a q' w wx m' g H' C L' A' F ∧ (l' = 0 ∨ h' = 8) ∧ h ≤ h' ∧ (∀ y, q' y = q y ∨ (q y = 1 ∧ q' y = 2)) ∧ (∀ y, A' y = A y ∨ (y < J ∧ q y = 1)) ∧
    (∀ (post : SX → Prop), post (nI T, nI J, lN K, nI h', nI c, nI l', ps_f s, ps_f a, ps_f q', A', F, ps_f wx, ps_l m', ps_f H', ps_f C, ps_f L') → wpX_admit post (nI T, nI J, lN K, nI h, nI c, nI l, ps_f s, ps_f a, ps_f q, A, F, ps_f wx, ps_l m, ps_f H, ps_f C, ps_f L)) ∧
    (∀ (post : Int32 → SY → Prop) (n' : Nat), wY_oneTick_5 post (nI J) (nI T) n' (nI h') (ps_f s) (ps_f a) (ps_f w) A' F (ps_f g) → wY_oneTick_5 post (nI J) (nI T) (n' + (h' - h)) (nI h) (ps_f s) (ps_f a) (ps_f w) A F (ps_f g)) := by
  have e1 := ps_cnt (ps_S_B I.2.2.2.2.2.1)
  have e3 := ps_c_sum q J
  have i1 := I.1.1
  obtain ⟨h', l', q', m', H', L', A', I2, f1, f2, f3, f4, f5, f6⟩ := ps_ad2 (L0 := L) (l0 := l) (by omega) l 0 h q m H A (by omega) (ps_I_L (fun i hi => by show L (0 + i) = L i; rw [Nat.zero_add]) I)
  exact ⟨h', l', q', m', H', L', A', I2, f1, f2, f3, f4, fun post hp => ⟨l + 1, f5 post (l + 1) (by omega) hp⟩, f6⟩
end
end
section
/-! how long a stretch is; completions -/
section
variable {T J K h c l : Nat} {s a q w wx m g H C L : Nat → Nat} {A F : Nat → Int32}
theorem ps_104 {post : Int32 → Prop} {k : Nat} (h1 : 1 ≤ k) (h2 : k < 2 ^ 31) (hp : post (nI k)) : wX_stretch_104 post (nI k) (nI T) (nI J) (lN K) (nI h) (nI c) (nI l) (ps_f s) (ps_f a) (ps_f q) A F (ps_f wx) (ps_l m) (ps_f H) (ps_f C) (ps_f L) := br_t (nI_le (a := 1) h1 h2) hp
theorem ps_46 {τ k1 : Nat} (I : ps_I τ T J K h c l s a q w wx m g H C L A F) (h1 : 1 ≤ k1) (h2 : k1 ≤ 5000) : ∃ k, 1 ≤ k ∧ k ≤ k1 ∧ (∀ y, y < J → q y = 2 → w y + 840 / h * (k - 1) < s y) ∧ ∀ post : Int32 → Prop, post (nI k) → wX_stretch_46 post (nI k1) (nI T) (nI J) (lN K) (nI h) (nI c) (nI l) (ps_f s) (ps_f a) (ps_f q) A F (ps_f wx) (ps_l m) (ps_f H) (ps_f C) (ps_f L) := by
  obtain ⟨⟨i1, i2, i3, i4⟩, IY, IW, IT, IC, IL, IB, IH⟩ := I
  by_cases h0 : h = 0
  · subst h0
    refine ⟨k1, h1, Nat.le_refl _, fun y hy e => ?_, fun post hp => br_t ((ps_le0 (by omega)).mpr rfl) (ps_104 h1 (by omega) hp)⟩
    obtain ⟨p, hp, _⟩ := IB.2.1 y ⟨hy, e⟩
    omega
  · obtain ⟨y0J, y0q⟩ := IB.1 0 (by omega)
    have W0 := (IW _ y0J).1 y0q
    have s0 := (IY _ y0J).2.1
    have hmin : ∀ y, y < J → q y = 2 → m (H 0) ≤ m y := by
      intro y hy e
      obtain ⟨p, hp, ep⟩ := IB.2.1 y ⟨hy, e⟩
      have := ps_root IH p hp
      rw [ep] at this
      unfold ps_k at this
      omega
    have d1 : 840 / 8 ≤ 840 / h := Nat.div_le_div_left i2 (by omega)
    have d2 : 840 / h ≤ 840 := Nat.div_le_self _ _
    have e840 : (840 : Int32) / nI h = nI (840 / h) := pk_div (a := 840) (by omega) (by omega) (by omega)
    generalize 840 / h = sh at d1 d2 e840 ⊢
    have e6 : ∃ tk, tk = ((m (H 0) - K) + sh - 1) / sh := ⟨_, rfl⟩
    obtain ⟨tk, etk⟩ := e6
    have t1 : 1 ≤ tk := by
      rw [etk, Nat.le_div_iff_mul_le (by omega)]
      omega
    have t2 : tk * sh ≤ (m (H 0) - K) + sh - 1 := by
      rw [etk]
      exact Nat.div_mul_le_self _ _
    have t3 : tk ≤ (m (H 0) - K) + sh - 1 := by
      rw [etk]
      exact Nat.div_le_self _ _
    have cond : ∀ k, 1 ≤ k → k ≤ tk → ∀ y, y < J → q y = 2 → w y + sh * (k - 1) < s y := by
      intro k hk1 hk y hy e
      have z1 := (IW y hy).1 e
      have z2 := hmin y hy e
      have z3 : k * sh ≤ tk * sh := Nat.mul_le_mul_right sh hk
      have z4 : sh * (k - 1) + sh = k * sh := by
        obtain ⟨k', rfl⟩ : ∃ k', k = k' + 1 := ⟨k - 1, by omega⟩
        rw [Nat.add_sub_cancel, Nat.succ_mul, Nat.mul_comm]
      omega
    have elong : ((lN (m (H 0)) - lN K) + (nI sh).toInt64 - 1) / (nI sh).toInt64 = lN tk := by
      rw [lN_sub (by omega), nI_l (by omega), lN_add, show (1 : Int64) = lN 1 from rfl, lN_sub (by omega), pk_lDiv (by omega) (by omega) (by omega), etk]
    have hv0 : vp_in (ps_f H 0) 24 := vp_in_nI (by omega) (by decide)
    have em : ps_l m (ps_f H 0).toNatClampNeg = lN (m (H 0)) := by
      rw [ps_fa, nI_clamp (by omega), ps_la]
    have hn0 : ¬ (nI sh).toInt64 = 0 := by
      rw [nI_l (by omega), show (0 : Int64) = lN 0 from rfl, lN_eq (by omega) (by omega)]
      omega
    have walk : ∀ post : Int32 → Prop, (k1 ≤ tk → post (nI k1)) → (¬ k1 ≤ tk → post (nI tk)) → wX_stretch_46 post (nI k1) (nI T) (nI J) (lN K) (nI h) (nI c) (nI l) (ps_f s) (ps_f a) (ps_f q) A F (ps_f wx) (ps_l m) (ps_f H) (ps_f C) (ps_f L) := by
      intro post p1 p2
      refine br_f (nI_nle (by omega) (by omega)) ⟨nI_ne0 (by omega) (by omega), nm_r e840 ⟨hv0, nm_r (e' := lN (m (H 0)) - lN K) (by rw [em]) ⟨hn0, nm_r elong ?_⟩⟩⟩
      rw [nI_l (by omega : k1 < 2 ^ 31), lN_le (by omega) (by omega), lN_i]
      exact ⟨fun z => ps_104 h1 (by omega) (p1 z), fun z => ps_104 t1 (by omega) (p2 z)⟩
    by_cases hk : k1 ≤ tk
    · exact ⟨k1, h1, Nat.le_refl _, cond k1 h1 hk, fun post hp => walk post (fun _ => hp) (fun z => absurd hk z)⟩
    · exact ⟨tk, t1, by omega, cond tk t1 (Nat.le_refl _), fun post hp => walk post (fun z => absurd z hk) (fun _ => hp)⟩
theorem ps_stretch {left : Nat} (I : ps_I (T + 1) T J K h c l s a q w wx m g H C L A F) (h1 : 1 ≤ left) (h2 : left ≤ 5000) : ∃ k, 1 ≤ k ∧ k ≤ left ∧ (∀ y, y < J → q y = 0 → T + k ≤ a y) ∧ (∀ y, y < J → q y = 2 → w y + 840 / h * (k - 1) < s y) ∧ ∀ post : Int32 → Prop, post (nI k) → wpX_stretch post (nI T, nI J, lN K, nI h, nI c, nI l, ps_f s, ps_f a, ps_f q, A, F, ps_f wx, ps_l m, ps_f H, ps_f C, ps_f L) (nI left) := by
  have I' := I
  obtain ⟨⟨i1, i2, i3, i4⟩, IY, IW, IT, IC, IL, IB, IH⟩ := I
  have e1 := ps_cnt (ps_S_B IC)
  have e3 := ps_c_sum q J
  by_cases c0 : c = 0
  · subst c0
    obtain ⟨k, k1, k2, k3, k4⟩ := ps_46 I' h1 h2
    refine ⟨k, k1, k2, fun y hy e => ?_, k3, fun post hp => br_t ((ps_le0 (by omega)).mpr rfl) (k4 post hp)⟩
    obtain ⟨p, hp, _⟩ := IC.2.1 y ⟨hy, e⟩
    omega
  · obtain ⟨y0J, y0q⟩ := IC.1 0 (by omega)
    have T0 := (IT _ y0J).1 y0q
    have A0 := (IY _ y0J).2.2.1
    have hmin : ∀ y, y < J → q y = 0 → a (C 0) ≤ a y := by
      intro y hy e
      obtain ⟨p, hp, ep⟩ := IC.2.1 y ⟨hy, e⟩
      by_cases z : p = 0
      · rw [z] at ep
        rw [ep]
        exact Nat.le_refl _
      · have := IC.2.2 0 p (by omega) hp
        rw [ep] at this
        omega
    have hv0 : vp_in (ps_f C 0) 24 := vp_in_nI (by omega) (by decide)
    have ea : ps_f a (ps_f C 0).toNatClampNeg - nI T = nI (a (C 0) - T) := by
      rw [ps_fa C, nI_clamp (by omega), ps_fa a, pk_sub (by omega)]
    have hc0 : ¬ nI c ≤ 0 := nI_nle (by omega) (by omega)
    by_cases hk : left ≤ a (C 0) - T
    · obtain ⟨k, k1, k2, k3, k4⟩ := ps_46 I' h1 h2
      refine ⟨k, k1, k2, fun y hy e => by have := hmin y hy e; omega, k3, fun post hp => br_f hc0 ⟨hv0, ?_⟩⟩
      rw [ea]
      exact br_t (nI_le hk (by omega)) (k4 post hp)
    · obtain ⟨k, k1, k2, k3, k4⟩ := ps_46 (k1 := a (C 0) - T) I' (by omega) (by omega)
      refine ⟨k, k1, by omega, fun y hy e => by have := hmin y hy e; omega, k3, fun post hp => br_f hc0 ⟨hv0, ?_⟩⟩
      rw [ea]
      exact br_f (nI_ge (by omega) (by omega)) ⟨hv0, nm_e (k4 post hp)⟩
end
def ps_fq (J K : Nat) (m q : Nat → Nat) : Nat → Nat := fun y => if y < J ∧ q y = 2 ∧ m y ≤ K then 3 else q y
def ps_fw (J K : Nat) (m q s wx : Nat → Nat) : Nat → Nat := fun y => if y < J ∧ q y = 2 ∧ m y ≤ K then s y else wx y
def ps_fF (J K t : Nat) (m q : Nat → Nat) (F : Nat → Int32) : Nat → Int32 := fun y => if y < J ∧ q y = 2 ∧ m y ≤ K then nI t else F y
def ps_fd (J K : Nat) (m q : Nat → Nat) : Nat := ps_n (fun y => decide (q y = 2 ∧ m y ≤ K)) J
section
variable {J K t : Nat} {m q s wx : Nat → Nat} {F : Nat → Int32}
theorem ps_fq_no (h : ∀ y, y < J → q y = 2 → K < m y) : ps_fq J K m q = q := funext fun y => if_neg fun z => by have := h y z.1 z.2.1; omega
theorem ps_fw_no (h : ∀ y, y < J → q y = 2 → K < m y) : ps_fw J K m q s wx = wx := funext fun y => if_neg fun z => by have := h y z.1 z.2.1; omega
theorem ps_fF_no (h : ∀ y, y < J → q y = 2 → K < m y) : ps_fF J K t m q F = F := funext fun y => if_neg fun z => by have := h y z.1 z.2.1; omega
theorem ps_fd_no (h : ∀ y, y < J → q y = 2 → K < m y) : ps_fd J K m q = 0 := ps_n_0 fun y hy => decide_eq_false fun z => by have := h y hy z.1; omega
theorem ps_fq_st {x : Nat} (h : x < J ∧ q x = 2 ∧ m x ≤ K) : ps_fq J K m (ps_u q x 3) = ps_fq J K m q := by
  funext y
  unfold ps_fq
  by_cases z : y = x
  · subst z
    rw [ps_us, if_neg (by omega), if_pos h]
  · rw [ps_un z]
theorem ps_fw_st {x : Nat} (h : x < J ∧ q x = 2 ∧ m x ≤ K) : ps_fw J K m (ps_u q x 3) s (ps_u wx x (s x)) = ps_fw J K m q s wx := by
  funext y
  unfold ps_fw
  by_cases z : y = x
  · subst z
    rw [ps_us, ps_us, if_neg (by omega), if_pos h]
  · rw [ps_un z, ps_un z]
theorem ps_fF_st {x : Nat} (h : x < J ∧ q x = 2 ∧ m x ≤ K) : ps_fF J K t m (ps_u q x 3) (upd F x (nI t)) = ps_fF J K t m q F := by
  funext y
  unfold ps_fF
  by_cases z : y = x
  · subst z
    rw [ps_us, pk_us, if_neg (by omega), if_pos h]
  · rw [ps_un z, pk_un z]
theorem ps_fd_st {x : Nat} (h : x < J ∧ q x = 2 ∧ m x ≤ K) : ps_fd J K m q = ps_fd J K m (ps_u q x 3) + 1 := by
  unfold ps_fd
  refine ps_n_one h.1 (decide_eq_true h.2) (decide_eq_false ?_) (fun i hi => ?_)
  · rw [ps_us]
    omega
  · rw [ps_un hi]
end
section
variable {T J K c l : Nat} {s a m C L : Nat → Nat} {A : Nat → Int32}
theorem ps_cp2 (hJ : J ≤ 24) (hK : K < 2 ^ 62) (hT0 : 0 < T) : ∀ (h x1 : Nat) (q wx H : Nat → Nat) (F : Nat → Int32), x1 + h ≤ 8 → (∀ y, y < J → q y = 2 → m y < 2 ^ 62) → ps_B H h (fun y => y < J ∧ q y = 2) → ps_H m H h →
    ∃ (h' : Nat) (H' : Nat → Nat), ps_B H' h' (fun y => y < J ∧ ps_fq J K m q y = 2) ∧ ps_H m H' h' ∧ h' ≤ h ∧ ∀ (post : Int32 → SX → Prop) (n : Nat), h < n → post (nI (x1 + ps_fd J K m q)) (nI T, nI J, lN K, nI h', nI c, nI l, ps_f s, ps_f a, ps_f (ps_fq J K m q), A, ps_fF J K (T - 1) m q F, ps_f (ps_fw J K m q s wx), ps_l m, ps_f H', ps_f C, ps_f L) → wX_complete_2 post n (nI x1) (nI T) (nI J) (lN K) (nI h) (nI c) (nI l) (ps_f s) (ps_f a) (ps_f q) A F (ps_f wx) (ps_l m) (ps_f H) (ps_f C) (ps_f L) := by
  intro h
  induction h with
  | zero =>
    intro x1 q wx H F hx hm B O
    have no : ∀ y, y < J → q y = 2 → K < m y := by
      intro y hy e
      obtain ⟨p, hp, _⟩ := B.2.1 y ⟨hy, e⟩
      omega
    rw [ps_fq_no no, ps_fw_no no, ps_fF_no no, ps_fd_no no]
    refine ⟨0, H, B, O, Nat.le_refl _, fun post n hn hp => ?_⟩
    obtain ⟨n, rfl⟩ : ∃ n', n = n' + 1 := ⟨n - 1, by omega⟩
    exact br_c (fun _ => hp) (fun _ => br_t ((ps_le0 (by omega)).mpr rfl) hp)
  | succ h ih =>
    intro x1 q wx H F hx hm B O
    obtain ⟨y0J, y0q⟩ := B.1 0 (by omega)
    have hm0 := hm _ y0J y0q
    have hv0 : vp_in (nI (H 0)) 24 := vp_in_nI (by omega) (by decide)
    have ec : (nI (H 0)).toNatClampNeg = H 0 := nI_clamp (by omega)
    have h8 : ¬ (8 : Int32) ≤ nI x1 := fun z => by rw [ps_8le (by omega)] at z; omega
    have hh0 : ¬ nI (h + 1) ≤ 0 := nI_nle (by omega) (by omega)
    by_cases hk : K < m (H 0)
    · have no : ∀ y, y < J → q y = 2 → K < m y := by
        intro y hy e
        obtain ⟨p, hp, ep⟩ := B.2.1 y ⟨hy, e⟩
        have := ps_root O p hp
        rw [ep] at this
        unfold ps_k at this
        omega
      rw [ps_fq_no no, ps_fw_no no, ps_fF_no no, ps_fd_no no]
      refine ⟨h + 1, H, B, O, Nat.le_refl _, fun post n hn hp => ?_⟩
      obtain ⟨n, rfl⟩ : ∃ n', n = n' + 1 := ⟨n - 1, by omega⟩
      refine br_f h8 (br_f hh0 ⟨hv0, br_t ?_ hp⟩)
      rw [ps_fa, ec, ps_la, pk_lLT (by omega) (by omega)]
      exact hk
    · have hx0 : H 0 < J ∧ q (H 0) = 2 ∧ m (H 0) ≤ K := ⟨y0J, y0q, by omega⟩
      obtain ⟨H1, b1, b2, b3⟩ := ps_take (t := nI T) (j := nI J) (c := nI c) (l := nI l) (k := lN K) (sz := ps_f s) (ar := ps_f a) (so := ps_f (ps_u q (H 0) 3)) (ad := A) (fi := upd F (H 0) (nI (T - 1))) (wo := ps_f (ps_u wx (H 0) (s (H 0)))) (cj := ps_f C) (lj := ps_f L) (m := m) (H := H) (N := h) (p := 0) (P := fun y => y < J ∧ q y = 2) (by omega) (fun y hy => ⟨by omega, hm y hy.1 hy.2⟩) (by omega) B O
      obtain ⟨h', H', d1, d2, d3, d4⟩ := ih (x1 + 1) (ps_u q (H 0) 3) (ps_u wx (H 0) (s (H 0))) H1 (upd F (H 0) (nI (T - 1))) (by omega) (fun y hy e => by
        by_cases z : y = H 0
        · subst z; rw [ps_us] at e; omega
        · rw [ps_un z] at e; exact hm y hy e) (ps_B_congr (fun y => by
        show ((y < J ∧ q y = 2) ∧ y ≠ H 0) ↔ (y < J ∧ ps_u q (H 0) 3 y = 2)
        by_cases z : y = H 0
        · subst z; rw [ps_us]; omega
        · rw [ps_un z]; omega) b1) b2
      rw [ps_fq_st hx0] at d1
      rw [ps_fq_st hx0, ps_fw_st hx0, ps_fF_st hx0] at d4
      rw [ps_fd_st hx0]
      refine ⟨h', H', d1, d2, by omega, fun post n hn hp => ?_⟩
      obtain ⟨n, rfl⟩ : ∃ n', n = n' + 1 := ⟨n - 1, by omega⟩
      refine br_f h8 (br_f hh0 ⟨hv0, br_f ?_ (nm_r (e' := nI (H 0)) rfl ⟨hv0, nm_r (e' := ps_f (ps_u q (H 0) 3)) (by rw [ec]; exact ps_uf q (H 0) 3) ⟨hv0, nm_r (e' := upd F (H 0) (nI (T - 1))) (by rw [ec, ps_sub1 hT0]) ⟨hv0, hv0, nm_r (e' := ps_f (ps_u wx (H 0) (s (H 0)))) (by rw [ec, ps_fa, ps_uf]) ?_⟩⟩⟩)⟩)
      · rw [ps_fa, ec, ps_la, pk_lLT (by omega) (by omega)]
        exact hk
      · refine b3 _ (nm_r (nI_1 x1) (d4 post n (by omega) ?_))
        rw [show x1 + 1 + ps_fd J K m (ps_u q (H 0) 3) = x1 + (ps_fd J K m (ps_u q (H 0) 3) + 1) by omega]
        exact hp
theorem ps_cmpl {h : Nat} {q wx H : Nat → Nat} {F : Nat → Int32} (hJ : J ≤ 24) (hK : K < 2 ^ 62) (hT0 : 0 < T) (h8 : h ≤ 8) (hm : ∀ y, y < J → q y = 2 → m y < 2 ^ 62) (B : ps_B H h (fun y => y < J ∧ q y = 2)) (O : ps_H m H h) :
    ∃ (h' : Nat) (H' : Nat → Nat), ps_B H' h' (fun y => y < J ∧ ps_fq J K m q y = 2) ∧ ps_H m H' h' ∧ h' ≤ h ∧ ∀ (post : Int32 → SX → Prop), post (nI (ps_fd J K m q)) (nI T, nI J, lN K, nI h', nI c, nI l, ps_f s, ps_f a, ps_f (ps_fq J K m q), A, ps_fF J K (T - 1) m q F, ps_f (ps_fw J K m q s wx), ps_l m, ps_f H', ps_f C, ps_f L) → wpX_complete post (nI T, nI J, lN K, nI h, nI c, nI l, ps_f s, ps_f a, ps_f q, A, F, ps_f wx, ps_l m, ps_f H, ps_f C, ps_f L) := by
  obtain ⟨h', H', d1, d2, d3, d4⟩ := ps_cp2 (T := T) (c := c) (l := l) (s := s) (a := a) (C := C) (L := L) (A := A) hJ hK hT0 h 0 q wx H F (by omega) hm B O
  refine ⟨h', H', d1, d2, d3, fun post hp => ⟨h + 1, d4 post (h + 1) (by omega) ?_⟩⟩
  rw [Nat.zero_add]
  exact hp
end
end
section
/-! the reference's ticks: one, and k of them without a completion before the last -/
section
variable {q s w : Nat → Nat} {b e t J : Nat} {F : Nat → Int32}
theorem ps_w_at (hw : ∀ y, y < J → q y = 2 → w y + b < s y) {y : Nat} (hy : y < J) (e2 : q y = 2) : ps_w q s b J w y = w y + b := by
  have := hw y hy e2
  unfold ps_w
  rw [if_pos ⟨hy, e2⟩, if_neg (by omega)]
theorem ps_w_cmp (hw : ∀ y, y < J → q y = 2 → w y + b < s y) : ps_w q s e J (ps_w q s b J w) = ps_w q s (b + e) J w := by
  funext y
  by_cases z : y < J ∧ q y = 2
  · have := ps_w_at hw z.1 z.2
    show (if y < J ∧ q y = 2 then (if s y ≤ ps_w q s b J w y + e then s y else ps_w q s b J w y + e) else ps_w q s b J w y) = (if y < J ∧ q y = 2 then (if s y ≤ w y + (b + e) then s y else w y + (b + e)) else w y)
    rw [if_pos z, if_pos z, this, Nat.add_assoc]
  · show (if y < J ∧ q y = 2 then (if s y ≤ ps_w q s b J w y + e then s y else ps_w q s b J w y + e) else (if y < J ∧ q y = 2 then (if s y ≤ w y + b then s y else w y + b) else w y)) = (if y < J ∧ q y = 2 then (if s y ≤ w y + (b + e) then s y else w y + (b + e)) else w y)
    rw [if_neg z, if_neg z, if_neg z]
theorem ps_ff_cmp (hw : ∀ y, y < J → q y = 2 → w y + b < s y) : ps_ff q s e t J (ps_w q s b J w) F = ps_ff q s (b + e) t J w F := by
  funext y
  unfold ps_ff
  by_cases z : y < J ∧ q y = 2
  · rw [ps_w_at hw z.1 z.2, Nat.add_assoc]
  · rw [if_neg (fun x => z ⟨x.1, x.2.1⟩), if_neg (fun x => z ⟨x.1, x.2.1⟩)]
theorem ps_d_cmp (hw : ∀ y, y < J → q y = 2 → w y + b < s y) : ps_d q s e (ps_w q s b J w) J = ps_d q s (b + e) w J := by
  refine ps_n_congr fun y hy => decide_eq_decide.mpr ?_
  by_cases z : q y = 2
  · rw [ps_w_at hw hy z, Nat.add_assoc]
  · exact ⟨fun x => absurd x.1 z, fun x => absurd x.1 z⟩
end
section
variable {T J h h' : Nat} {s a q q' w g : Nat → Nat} {A A' F : Nat → Int32}
theorem ps_yone (hJ : J ≤ 24) (hT : T < 2 ^ 24) (Y : ps_Y T J s a q g A F) (Y' : ps_Y T J s a q' g A' F) (tm : ps_T (T + 1) J a q') (hh : ps_c q 2 J = h) (hh' : ps_c q' 2 J = h') (h8 : h' ≤ 8) (hl : h' = 8 ∨ ∀ y, y < J → q' y ≠ 1) (hw : ∀ y, y < J → q' y = 2 → w y < s y)
    (LS : ∀ (post : Int32 → SY → Prop) (n' : Nat), wY_oneTick_5 post (nI J) (nI T) n' (nI h') (ps_f s) (ps_f a) (ps_f w) A' F (ps_f g) → wY_oneTick_5 post (nI J) (nI T) (n' + (h' - h)) (nI h) (ps_f s) (ps_f a) (ps_f w) A F (ps_f g))
    (post : Int32 → SY → Prop) (hp : post (nI (ps_d q' s (840 / h') w J)) (nI J, nI T, ps_f s, ps_f a, ps_f (ps_w q' s (840 / h') J w), A', ps_ff q' s (840 / h') T J w F, ps_f g)) : wpY_oneTick post (nI J, nI T, ps_f s, ps_f a, ps_f w, A, F, ps_f g) := by
  refine ps_yserved hJ hT Y ?_
  rw [hh]
  refine ⟨9 - h' + (h' - h), LS post (9 - h') ?_⟩
  exact ps_yset hJ hT Y' tm hh' hw post hp (8 - h') h' (by omega) (by rcases hl with e | e; exact Or.inl (by omega); exact Or.inr e) (9 - h') (by omega)
theorem ps_ytick (hJ : J ≤ 24) (hT : T < 2 ^ 24) (Y : ps_Y T J s a q g A F) (Y' : ps_Y T J s a q' g A' F) (tm : ps_T (T + 1) J a q') (hh : ps_c q 2 J = h) (hh' : ps_c q' 2 J = h') (h8 : h' ≤ 8) (hl : h' = 8 ∨ ∀ y, y < J → q' y ≠ 1) (hw : ∀ y, y < J → q' y = 2 → w y < s y)
    (f3 : ∀ y, q' y = q y ∨ (q y = 1 ∧ q' y = 2)) (f4 : ∀ y, A' y = A y ∨ (y < J ∧ q y = 1))
    (LS : ∀ (post : Int32 → SY → Prop) (n' : Nat), wY_oneTick_5 post (nI J) (nI T) n' (nI h') (ps_f s) (ps_f a) (ps_f w) A' F (ps_f g) → wY_oneTick_5 post (nI J) (nI T) (n' + (h' - h)) (nI h) (ps_f s) (ps_f a) (ps_f w) A F (ps_f g))
    (post : Int32 → SY → Prop) (x2 n x3 x4 : Nat) (h42 : x4 < x2) (h2 : x2 < 2 ^ 31) (K : wY_run_28 post (nI x2) n (nI (x3 + ps_d q' s (840 / h') w J)) (nI (x4 + 1)) (nI J) (nI (T + 1)) (ps_f s) (ps_f a) (ps_f (ps_w q' s (840 / h') J w)) A' (ps_ff q' s (840 / h') T J w F) (ps_f g)) : wY_run_28 post (nI x2) (n + 1) (nI x3) (nI x4) (nI J) (nI T) (ps_f s) (ps_f a) (ps_f w) A F (ps_f g) := by
  obtain ⟨r, R, hr⟩ := ps_yopen (w := w) hJ Y
  refine br_f (nI_ge h42 h2) (hr _ ?_)
  rcases R with ⟨e, hall⟩ | e
  · have hn : ∀ y, y < J → q' y ≠ 2 := by
      intro y hy
      have := hall y hy
      have := f3 y
      omega
    have hA : A' = A := funext fun y => (f4 y).resolve_right fun z => by have := hall y z.1; omega
    rw [ps_w_none hn, ps_ff_none (fun y hy z => hn y hy z.1), ps_d_none (fun y hy z => hn y hy z.1), hA] at K
    rw [e]
    exact br_t rfl (nm_r (nI_1 T) (nm_r (nI_1 x4) K))
  · rw [e]
    refine br_f (by decide) (ps_yone hJ hT Y Y' tm hh hh' h8 hl hw LS _ ?_)
    exact nm_r (nI_add x3 _) (nm_r (nI_1 T) (nm_r (nI_1 x4) K))
theorem ps_yk (hJ : J ≤ 24) (Y : ps_Y T J s a q g A F) (Y' : ps_Y T J s a q' g A' F) (tm : ps_T (T + 1) J a q') (hh : ps_c q 2 J = h) (hh' : ps_c q' 2 J = h') (h8 : h' ≤ 8) (hl : h' = 8 ∨ ∀ y, y < J → q' y ≠ 1) (hw : ∀ y, y < J → q' y = 2 → w y < s y)
    (f3 : ∀ y, q' y = q y ∨ (q y = 1 ∧ q' y = 2)) (f4 : ∀ y, A' y = A y ∨ (y < J ∧ q y = 1))
    (LS : ∀ (post : Int32 → SY → Prop) (n' : Nat), wY_oneTick_5 post (nI J) (nI T) n' (nI h') (ps_f s) (ps_f a) (ps_f w) A' F (ps_f g) → wY_oneTick_5 post (nI J) (nI T) (n' + (h' - h)) (nI h) (ps_f s) (ps_f a) (ps_f w) A F (ps_f g)) :
    ∀ k : Nat, T + (k + 1) < 2 ^ 24 → (∀ y, y < J → q' y = 2 → w y + 840 / h' * k < s y) → (∀ y, y < J → q' y = 0 → T + (k + 1) ≤ a y) →
    ∀ (post : Int32 → SY → Prop) (x2 n x3 x4 : Nat), x4 + (k + 1) ≤ x2 → x2 < 2 ^ 31 → wY_run_28 post (nI x2) n (nI (x3 + ps_d q' s (840 / h' * (k + 1)) w J)) (nI (x4 + (k + 1))) (nI J) (nI (T + (k + 1))) (ps_f s) (ps_f a) (ps_f (ps_w q' s (840 / h' * (k + 1)) J w)) A' (ps_ff q' s (840 / h' * (k + 1)) (T + k) J w F) (ps_f g) → wY_run_28 post (nI x2) (n + (k + 1)) (nI x3) (nI x4) (nI J) (nI T) (ps_f s) (ps_f a) (ps_f w) A F (ps_f g) := by
  intro k
  induction k with
  | zero =>
    intro hT hc hz post x2 n x3 x4 h4 h2 K
    rw [Nat.zero_add, Nat.mul_one] at K
    exact ps_ytick hJ (by omega) Y Y' tm hh hh' h8 hl hw f3 f4 LS post x2 n x3 x4 (by omega) h2 K
  | succ k ih =>
    intro hT hc hz post x2 n x3 x4 h4 h2 K
    have mono : 840 / h' * k ≤ 840 / h' * (k + 1) := Nat.mul_le_mul_left _ (by omega)
    have none : ∀ y, y < J → ¬ (q' y = 2 ∧ s y ≤ w y + 840 / h' * (k + 1)) := fun y hy z => by have := hc y hy z.1; omega
    have I1 := ih (by omega) (fun y hy e => by have := hc y hy e; omega) (fun y hy e => by have := hz y hy e; omega) post x2 (n + 1) x3 x4 (by omega) h2
    rw [ps_d_none none, ps_ff_none none] at I1
    rw [show n + (k + 1 + 1) = n + 1 + (k + 1) by omega]
    refine I1 ?_
    have Yk : ps_Y (T + (k + 1)) J s a q' g A' F := fun y hy => by
      obtain ⟨z1, z2, z3, z4⟩ := Y' y hy
      exact ⟨z1, z2, by omega, z4⟩
    refine ps_ytick (T := T + (k + 1)) (h := h') (h' := h') (q := q') (q' := q') (A := A') (A' := A') (w := ps_w q' s (840 / h' * (k + 1)) J w) hJ (by omega) Yk Yk (fun y hy => ⟨fun e => by have := hz y hy e; omega, fun e => by have := (tm y hy).2 e; omega⟩) hh' hh' h8 hl (fun y hy e => by rw [ps_w_at hc hy e]; exact hc y hy e) (fun y => Or.inl rfl) (fun y => Or.inl rfl) (fun post n' z => by rw [Nat.sub_self]; exact z) post x2 n (x3 + 0) (x4 + (k + 1)) (by omega) h2 ?_
    rw [ps_w_cmp hc, ps_ff_cmp hc, ps_d_cmp hc, Nat.add_zero, show 840 / h' * (k + 1) + 840 / h' = 840 / h' * (k + 1 + 1) from rfl]
    exact K
end
end
section
/-! a stretch of the class is k ticks of the reference; the run -/
section
variable {T J K h c l : Nat} {s a q w wx m g H C L : Nat → Nat} {A F : Nat → Int32}
/-- the state behind a stretch of k ticks -/
theorem ps_end {k K' h' : Nat} {H' : Nat → Nat} (hk : 1 ≤ k) (hT : T + k < 2 ^ 24) (hK : K' = K + 840 / h * k) (hh' : h' ≤ h) (I : ps_I (T + 1) T J K h c l s a q w wx m g H C L A F) (hz : ∀ y, y < J → q y = 0 → T + k ≤ a y)
    (B : ps_B H' h' (fun y => y < J ∧ ps_fq J K' m q y = 2)) (O : ps_H m H' h') :
    ps_I (T + k) (T + k) J K' h' c l s a (ps_fq J K' m q) (ps_w q s (840 / h * k) J w) (ps_fw J K' m q s wx) m g H' C L A (ps_fF J K' (T + k - 1) m q F) ∧ ps_fF J K' (T + k - 1) m q F = ps_ff q s (840 / h * k) (T + k - 1) J w F ∧ ps_fd J K' m q = ps_d q s (840 / h * k) w J := by
  obtain ⟨⟨i1, i2, i3, i4⟩, IY, IW, IT, IC, IL, IB, IH⟩ := I
  have d2 : 840 / h ≤ 840 := Nat.div_le_self _ _
  have d3 : 840 / h * k ≤ 840 * k := Nat.mul_le_mul_right k d2
  generalize 840 / h * k = sk at hK d3 ⊢
  have eqv : ∀ y, y < J → q y = 2 → (m y ≤ K' ↔ s y ≤ w y + sk) := by
    intro y hy e
    have := (IW y hy).1 e
    omega
  have q0 : ∀ y v, v < 2 → ((y < J ∧ q y = v) ↔ (y < J ∧ ps_fq J K' m q y = v)) := by
    intro y v hv
    unfold ps_fq
    by_cases z : y < J ∧ q y = 2 ∧ m y ≤ K'
    · rw [if_pos z]
      omega
    · rw [if_neg z]
  refine ⟨⟨⟨i1, by omega, by omega, hT⟩, ?_, ?_, ?_, ps_S_congr (fun y => q0 y 0 (by omega)) IC, ps_S_congr (fun y => q0 y 1 (by omega)) IL, B, O⟩, ?_, ?_⟩
  · intro y hy
    have z := IY y hy
    unfold ps_fq ps_fF
    by_cases e : y < J ∧ q y = 2 ∧ m y ≤ K'
    · rw [if_pos e, if_pos e]
      rw [e.2.1] at z
      obtain ⟨z1, z2, z3, z4, z5, z6, z7, z8, z9, z10⟩ := z
      exact ⟨z1, z2, by omega, by omega, fun f => by omega, fun _ => z6 (by omega), fun _ => nI_pos' (by omega), fun f => by omega, fun _ => z9 (by omega), fun f => by omega⟩
    · rw [if_neg e, if_neg e]
      obtain ⟨z1, z2, z3, z4⟩ := z
      exact ⟨z1, z2, by omega, z4⟩
  · intro y hy
    have z := IW y hy
    by_cases e2 : q y = 2
    · have E := eqv y hy e2
      have z1 := z.1 e2
      by_cases e : m y ≤ K'
      · have a1 : ps_fq J K' m q y = 3 := if_pos ⟨hy, e2, e⟩
        have a2 : ps_fw J K' m q s wx y = s y := if_pos ⟨hy, e2, e⟩
        have a3 : ps_w q s sk J w y = s y := (if_pos (show y < J ∧ q y = 2 from ⟨hy, e2⟩)).trans (if_pos (E.mp e))
        rw [a1, a2, a3]
        exact ⟨fun f => by omega, fun _ => rfl, fun f => by omega⟩
      · have a1 : ps_fq J K' m q y = q y := if_neg (fun f => e f.2.2)
        have a3 : ps_w q s sk J w y = w y + sk := (if_pos (show y < J ∧ q y = 2 from ⟨hy, e2⟩)).trans (if_neg (fun f => e (E.mpr f)))
        have e' : ¬ s y ≤ w y + sk := fun f => e (E.mpr f)
        rw [a1, a3]
        exact ⟨fun _ => by omega, fun f => absurd e2 f, fun f => by omega⟩
    · have a1 : ps_fq J K' m q y = q y := if_neg (fun f => e2 f.2.1)
      have a2 : ps_fw J K' m q s wx y = wx y := if_neg (fun f => e2 f.2.1)
      have a3 : ps_w q s sk J w y = w y := if_neg (fun f => e2 f.2)
      rw [a1, a2, a3]
      exact ⟨fun f => absurd f e2, z.2.1, z.2.2⟩
  · intro y hy
    have z := IT y hy
    have z0 := hz y hy
    have q00 := q0 y 0 (by omega)
    have q01 := q0 y 1 (by omega)
    exact ⟨fun e => z0 (q00.mpr ⟨hy, e⟩).2, fun e => by have := z.2 (q01.mpr ⟨hy, e⟩).2; omega⟩
  · funext y
    unfold ps_fF ps_ff
    by_cases e2 : y < J ∧ q y = 2
    · have E := eqv y e2.1 e2.2
      by_cases e : m y ≤ K'
      · rw [if_pos ⟨e2.1, e2.2, e⟩, if_pos ⟨e2.1, e2.2, E.mp e⟩]
      · rw [if_neg (fun f => e f.2.2), if_neg (fun f => e (E.mpr f.2.2))]
    · rw [if_neg (fun f => e2 ⟨f.1, f.2.1⟩), if_neg (fun f => e2 ⟨f.1, f.2.1⟩)]
  · refine ps_n_congr fun y hy => decide_eq_decide.mpr ?_
    by_cases e2 : q y = 2
    · rw [eqv y hy e2]
    · exact ⟨fun f => absurd f.1 e2, fun f => absurd f.1 e2⟩
theorem ps_it {left : Nat} (h1 : 1 ≤ left) (h2 : left ≤ 5000) (hT : T + left < 2 ^ 24) (I : ps_I T T J K h c l s a q w wx m g H C L A F) :
    ∃ (k r K' h' c' l' : Nat) (q' w' wx' m' H' C' L' : Nat → Nat) (A' F' : Nat → Int32), 1 ≤ k ∧ k ≤ left ∧ ps_I (T + k) (T + k) J K' h' c' l' s a q' w' wx' m' g H' C' L' A' F' ∧
    (∀ (post : Int32 → SX → Prop) (n x3 : Nat), wX_run_21 post n (nI (left - k)) (nI (x3 + r)) (nI (T + k)) (nI J) (lN K') (nI h') (nI c') (nI l') (ps_f s) (ps_f a) (ps_f q') A' F' (ps_f wx') (ps_l m') (ps_f H') (ps_f C') (ps_f L') → wX_run_21 post (n + 1) (nI left) (nI x3) (nI T) (nI J) (lN K) (nI h) (nI c) (nI l) (ps_f s) (ps_f a) (ps_f q) A F (ps_f wx) (ps_l m) (ps_f H) (ps_f C) (ps_f L)) ∧
    (∀ (post : Int32 → SY → Prop) (x2 n x3 x4 : Nat), x4 + k ≤ x2 → x2 < 2 ^ 31 → wY_run_28 post (nI x2) n (nI (x3 + r)) (nI (x4 + k)) (nI J) (nI (T + k)) (ps_f s) (ps_f a) (ps_f w') A' F' (ps_f g) → wY_run_28 post (nI x2) (n + k) (nI x3) (nI x4) (nI J) (nI T) (ps_f s) (ps_f a) (ps_f w) A F (ps_f g)) := by
  obtain ⟨c1, l1, q1, C1, L1, I1, X1⟩ := ps_arrive I
  obtain ⟨h2', l2, q2, m2, H2, L2, A2, I2, f1, f2, f3, f4, X2, LS⟩ := ps_adm I1
  obtain ⟨k, k1, k2, k3, k4, X3⟩ := ps_stretch I2 h1 h2
  obtain ⟨K', eK⟩ : ∃ K', K' = K + 840 / h2' * k := ⟨_, rfl⟩
  have I2' := I2
  obtain ⟨⟨i1, i2, i3, i4⟩, IY, IW, IT, IC, IL, IB, IH⟩ := I2
  have d2 : 840 / h2' ≤ 840 := Nat.div_le_self _ _
  have d3 : 840 / h2' * k ≤ 840 * k := Nat.mul_le_mul_right k d2
  obtain ⟨h3, H3, b1, b2, b3, X4⟩ := ps_cmpl (T := T + k) (J := J) (K := K') (c := c1) (l := l2) (s := s) (a := a) (m := m2) (C := C1) (L := L2) (A := A2) (h := h2') (q := q2) (wx := wx) (H := H2) (F := F) i1 (by omega) (by omega) i2 (fun y hy e => by have := (IW y hy).1 e; have := (IY y hy).2.1; omega) IB IH
  obtain ⟨I3, eF, ed⟩ := ps_end (H' := H3) k1 (by omega) eK b3 I2' k3 b1 b2
  refine ⟨k, ps_fd J K' m2 q2, K', h3, c1, l2, _, _, _, m2, H3, C1, L2, A2, _, k1, k2, I3, fun post n x3 KK => ?_, fun post x2 n x3 x4 hx4 hx2 KK => ?_⟩
  · have W69 : wX_run_69 post (wX_run_21 post n) (nI left) (nI x3) (nI k) (nI T) (nI J) (lN K') (nI h2') (nI c1) (nI l2) (ps_f s) (ps_f a) (ps_f q2) A2 F (ps_f wx) (ps_l m2) (ps_f H2) (ps_f C1) (ps_f L2) := by
      refine nm_r (nI_add T k) (nm_r (pk_sub k2) ?_)
      refine X4 _ ?_
      exact nm_r (nI_add x3 _) KK
    refine br_f (nI_nle (by omega) (by omega)) ?_
    refine X1 _ ?_
    refine X2 _ ?_
    refine X3 _ ?_
    by_cases h0 : h2' = 0
    · have e : K' = K := by rw [eK, h0, Nat.div_zero, Nat.zero_mul, Nat.add_zero]
      rw [e] at W69
      exact br_t ((ps_le0 (by omega)).mpr h0) W69
    · refine br_f (nI_nle (by omega) (by omega)) ⟨nI_ne0 (by omega) (by omega), nm_r (e' := lN K') ?_ W69⟩
      have e840 : (840 : Int32) / nI h2' = nI (840 / h2') := pk_div (a := 840) (by omega) (by omega) (by omega)
      rw [e840, nI_l (by omega), nI_l (by omega), lN_mul, lN_add, eK]
  · rw [eF, ed] at KK
    obtain ⟨k', rfl⟩ : ∃ k', k = k' + 1 := ⟨k - 1, by omega⟩
    have tmp : T + (k' + 1) - 1 = T + k' := by omega
    rw [tmp] at KK
    refine ps_yk i1 I1.2.1 IY IT (ps_cnt I1.2.2.2.2.2.2.1) (ps_cnt IB) i2 ?_ (fun y hy e => ((IW y hy).1 e).2) f3 f4 LS k' (by omega) (fun y hy e => by have := k4 y hy e; exact this) k3 post x2 n x3 x4 hx4 hx2 KK
    rcases f1 with e | e
    · right
      intro y hy e1
      obtain ⟨p, hp, _⟩ := IL.2.1 y ⟨hy, e1⟩
      omega
    · exact Or.inl e
end
/-- the two states at a tick T -/
def ps_Q (T J : Nat) (s a g : Nat → Nat) (u : SX) (v : SY) : Prop :=
  ∃ (K h c l : Nat) (q w wx m H C L : Nat → Nat) (A F : Nat → Int32), ps_I T T J K h c l s a q w wx m g H C L A F ∧ u = (nI T, nI J, lN K, nI h, nI c, nI l, ps_f s, ps_f a, ps_f q, A, F, ps_f wx, ps_l m, ps_f H, ps_f C, ps_f L) ∧ v = (nI J, nI T, ps_f s, ps_f a, ps_f w, A, F, ps_f g)
theorem ps_main {J : Nat} {s a g : Nat → Nat} : ∀ (left T K h c l : Nat) (q w wx m H C L : Nat → Nat) (A F : Nat → Int32), left ≤ 5000 → T + left < 2 ^ 24 → ps_I T T J K h c l s a q w wx m g H C L A F →
    ∃ (r : Nat) (u' : SX) (v' : SY), ps_Q (T + left) J s a g u' v' ∧ (∀ (post : Int32 → SX → Prop) (n x3 : Nat), left < n → post (nI (x3 + r)) u' → wX_run_21 post n (nI left) (nI x3) (nI T) (nI J) (lN K) (nI h) (nI c) (nI l) (ps_f s) (ps_f a) (ps_f q) A F (ps_f wx) (ps_l m) (ps_f H) (ps_f C) (ps_f L)) ∧
    (∀ (post : Int32 → SY → Prop) (x2 n x3 x4 : Nat), x4 + left = x2 → x2 < 2 ^ 31 → post (nI (x3 + r)) v' → wY_run_28 post (nI x2) (n + 1 + left) (nI x3) (nI x4) (nI J) (nI T) (ps_f s) (ps_f a) (ps_f w) A F (ps_f g)) := by
  intro left
  induction left using Nat.strongRecOn with
  | _ left ih =>
    intro T K h c l q w wx m H C L A F h5 hT I
    by_cases h0 : left = 0
    · subst h0
      refine ⟨0, (nI T, nI J, lN K, nI h, nI c, nI l, ps_f s, ps_f a, ps_f q, A, F, ps_f wx, ps_l m, ps_f H, ps_f C, ps_f L), (nI J, nI T, ps_f s, ps_f a, ps_f w, A, F, ps_f g), ⟨K, h, c, l, q, w, wx, m, H, C, L, A, F, I, rfl, rfl⟩, fun post n x3 hn hp => ?_, fun post x2 n x3 x4 hx hx2 hp => ?_⟩
      · obtain ⟨n, rfl⟩ : ∃ n', n = n' + 1 := ⟨n - 1, by omega⟩
        exact br_t ((ps_le0 (by omega)).mpr rfl) hp
      · exact br_t (nI_le (by omega) (by omega)) hp
    · obtain ⟨k, r, K', h', c', l', q', w', wx', m', H', C', L', A', F', k1, k2, I', hX, hY⟩ := ps_it (by omega) h5 hT I
      obtain ⟨r2, u', v', Q, hX2, hY2⟩ := ih (left - k) (by omega) (T + k) K' h' c' l' q' w' wx' m' H' C' L' A' F' (by omega) (by omega) I'
      rw [show T + k + (left - k) = T + left by omega] at Q
      refine ⟨r + r2, u', v', Q, fun post n x3 hn hp => ?_, fun post x2 n x3 x4 hx hx2 hp => ?_⟩
      · obtain ⟨n, rfl⟩ : ∃ n', n = n' + 1 := ⟨n - 1, by omega⟩
        exact hX post n x3 (hX2 post n (x3 + r) (by omega) (by rw [Nat.add_assoc]; exact hp))
      · rw [show n + 1 + left = n + 1 + (left - k) + k by omega]
        exact hY post x2 (n + 1 + (left - k)) x3 x4 (by omega) hx2 (hY2 post x2 n (x3 + r) (x4 + k) (by omega) hx2 (by rw [Nat.add_assoc]; exact hp))
end
section
/-! a new job -/
section
variable {t j h l : Int32} {k : Int64} {sz so ad fi wo hj lj : Nat → Int32} {mk : Nat → Int64}
theorem ps_s109 {c y : Nat} {a C0 : Nat → Nat} (hc : c < 24) (hy : y < 24) (ha : a y < 2 ^ 31) (hC : ∀ z, z < c → C0 z < 24 ∧ a (C0 z) < 2 ^ 31) : ∀ (i : Nat) (C : Nat → Nat), i ≤ c → (∀ z, z < i → C z = C0 z) → (∀ z, i < z → z < c + 1 → C z = C0 (z - 1)) → (∀ z, i ≤ z → z < c → a y < a (C0 z)) →
    ∃ (p : Nat) (D : Nat → Nat), p ≤ c ∧ (∀ z, z < c + 1 → D z = if z = p then y else C0 (if z < p then z else z - 1)) ∧ (p = 0 ∨ a (C0 (p - 1)) ≤ a y) ∧ (∀ z, p ≤ z → z < c → a y < a (C0 z)) ∧
    ∀ (post : Int32 → SX → Prop) (n : Nat), i < n → post (nI y) (t, j, k, h, nI (c + 1), l, sz, ps_f a, so, ad, fi, wo, mk, hj, ps_f D, lj) → wX_submit_109 post (nI y) t j k h (nI c) l n (nI i) sz (ps_f a) so ad fi wo mk hj (ps_f C) lj := by
  intro i
  have stop : ∀ (i : Nat) (C : Nat → Nat), i ≤ c → (∀ z, z < i → C z = C0 z) → (∀ z, i < z → z < c + 1 → C z = C0 (z - 1)) → (∀ z, z < c + 1 → ps_u C i y z = if z = i then y else C0 (if z < i then z else z - 1)) ∧ ∀ (post : Int32 → SX → Prop), post (nI y) (t, j, k, h, nI (c + 1), l, sz, ps_f a, so, ad, fi, wo, mk, hj, ps_f (ps_u C i y), lj) → wX_submit_159 post (nI y) (nI i) t j k h (nI c) l sz (ps_f a) so ad fi wo mk hj (ps_f C) lj := by
    intro i C hi h1 h2
    refine ⟨fun z hz => ?_, fun post hp => ⟨vp_in_nI (by omega) (by decide), nm_r ?_ (nm_r (nI_1 c) hp)⟩⟩
    · by_cases e : z = i
      · rw [if_pos e, e, ps_us]
      · rw [if_neg e, ps_un e]
        by_cases e2 : z < i
        · rw [if_pos e2, h1 z e2]
        · rw [if_neg e2, h2 z (by omega) hz]
    · rw [nI_clamp (by omega), ps_uf]
  induction i with
  | zero =>
    intro C hi h1 h2 h3
    obtain ⟨s1, s2⟩ := stop 0 C hi h1 h2
    refine ⟨0, ps_u C 0 y, by omega, s1, Or.inl rfl, h3, fun post n hn hp => ?_⟩
    obtain ⟨n, rfl⟩ : ∃ n', n = n' + 1 := ⟨n - 1, by omega⟩
    exact br_t ((ps_le0 (by omega)).mpr rfl) (s2 post hp)
  | succ i ih =>
    intro C hi h1 h2 h3
    have hle : ¬ nI (i + 1) ≤ 0 := nI_nle (by omega) (by omega)
    have ei : nI (i + 1) - 1 = nI i := nI_pred i
    have hvi : vp_in (nI i) 24 := vp_in_nI (by omega) (by decide)
    have hvi1 : vp_in (nI (i + 1)) 24 := vp_in_nI (by omega) (by decide)
    have hvy : vp_in (nI y) 24 := vp_in_nI hy (by decide)
    have eci : (nI i).toNatClampNeg = i := nI_clamp (by omega)
    have ecy : (nI y).toNatClampNeg = y := nI_clamp (by omega)
    have eCi : C i = C0 i := h1 i (by omega)
    have hCi := hC i (by omega)
    have ecC : (nI (C0 i)).toNatClampNeg = C0 i := nI_clamp (by omega)
    have hvC : vp_in (nI (C0 i)) 24 := vp_in_nI hCi.1 (by decide)
    by_cases cmp : a (C0 i) ≤ a y
    · obtain ⟨s1, s2⟩ := stop (i + 1) C hi h1 h2
      refine ⟨i + 1, ps_u C (i + 1) y, hi, s1, Or.inr cmp, h3, fun post n hn hp => ?_⟩
      obtain ⟨n, rfl⟩ : ∃ n', n = n' + 1 := ⟨n - 1, by omega⟩
      refine br_f hle ?_
      rw [ei, eci, ecy, ps_fa C, eCi, ecC, ps_fa, ps_fa]
      exact ⟨hvi, hvC, hvy, br_t (nI_le cmp ha) (s2 post hp)⟩
    · obtain ⟨p, D, b1, b2, b3, b4, b5⟩ := ih (ps_u C (i + 1) (C0 i)) (by omega) (fun z hz => by rw [ps_un (by omega)]; exact h1 z (by omega)) (fun z hz1 hz2 => by
        by_cases e : z = i + 1
        · rw [e, ps_us]; rfl
        · rw [ps_un e]; exact h2 z (by omega) hz2) (fun z hz1 hz2 => by
        by_cases e : z = i
        · rw [e]; omega
        · exact h3 z (by omega) hz2)
      refine ⟨p, D, b1, b2, b3, b4, fun post n hn hp => ?_⟩
      obtain ⟨n, rfl⟩ : ∃ n', n = n' + 1 := ⟨n - 1, by omega⟩
      refine br_f hle ?_
      rw [ei, eci, ecy, ps_fa C, eCi, ecC, ps_fa, ps_fa]
      refine ⟨hvi, hvC, hvy, br_f (nI_ge (by omega) (by omega)) ⟨hvi, hvi1, nm_r (e' := ps_f (ps_u C (i + 1) (C0 i))) ?_ (nm_r (pk_m1 i) (b5 post n (by omega) hp))⟩⟩
      rw [nI_clamp (by omega), ps_uf]
end
theorem ps_S_a {C : Nat → Nat} {c : Nat} {a a' : Nat → Nat} {P R : Nat → Prop} (ha : ∀ y, P y → a' y = a y) (h : ∀ y, P y ↔ R y) (S : ps_S C c a P) : ps_S C c a' R := by
  refine ps_S_congr h ⟨S.1, S.2.1, fun i i' hi hi' => ?_⟩
  rw [ha _ (S.1 i (by omega)), ha _ (S.1 i' hi')]
  exact S.2.2 i i' hi hi'
section
variable {T J K h c l : Nat} {s a q w wx m g H C L : Nat → Nat} {A F : Nat → Int32}
theorem ps_subI {p x d : Nat} {D : Nat → Nat} (I : ps_I T T J K h c l s a q w wx m g H C L A F) (hJ : J < 24) (hx1 : 1 ≤ x) (hx2 : x ≤ 100000) (hd : d ≤ 1000) (hp : p ≤ c) (hD : ∀ z, z < c + 1 → D z = if z = p then J else C (if z < p then z else z - 1)) (hlo : p = 0 ∨ a (C (p - 1)) ≤ T + d) (hhi : ∀ z, p ≤ z → z < c → T + d < a (C z)) :
    ps_I T T (J + 1) K h (c + 1) l (ps_u s J x) (ps_u a J (T + d)) (ps_u q J 0) (ps_u w J 0) (ps_u wx J 0) m (ps_u g J 0) H D L (upd A J (-5)) (upd F J (-5)) := by
  obtain ⟨⟨i1, i2, i3, i4⟩, IY, IW, IT, IC, IL, IB, IH⟩ := I
  have ql : ∀ y v, 0 < v → ((y < J ∧ q y = v) ↔ (y < J + 1 ∧ ps_u q J 0 y = v)) := by
    intro y v hv
    by_cases e : y = J
    · subst e
      rw [ps_us]
      omega
    · rw [ps_un e]
      omega
  have al : ∀ y, y < J → ps_u a J (T + d) y = a y := fun y hy => ps_un (by omega)
  refine ⟨⟨by omega, i2, i3, i4⟩, ?_, ?_, ?_, ?_, ps_S_a (fun y hy => al y hy.1) (fun y => ql y 1 (by omega)) IL, ps_B_congr (fun y => ql y 2 (by omega)) IB, IH⟩
  · intro y hy
    by_cases e : y = J
    · subst e
      rw [ps_us, ps_us, ps_us, ps_us, pk_us, pk_us]
      exact ⟨hx1, hx2, by omega, by omega, fun f => by omega, fun _ => rfl, fun f => by omega, fun _ => by decide, fun f => by omega, fun _ => by decide⟩
    · rw [ps_un e, ps_un e, ps_un e, ps_un e, pk_un e, pk_un e]
      exact IY y (by omega)
  · intro y hy
    by_cases e : y = J
    · subst e
      rw [ps_us, ps_us, ps_us, ps_us]
      exact ⟨fun f => by omega, fun _ => rfl, fun _ => rfl⟩
    · rw [ps_un e, ps_un e, ps_un e, ps_un e]
      exact IW y (by omega)
  · intro y hy
    by_cases e : y = J
    · subst e
      rw [ps_us, ps_us]
      exact ⟨fun f => by omega, fun f => by omega⟩
    · rw [ps_un e, ps_un e]
      exact IT y (by omega)
  · refine ps_S_in hp (ps_S_a (a' := ps_u a J (T + d)) (fun y hy => al y hy.1) (fun y => Iff.rfl) IC) (fun y => ?_) hD (fun i hi => ?_) (fun i hi1 hi2 => ?_)
    · show (y < J + 1 ∧ ps_u q J 0 y = 0) ↔ (y < J ∧ q y = 0) ∨ y = J
      by_cases e : y = J
      · subst e
        rw [ps_us]
        omega
      · rw [ps_un e]
        omega
    · have hCi := (IC.1 i (by omega)).1
      rw [ps_us, al _ hCi]
      have hp0 := hlo.resolve_left (by omega)
      by_cases e : i = p - 1
      · rw [e] at hCi ⊢
        omega
      · have := IC.2.2 i (p - 1) (by omega) (by omega)
        have := (IC.1 (p - 1) (by omega)).1
        omega
    · have hCi := (IC.1 i hi2).1
      rw [ps_us, al _ hCi]
      have := hhi i hi1 hi2
      omega
end
end
section
/-! taking away: out of those to come, out of the line, out of the heap -/
section
variable {t j h l : Int32} {k : Int64} {sz ar so ad fi wo hj lj : Nat → Int32} {mk : Nat → Int64}
theorem ps_lc {c p y : Nat} {C0 : Nat → Nat} (hc : c < 24) (hp : p ≤ c) (hy : y < 24) (ey : C0 p = y) (hC : ∀ z, z < c + 1 → C0 z < 24) (hin : ∀ z, z < c + 1 → C0 z = C0 p → z = p) : ∀ (d i kp : Nat) (C : Nat → Nat), i + d = c + 1 → kp = (if i ≤ p then i else i - 1) → (∀ z, z < kp → C z = C0 (if z < p then z else z + 1)) → (∀ z, i ≤ z → z < c + 1 → C z = C0 z) →
    ∃ D : Nat → Nat, (∀ z, z < c → D z = C0 (if z < p then z else z + 1)) ∧ ∀ (post : SX → Prop) (n : Nat), d < n → post (t, j, k, h, nI c, l, sz, ar, so, ad, fi, wo, mk, hj, ps_f D, lj) → wX_leaveComing_4 post (nI y) t j k h (nI (c + 1)) l n (nI kp) (nI i) sz ar so ad fi wo mk hj (ps_f C) lj := by
  intro d
  induction d with
  | zero =>
    intro i kp C hi hk h1 h2
    have ek : kp = c := by
      rw [hk, if_neg (by omega)]
      omega
    subst ek
    refine ⟨C, h1, fun post n hn hq => ?_⟩
    obtain ⟨n, rfl⟩ : ∃ n', n = n' + 1 := ⟨n - 1, by omega⟩
    exact br_t (nI_le (by omega) (by omega)) hq
  | succ d ih =>
    intro i kp C hi hk h1 h2
    have hle : ¬ nI (c + 1) ≤ nI i := nI_ge (by omega) (by omega)
    have hvi : vp_in (nI i) 24 := vp_in_nI (by omega) (by decide)
    have eci : (nI i).toNatClampNeg = i := nI_clamp (by omega)
    have eCi : C i = C0 i := h2 i (by omega) (by omega)
    have hkp : kp ≤ i := by
      rw [hk]
      split <;> omega
    by_cases e : i = p
    · obtain ⟨D, b1, b2⟩ := ih (i + 1) kp C (by omega) (by rw [hk, if_pos (by omega), if_neg (by omega)]; rfl) h1 (fun z hz1 hz2 => h2 z (by omega) hz2)
      refine ⟨D, b1, fun post n hn hq => ?_⟩
      obtain ⟨n, rfl⟩ : ∃ n', n = n' + 1 := ⟨n - 1, by omega⟩
      refine br_f hle ⟨hvi, ?_⟩
      rw [eci, ps_fa C, eCi]
      exact br_t (by rw [e, ey]) (nm_r (nI_1 i) (b2 post n (by omega) hq))
    · have hne : C0 i ≠ y := fun z => e (hin i (by omega) (by rw [ey]; exact z))
      obtain ⟨D, b1, b2⟩ := ih (i + 1) (kp + 1) (ps_u C kp (C0 i)) (by omega) (by rw [hk]; split <;> split <;> omega) (fun z hz => by
        by_cases e2 : z = kp
        · rw [e2, ps_us]
          by_cases e3 : i ≤ p
          · rw [if_pos e3] at hk
            rw [if_pos (by omega), hk]
          · rw [if_neg e3] at hk
            rw [if_neg (by omega), hk, show i - 1 + 1 = i by omega]
        · rw [ps_un e2]
          exact h1 z (by omega)) (fun z hz1 hz2 => by rw [ps_un (by omega)]; exact h2 z (by omega) hz2)
      refine ⟨D, b1, fun post n hn hq => ?_⟩
      obtain ⟨n, rfl⟩ : ∃ n', n = n' + 1 := ⟨n - 1, by omega⟩
      refine br_f hle ⟨hvi, ?_⟩
      rw [eci, ps_fa C, eCi]
      refine br_f (fun z => hne ((nI_eq (by have := hC i (by omega); omega) (by omega)).mp z)) ⟨hvi, vp_in_nI (by omega) (by decide), nm_r (e' := ps_f (ps_u C kp (C0 i))) ?_ (nm_r (nI_1 kp) (nm_r (nI_1 i) (b2 post n (by omega) hq)))⟩
      rw [nI_clamp (by omega), ps_uf]
theorem ps_lcw {c p y : Nat} {C0 : Nat → Nat} (hc : c < 24) (hp : p ≤ c) (hy : y < 24) (ey : C0 p = y) (hC : ∀ z, z < c + 1 → C0 z < 24) (hin : ∀ z, z < c + 1 → C0 z = C0 p → z = p) :
    ∃ D : Nat → Nat, (∀ z, z < c → D z = C0 (if z < p then z else z + 1)) ∧ ∀ (post : SX → Prop), post (t, j, k, h, nI c, l, sz, ar, so, ad, fi, wo, mk, hj, ps_f D, lj) → wpX_leaveComing post (t, j, k, h, nI (c + 1), l, sz, ar, so, ad, fi, wo, mk, hj, ps_f C0, lj) (nI y) := by
  obtain ⟨D, b1, b2⟩ := ps_lc (t := t) (j := j) (h := h) (l := l) (k := k) (sz := sz) (ar := ar) (so := so) (ad := ad) (fi := fi) (wo := wo) (hj := hj) (lj := lj) (mk := mk) hc hp hy ey hC hin (c + 1) 0 0 C0 (by omega) (by rw [if_pos (by omega)]) (fun z hz => by omega) (fun z _ _ => rfl)
  exact ⟨D, b1, fun post hq => ⟨c + 2, b2 post (c + 2) (by omega) hq⟩⟩
end
section
variable {t j h c' : Int32} {k : Int64} {sz ar so ad fi wo hj cj : Nat → Int32} {mk : Nat → Int64}
theorem ps_ll {c p y : Nat} {C0 : Nat → Nat} (hc : c < 24) (hp : p ≤ c) (hy : y < 24) (ey : C0 p = y) (hC : ∀ z, z < c + 1 → C0 z < 24) (hin : ∀ z, z < c + 1 → C0 z = C0 p → z = p) : ∀ (d i kp : Nat) (C : Nat → Nat), i + d = c + 1 → kp = (if i ≤ p then i else i - 1) → (∀ z, z < kp → C z = C0 (if z < p then z else z + 1)) → (∀ z, i ≤ z → z < c + 1 → C z = C0 z) →
    ∃ D : Nat → Nat, (∀ z, z < c → D z = C0 (if z < p then z else z + 1)) ∧ ∀ (post : SX → Prop) (n : Nat), d < n → post (t, j, k, h, c', nI c, sz, ar, so, ad, fi, wo, mk, hj, cj, ps_f D) → wX_leaveLine_4 post (nI y) t j k h c' (nI (c + 1)) n (nI kp) (nI i) sz ar so ad fi wo mk hj cj (ps_f C) := by
  intro d
  induction d with
  | zero =>
    intro i kp C hi hk h1 h2
    have ek : kp = c := by
      rw [hk, if_neg (by omega)]
      omega
    subst ek
    refine ⟨C, h1, fun post n hn hq => ?_⟩
    obtain ⟨n, rfl⟩ : ∃ n', n = n' + 1 := ⟨n - 1, by omega⟩
    exact br_t (nI_le (by omega) (by omega)) hq
  | succ d ih =>
    intro i kp C hi hk h1 h2
    have hle : ¬ nI (c + 1) ≤ nI i := nI_ge (by omega) (by omega)
    have hvi : vp_in (nI i) 24 := vp_in_nI (by omega) (by decide)
    have eci : (nI i).toNatClampNeg = i := nI_clamp (by omega)
    have eCi : C i = C0 i := h2 i (by omega) (by omega)
    have hkp : kp ≤ i := by
      rw [hk]
      split <;> omega
    by_cases e : i = p
    · obtain ⟨D, b1, b2⟩ := ih (i + 1) kp C (by omega) (by rw [hk, if_pos (by omega), if_neg (by omega)]; rfl) h1 (fun z hz1 hz2 => h2 z (by omega) hz2)
      refine ⟨D, b1, fun post n hn hq => ?_⟩
      obtain ⟨n, rfl⟩ : ∃ n', n = n' + 1 := ⟨n - 1, by omega⟩
      refine br_f hle ⟨hvi, ?_⟩
      rw [eci, ps_fa C, eCi]
      exact br_t (by rw [e, ey]) (nm_r (nI_1 i) (b2 post n (by omega) hq))
    · have hne : C0 i ≠ y := fun z => e (hin i (by omega) (by rw [ey]; exact z))
      obtain ⟨D, b1, b2⟩ := ih (i + 1) (kp + 1) (ps_u C kp (C0 i)) (by omega) (by rw [hk]; split <;> split <;> omega) (fun z hz => by
        by_cases e2 : z = kp
        · rw [e2, ps_us]
          by_cases e3 : i ≤ p
          · rw [if_pos e3] at hk
            rw [if_pos (by omega), hk]
          · rw [if_neg e3] at hk
            rw [if_neg (by omega), hk, show i - 1 + 1 = i by omega]
        · rw [ps_un e2]
          exact h1 z (by omega)) (fun z hz1 hz2 => by rw [ps_un (by omega)]; exact h2 z (by omega) hz2)
      refine ⟨D, b1, fun post n hn hq => ?_⟩
      obtain ⟨n, rfl⟩ : ∃ n', n = n' + 1 := ⟨n - 1, by omega⟩
      refine br_f hle ⟨hvi, ?_⟩
      rw [eci, ps_fa C, eCi]
      refine br_f (fun z => hne ((nI_eq (by have := hC i (by omega); omega) (by omega)).mp z)) ⟨hvi, vp_in_nI (by omega) (by decide), nm_r (e' := ps_f (ps_u C kp (C0 i))) ?_ (nm_r (nI_1 kp) (nm_r (nI_1 i) (b2 post n (by omega) hq)))⟩
      rw [nI_clamp (by omega), ps_uf]
theorem ps_llw {c p y : Nat} {C0 : Nat → Nat} (hc : c < 24) (hp : p ≤ c) (hy : y < 24) (ey : C0 p = y) (hC : ∀ z, z < c + 1 → C0 z < 24) (hin : ∀ z, z < c + 1 → C0 z = C0 p → z = p) :
    ∃ D : Nat → Nat, (∀ z, z < c → D z = C0 (if z < p then z else z + 1)) ∧ ∀ (post : SX → Prop), post (t, j, k, h, c', nI c, sz, ar, so, ad, fi, wo, mk, hj, cj, ps_f D) → wpX_leaveLine post (t, j, k, h, c', nI (c + 1), sz, ar, so, ad, fi, wo, mk, hj, cj, ps_f C0) (nI y) := by
  obtain ⟨D, b1, b2⟩ := ps_ll (t := t) (j := j) (h := h) (c' := c') (k := k) (sz := sz) (ar := ar) (so := so) (ad := ad) (fi := fi) (wo := wo) (hj := hj) (cj := cj) (mk := mk) hc hp hy ey hC hin (c + 1) 0 0 C0 (by omega) (by rw [if_pos (by omega)]) (fun z hz => by omega) (fun z _ _ => rfl)
  exact ⟨D, b1, fun post hq => ⟨c + 2, b2 post (c + 2) (by omega) hq⟩⟩
end
section
variable {t j c l : Int32} {k : Int64} {sz ar so ad fi wo cj lj : Nat → Int32} {m : Nat → Nat} {N : Nat} {P : Nat → Prop}
theorem ps_lh2 {p y : Nat} {H : Nat → Nat} (hN : N < 8) (hp : p ≤ N) (hy : y < 24) (ey : H p = y) (hH : ∀ z, z < N + 1 → H z < 24) (hin : ∀ z, z < N + 1 → H z = H p → z = p) (post : SX → Prop) (K : wX_leaveHeap_28 post (nI p) t j k (nI (N + 1)) c l sz ar so ad fi wo (ps_l m) (ps_f H) cj lj) : ∀ (d i : Nat), i + d = p → ∀ n, d < n → wX_leaveHeap_2 post (nI y) t j k (nI (N + 1)) c l sz ar so ad fi wo (ps_l m) (ps_f H) cj lj n (nI i) := by
  intro d
  induction d with
  | zero =>
    intro i hi n hn
    obtain ⟨n, rfl⟩ : ∃ n', n = n' + 1 := ⟨n - 1, by omega⟩
    have : i = p := by omega
    subst this
    refine br_c (fun _ => K) (fun _ => ⟨vp_in_nI (by omega) (by decide), br_t ?_ K⟩)
    rw [nI_clamp (by omega), ps_fa, ey]
  | succ d ih =>
    intro i hi n hn
    obtain ⟨n, rfl⟩ : ∃ n', n = n' + 1 := ⟨n - 1, by omega⟩
    refine br_f ?_ ⟨vp_in_nI (by omega) (by decide), br_f ?_ (nm_r (nI_1 i) (ih (i + 1) (by omega) n (by omega)))⟩
    · rw [nI_pred]
      exact nI_ge (by omega) (by omega)
    · rw [nI_clamp (by omega), ps_fa]
      intro z
      have z1 := (nI_eq (by have := hH i (by omega); omega) (by omega)).mp z
      have := hin i (by omega) (by rw [ey]; exact z1)
      omega
theorem ps_lh {H : Nat → Nat} {p : Nat} (hN : N < 8) (hP : ∀ y, P y → y < 24 ∧ m y < 2 ^ 62) (hp : p ≤ N) (B : ps_B H (N + 1) P) (O : ps_H m H (N + 1)) : ∃ H' : Nat → Nat, ps_B H' N (fun y => P y ∧ y ≠ H p) ∧ ps_H m H' N ∧ ∀ post : SX → Prop, post (t, j, k, nI N, c, l, sz, ar, so, ad, fi, wo, ps_l m, ps_f H', cj, lj) → wpX_leaveHeap post (t, j, k, nI (N + 1), c, l, sz, ar, so, ad, fi, wo, ps_l m, ps_f H, cj, lj) (nI (H p)) := by
  obtain ⟨H', b1, b2, b3⟩ := ps_take (t := t) (j := j) (c := c) (l := l) (k := k) (sz := sz) (ar := ar) (so := so) (ad := ad) (fi := fi) (wo := wo) (cj := cj) (lj := lj) (m := m) (N := N) (P := P) hN hP hp B O
  refine ⟨H', b1, b2, fun post hq => ⟨p + 1, ps_lh2 hN hp (hP _ (B.1 p (by omega))).1 rfl (fun z hz => (hP _ (B.1 z hz)).1) (fun z hz e => B.2.2 z p hz (by omega) e) post ?_ p 0 (by omega) (p + 1) (by omega)⟩⟩
  exact b3 _ hq
end
section
variable {T J K h c l : Nat} {s a q w wx m g H C L : Nat → Nat} {A F : Nat → Int32}
theorem ps_canI {y h' c' l' : Nat} {H' C' L' : Nat → Nat} (I : ps_I T T J K h c l s a q w wx m g H C L A F) (hy : y < J) (hh : h' ≤ 8)
    (SC : ps_S C' c' a (fun z => z < J ∧ ps_u q y 4 z = 0)) (SL : ps_S L' l' a (fun z => z < J ∧ ps_u q y 4 z = 1)) (B : ps_B H' h' (fun z => z < J ∧ ps_u q y 4 z = 2)) (O : ps_H m H' h') :
    ps_I T T J K h' c' l' s a (ps_u q y 4) w (ps_u wx y (w y)) m (ps_u g y 1) H' C' L' A F := by
  obtain ⟨⟨i1, i2, i3, i4⟩, IY, IW, IT, IC, IL, IB, IH⟩ := I
  refine ⟨⟨i1, hh, i3, i4⟩, ?_, ?_, ?_, SC, SL, B, O⟩
  · intro z hz
    have zz := IY z hz
    by_cases e : z = y
    · subst e
      rw [ps_us, ps_us]
      obtain ⟨z1, z2, z3, _⟩ := zz
      exact ⟨z1, z2, z3, by omega, fun _ => rfl, fun f => absurd rfl f, fun f => by omega, fun f => by omega, fun f => by omega, fun f => by omega⟩
    · rw [ps_un e, ps_un e]
      exact zz
  · intro z hz
    have zz := IW z hz
    by_cases e : z = y
    · subst e
      rw [ps_us, ps_us]
      exact ⟨fun f => by omega, fun _ => rfl, fun f => by omega⟩
    · rw [ps_un e, ps_un e]
      exact zz
  · intro z hz
    have zz := IT z hz
    by_cases e : z = y
    · subst e
      rw [ps_us]
      exact ⟨fun f => by omega, fun f => by omega⟩
    · rw [ps_un e]
      exact zz
theorem ps_had {y : Nat} (I : ps_I T T J K h c l s a q w wx m g H C L A F) (hy : y < J) {post : Int32 → Prop} (hp : post (nI (w y))) : wpX_had post (nI T, nI J, lN K, nI h, nI c, nI l, ps_f s, ps_f a, ps_f q, A, F, ps_f wx, ps_l m, ps_f H, ps_f C, ps_f L) (nI y) := by
  obtain ⟨⟨i1, i2, i3, i4⟩, IY, IW, IT, IC, IL, IB, IH⟩ := I
  have hv : vp_in (nI y) 24 := vp_in_nI (by omega) (by decide)
  have ec : (nI y).toNatClampNeg = y := nI_clamp (by omega)
  have hq4 := (IY y hy).2.2.2.1
  have hs := (IY y hy).2.1
  have zw := IW y hy
  unfold wpX_had
  refine br_f (nI_pos (by omega)) (br_t (nI_lt hy (by omega)) ?_)
  refine br_t rfl ⟨hv, ?_⟩
  rw [ec, ps_fa q, ps_fa s, ps_fa wx, ps_la]
  by_cases e : q y = 2
  · have z1 := zw.1 e
    refine br_t (congrArg nI e) ⟨hv, hv, ?_⟩
    rw [nI_l (by omega), lN_sub (by omega), lN_sub (by omega), lN_i, show s y - (m y - K) = w y by omega]
    exact hp
  · refine br_f (fun z => e ((nI_eq (b := 2) (by omega) (by omega)).mp z)) ⟨hv, ?_⟩
    rw [zw.2.1 e]
    exact hp
/-- a job in state v less leaves v's own list alone -/
theorem ps_4 {y z v : Nat} (hv : v < 4) : (z < J ∧ ps_u q y 4 z = v) ↔ ((z < J ∧ q z = v) ∧ z ≠ y) := by
  by_cases e : z = y
  · subst e
    rw [ps_us]
    omega
  · rw [ps_un e]
    omega
theorem ps_4' {y z v : Nat} (hv : v < 4) (hq : q y ≠ v) : (z < J ∧ q z = v) ↔ (z < J ∧ ps_u q y 4 z = v) := by
  by_cases e : z = y
  · subst e
    rw [ps_us]
    omega
  · rw [ps_un e]
theorem ps_cancel {y : Nat} (I : ps_I T T J K h c l s a q w wx m g H C L A F) (hy : y < J) (hq : q y < 3) : ∃ (h' c' l' : Nat) (H' C' L' : Nat → Nat), ps_I T T J K h' c' l' s a (ps_u q y 4) w (ps_u wx y (w y)) m (ps_u g y 1) H' C' L' A F ∧
    ∀ post : Int32 → SX → Prop, post (nI (w y)) (nI T, nI J, lN K, nI h', nI c', nI l', ps_f s, ps_f a, ps_f (ps_u q y 4), A, F, ps_f (ps_u wx y (w y)), ps_l m, ps_f H', ps_f C', ps_f L') → wpX_cancel post (nI T, nI J, lN K, nI h, nI c, nI l, ps_f s, ps_f a, ps_f q, A, F, ps_f wx, ps_l m, ps_f H, ps_f C, ps_f L) (nI y) := by
  have I' := I
  obtain ⟨⟨i1, i2, i3, i4⟩, IY, IW, IT, IC, IL, IB, IH⟩ := I
  have hv : vp_in (nI y) 24 := vp_in_nI (by omega) (by decide)
  have ec : (nI y).toNatClampNeg = y := nI_clamp (by omega)
  have eC := ps_cnt (ps_S_B IC)
  have eL := ps_cnt (ps_S_B IL)
  have eS := ps_c_sum q J
  have e70 : ∀ (post : Int32 → SX → Prop) (h' c' l' : Nat) (H' C' L' : Nat → Nat), post (nI (w y)) (nI T, nI J, lN K, nI h', nI c', nI l', ps_f s, ps_f a, ps_f (ps_u q y 4), A, F, ps_f (ps_u wx y (w y)), ps_l m, ps_f H', ps_f C', ps_f L') → wX_cancel_70 post (nI y) (nI (w y)) (nI T) (nI J) (lN K) (nI h') (nI c') (nI l') (ps_f s) (ps_f a) (ps_f q) A F (ps_f wx) (ps_l m) (ps_f H') (ps_f C') (ps_f L') := by
    intro post h' c' l' H' C' L' hp
    refine ⟨hv, nm_r (e' := ps_f (ps_u q y 4)) ?_ ⟨hv, nm_r (e' := ps_f (ps_u wx y (w y))) ?_ hp⟩⟩
    · rw [ec]
      exact ps_uf q y 4
    · rw [ec, ps_uf]
  have head : ∀ post : Int32 → SX → Prop, (∀ R : Prop, (((nI (q y) = 0 → wpX_leaveComing (fun u => match u with | (t1, t2, t3, t4, t5, t6, t7, t8, t9, t10, t11, t12, t13, t14, t15, t16) => wX_cancel_70 post (nI y) (nI (w y)) t1 t2 t3 t4 t5 t6 t7 t8 t9 t10 t11 t12 t13 t14 t15 t16) (nI T, nI J, lN K, nI h, nI c, nI l, ps_f s, ps_f a, ps_f q, A, F, ps_f wx, ps_l m, ps_f H, ps_f C, ps_f L) (nI y)) ∧ (¬ nI (q y) = 0 → (vp_in (nI y) 24 ∧ ((nI (q y) = 1 → wpX_leaveLine (fun u => match u with | (t1, t2, t3, t4, t5, t6, t7, t8, t9, t10, t11, t12, t13, t14, t15, t16) => wX_cancel_70 post (nI y) (nI (w y)) t1 t2 t3 t4 t5 t6 t7 t8 t9 t10 t11 t12 t13 t14 t15 t16) (nI T, nI J, lN K, nI h, nI c, nI l, ps_f s, ps_f a, ps_f q, A, F, ps_f wx, ps_l m, ps_f H, ps_f C, ps_f L) (nI y)) ∧ (¬ nI (q y) = 1 → wpX_leaveHeap (fun u => match u with | (t1, t2, t3, t4, t5, t6, t7, t8, t9, t10, t11, t12, t13, t14, t15, t16) => wX_cancel_70 post (nI y) (nI (w y)) t1 t2 t3 t4 t5 t6 t7 t8 t9 t10 t11 t12 t13 t14 t15 t16) (nI T, nI J, lN K, nI h, nI c, nI l, ps_f s, ps_f a, ps_f q, A, F, ps_f wx, ps_l m, ps_f H, ps_f C, ps_f L) (nI y)))))) → R) → R) → wpX_cancel post (nI T, nI J, lN K, nI h, nI c, nI l, ps_f s, ps_f a, ps_f q, A, F, ps_f wx, ps_l m, ps_f H, ps_f C, ps_f L) (nI y) := by
    intro post hR
    refine hR _ fun K => ?_
    unfold wpX_cancel
    refine br_f (nI_pos (by omega)) (br_t (nI_lt hy (by omega)) ?_)
    refine br_t rfl ⟨hv, ?_⟩
    rw [ec, ps_fa q]
    refine br_t (nI_lt (b := 3) hq (by omega)) ?_
    refine ps_had I' hy ?_
    exact ⟨hv, K⟩
  by_cases q0 : q y = 0
  · obtain ⟨p, hp, ep⟩ := IC.2.1 y ⟨hy, q0⟩
    obtain ⟨c0, rfl⟩ : ∃ c0, c = c0 + 1 := ⟨c - 1, by omega⟩
    obtain ⟨D, d1, d2⟩ := ps_lcw (t := nI T) (j := nI J) (h := nI h) (l := nI l) (k := lN K) (sz := ps_f s) (ar := ps_f a) (so := ps_f q) (ad := A) (fi := F) (wo := ps_f wx) (hj := ps_f H) (lj := ps_f L) (mk := ps_l m) (c := c0) (p := p) (y := y) (C0 := C) (by omega) (by omega) (by omega) ep (fun z hz => by have := (IC.1 z hz).1; omega) (fun z hz e => (ps_S_B IC).2.2 z p hz hp e)
    refine ⟨h, c0, l, H, D, L, ps_canI I' hy i2 (ps_S_rm (by omega) IC (fun z => by rw [ep]; exact ps_4 (by omega)) d1) (ps_S_congr (fun z => ps_4' (by omega) (by omega)) IL) (ps_B_congr (fun z => ps_4' (by omega) (by omega)) IB) IH, fun post hq => head post fun R KK => KK ?_⟩
    exact br_t (congrArg nI q0) (d2 _ (e70 post _ _ _ _ _ _ hq))
  · by_cases q1 : q y = 1
    · obtain ⟨p, hp, ep⟩ := IL.2.1 y ⟨hy, q1⟩
      obtain ⟨l0, rfl⟩ : ∃ l0, l = l0 + 1 := ⟨l - 1, by omega⟩
      obtain ⟨D, d1, d2⟩ := ps_llw (t := nI T) (j := nI J) (h := nI h) (c' := nI c) (k := lN K) (sz := ps_f s) (ar := ps_f a) (so := ps_f q) (ad := A) (fi := F) (wo := ps_f wx) (hj := ps_f H) (cj := ps_f C) (mk := ps_l m) (c := l0) (p := p) (y := y) (C0 := L) (by omega) (by omega) (by omega) ep (fun z hz => by have := (IL.1 z hz).1; omega) (fun z hz e => (ps_S_B IL).2.2 z p hz hp e)
      refine ⟨h, c, l0, H, C, D, ps_canI I' hy i2 (ps_S_congr (fun z => ps_4' (by omega) (by omega)) IC) (ps_S_rm (by omega) IL (fun z => by rw [ep]; exact ps_4 (by omega)) d1) (ps_B_congr (fun z => ps_4' (by omega) (by omega)) IB) IH, fun post hq => head post fun R KK => KK ?_⟩
      exact br_f (fun z => q0 ((nI_eq (b := 0) (by omega) (by omega)).mp z)) ⟨hv, br_t (congrArg nI q1) (d2 _ (e70 post _ _ _ _ _ _ hq))⟩
    · have q2 : q y = 2 := by omega
      obtain ⟨p, hp, ep⟩ := IB.2.1 y ⟨hy, q2⟩
      obtain ⟨h0, rfl⟩ : ∃ h0, h = h0 + 1 := ⟨h - 1, by omega⟩
      obtain ⟨D, d1, d3, d2⟩ := ps_lh (t := nI T) (j := nI J) (c := nI c) (l := nI l) (k := lN K) (sz := ps_f s) (ar := ps_f a) (so := ps_f q) (ad := A) (fi := F) (wo := ps_f wx) (cj := ps_f C) (lj := ps_f L) (m := m) (N := h0) (P := fun z => z < J ∧ q z = 2) (H := H) (p := p) (by omega) (fun z hz => by have := (IW z hz.1).1 hz.2; have := (IY z hz.1).2.1; omega) (by omega) IB IH
      rw [ep] at d2
      refine ⟨h0, c, l, D, C, L, ps_canI I' hy (by omega) (ps_S_congr (fun z => ps_4' (by omega) (by omega)) IC) (ps_S_congr (fun z => ps_4' (by omega) (by omega)) IL) (ps_B_congr (fun z => by rw [ep]; exact (ps_4 (by omega)).symm) d1) d3, fun post hq => head post fun R KK => KK ?_⟩
      exact br_f (fun z => q0 ((nI_eq (b := 0) (by omega) (by omega)).mp z)) ⟨hv, br_f (fun z => q1 ((nI_eq (b := 1) (by omega) (by omega)).mp z)) (d2 _ (e70 post _ _ _ _ _ _ hq))⟩
end
end
section
/-! what is owed -/
/-- the relation: one picture of the jobs for both (ps_I: status by status), the tick bounded by the turn -/
def i_Rel (k : Nat) (u : SX) (v : SY) : Prop := ∃ (T J : Nat) (s a g : Nat → Nat), T ≤ 5000 * k ∧ ps_Q T J s a g u v
theorem i_up {k : Nat} {u : SX} {v : SY} (h : i_Rel k u v) : i_Rel (k + 3) u v := by
  obtain ⟨T, J, s, a, g, hT, Q⟩ := h
  exact ⟨T, J, s, a, g, by omega, Q⟩
section
variable {T J K h c l : Nat} {s a q w wx m g H C L : Nat → Nat} {A F : Nat → Int32}
theorem ps_mk {k : Nat} (hT : T ≤ 5000 * k) (I : ps_I T T J K h c l s a q w wx m g H C L A F) : i_Rel k (nI T, nI J, lN K, nI h, nI c, nI l, ps_f s, ps_f a, ps_f q, A, F, ps_f wx, ps_l m, ps_f H, ps_f C, ps_f L) (nI J, nI T, ps_f s, ps_f a, ps_f w, A, F, ps_f g) := ⟨T, J, s, a, g, hT, K, h, c, l, q, w, wx, m, H, C, L, A, F, I, rfl, rfl⟩
theorem ps_el {k : Nat} {P : SX → SY → Prop} {u : SX} {v : SY} (f : ∀ (T J K h c l : Nat) (s a q w wx m g H C L : Nat → Nat) (A F : Nat → Int32), T ≤ 5000 * k → ps_I T T J K h c l s a q w wx m g H C L A F → P (nI T, nI J, lN K, nI h, nI c, nI l, ps_f s, ps_f a, ps_f q, A, F, ps_f wx, ps_l m, ps_f H, ps_f C, ps_f L) (nI J, nI T, ps_f s, ps_f a, ps_f w, A, F, ps_f g)) (R : i_Rel k u v) : P u v := by
  obtain ⟨T, J, s, a, g, hT, K, h, c, l, q, w, wx, m, H, C, L, A, F, I, eu, ev⟩ := R
  rw [eu, ev]
  exact f T J K h c l s a q w wx m g H C L A F hT I
theorem ps_I0 {T K : Nat} (hK : K ≤ 840 * T) (hT : T < 2 ^ 24) : ps_I T T 0 K 0 0 0 s a q w wx m g H C L A F :=
  ⟨⟨by omega, by omega, hK, hT⟩, fun y hy => by omega, fun y hy => by omega, fun y hy => by omega, ⟨fun i hi => by omega, fun y hy => by omega, fun i i' _ hi => by omega⟩, ⟨fun i hi => by omega, fun y hy => by omega, fun i i' _ hi => by omega⟩, ⟨fun i hi => by omega, fun y hy => by omega, fun i i' hi => by omega⟩, fun p _ hp => by omega⟩
/-- out of range: a number that is no job's -/
theorem ps_noX {post : Int32 → Prop} {x : Int32} (hx : x < 0 ∨ nI J ≤ x) (hp : post 1) : wpX_noJob post (nI T, nI J, lN K, nI h, nI c, nI l, ps_f s, ps_f a, ps_f q, A, F, ps_f wx, ps_l m, ps_f H, ps_f C, ps_f L) x :=
  br_c (fun _ => hp) (fun z => br_f (Int32.not_lt.mpr (hx.resolve_left z)) hp)
theorem ps_noY {post : Int32 → Prop} {x : Int32} (hx : x < 0 ∨ nI J ≤ x) (hp : post 0) : wpY_known post (nI J, nI T, ps_f s, ps_f a, ps_f w, A, F, ps_f g) x :=
  br_c (fun _ => hp) (fun z => br_t (hx.resolve_left z) hp)
theorem ps_okX {post : Int32 → Prop} {y : Nat} (hJ : J ≤ 24) (hy : y < J) (hp : post 0) : wpX_noJob post (nI T, nI J, lN K, nI h, nI c, nI l, ps_f s, ps_f a, ps_f q, A, F, ps_f wx, ps_l m, ps_f H, ps_f C, ps_f L) (nI y) :=
  br_f (nI_pos (by omega)) (br_t (nI_lt hy (by omega)) hp)
theorem ps_ix (x : Int32) (hJ : J ≤ 24) : (x < 0 ∨ nI J ≤ x) ∨ ∃ y, y < J ∧ x = nI y := by
  rcases pk_ix x (n := J) (by omega) with e | e | e
  · exact Or.inl (Or.inl e)
  · exact Or.inl (Or.inr e)
  · exact Or.inr e
end
theorem i_vc0 : wpX_init (fun u => wpY_init (fun v => i_Rel 0 u v)) :=
  ps_mk (T := 0) (J := 0) (K := 0) (h := 0) (c := 0) (l := 0) (s := fun _ => 0) (a := fun _ => 0) (q := fun _ => 0) (w := fun _ => 0) (wx := fun _ => 0) (m := fun _ => 0) (g := fun _ => 0) (H := fun _ => 0) (C := fun _ => 0) (L := fun _ => 0) (A := fun _ => 0) (F := fun _ => 0) (by omega) (ps_I0 (by omega) (by omega))
theorem i_vc_clear {k : Nat} {u : SX} {v : SY} (I : i_Rel k u v) (hk : k + 3 ≤ 1536) : wpX_clear (fun u' => wpY_clear (fun v' => i_Rel (k + 3) u' v') v) u := by
  refine ps_el (P := fun u v => wpX_clear (fun u' => wpY_clear (fun v' => i_Rel (k + 3) u' v') v) u) ?_ I
  intro T J K h c l s a q w wx m g H C L A F hT I
  exact ps_mk (J := 0) (h := 0) (c := 0) (l := 0) (by omega) (ps_I0 I.1.2.2.1 I.1.2.2.2)
theorem i_vc_now {k : Nat} {u : SX} {v : SY} (I : i_Rel k u v) (hk : k + 3 ≤ 1536) : wpX_now (fun r => wpY_now (fun r' => r' = r ∧ i_Rel (k + 3) u v) v) u := by
  refine ps_el (P := fun u v => wpX_now (fun r => wpY_now (fun r' => r' = r ∧ i_Rel (k + 3) u v) v) u) ?_ I
  intro T J K h c l s a q w wx m g H C L A F hT I
  exact ⟨rfl, ps_mk (by omega) I⟩
theorem i_vc_served {k : Nat} {u : SX} {v : SY} (I : i_Rel k u v) (hk : k + 3 ≤ 1536) : wpX_served (fun r => wpY_served (fun r' => r' = r ∧ i_Rel (k + 3) u v) v) u := by
  refine ps_el (P := fun u v => wpX_served (fun r => wpY_served (fun r' => r' = r ∧ i_Rel (k + 3) u v) v) u) ?_ I
  intro T J K h c l s a q w wx m g H C L A F hT I
  refine ps_yserved I.1.1 I.1.2.2.2 I.2.1 ⟨?_, ps_mk (by omega) I⟩
  rw [ps_cnt I.2.2.2.2.2.2.1]
theorem i_vc_waiting {k : Nat} {u : SX} {v : SY} (I : i_Rel k u v) (hk : k + 3 ≤ 1536) : wpX_waiting (fun r => wpY_waiting (fun r' => r' = r ∧ i_Rel (k + 3) u v) v) u := by
  refine ps_el (P := fun u v => wpX_waiting (fun r => wpY_waiting (fun r' => r' = r ∧ i_Rel (k + 3) u v) v) u) ?_ I
  intro T J K h c l s a q w wx m g H C L A F hT I
  refine ps_ywaiting I.1.1 I.1.2.2.2 I.2.1 I.2.2.2.1 ⟨?_, ps_mk (by omega) I⟩
  rw [ps_cnt (ps_S_B I.2.2.2.2.2.1)]
theorem i_vc_admitted {k : Nat} {u : SX} {v : SY} (I : i_Rel k u v) (hk : k + 3 ≤ 1536) (v1 : Int32) : wpX_admitted (fun r => wpY_admitted (fun r' => r' = r ∧ i_Rel (k + 3) u v) v v1) u v1 := by
  refine ps_el (P := fun u v => wpX_admitted (fun r => wpY_admitted (fun r' => r' = r ∧ i_Rel (k + 3) u v) v v1) u v1) ?_ I
  intro T J K h c l s a q w wx m g H C L A F hT I
  have R := ps_mk (k := k + 3) (by omega) I
  have hJ := I.1.1
  unfold wpX_admitted wpY_admitted
  rcases ps_ix v1 hJ with e | ⟨y, hy, rfl⟩
  · refine ps_noX e (br_f (by decide) ?_)
    exact ps_noY e (br_t rfl ⟨rfl, R⟩)
  · have hv : vp_in (nI y) 24 := vp_in_nI (by omega) (by decide)
    refine ps_okX hJ hy (br_t rfl ⟨hv, ?_⟩)
    exact ps_known1 hJ hy (br_f (by decide) ⟨hv, rfl, R⟩)
theorem i_vc_finished {k : Nat} {u : SX} {v : SY} (I : i_Rel k u v) (hk : k + 3 ≤ 1536) (v1 : Int32) : wpX_finished (fun r => wpY_finished (fun r' => r' = r ∧ i_Rel (k + 3) u v) v v1) u v1 := by
  refine ps_el (P := fun u v => wpX_finished (fun r => wpY_finished (fun r' => r' = r ∧ i_Rel (k + 3) u v) v v1) u v1) ?_ I
  intro T J K h c l s a q w wx m g H C L A F hT I
  have R := ps_mk (k := k + 3) (by omega) I
  have hJ := I.1.1
  unfold wpX_finished wpY_finished
  rcases ps_ix v1 hJ with e | ⟨y, hy, rfl⟩
  · refine ps_noX e (br_f (by decide) ?_)
    exact ps_noY e (br_t rfl ⟨rfl, R⟩)
  · have hv : vp_in (nI y) 24 := vp_in_nI (by omega) (by decide)
    refine ps_okX hJ hy (br_t rfl ⟨hv, ?_⟩)
    exact ps_known1 hJ hy (br_f (by decide) ⟨hv, rfl, R⟩)
theorem i_vc_state {k : Nat} {u : SX} {v : SY} (I : i_Rel k u v) (hk : k + 3 ≤ 1536) (v1 : Int32) : wpX_state (fun r => wpY_state (fun r' => r' = r ∧ i_Rel (k + 3) u v) v v1) u v1 := by
  refine ps_el (P := fun u v => wpX_state (fun r => wpY_state (fun r' => r' = r ∧ i_Rel (k + 3) u v) v v1) u v1) ?_ I
  intro T J K h c l s a q w wx m g H C L A F hT I
  have R := ps_mk (k := k + 3) (by omega) I
  have hJ := I.1.1
  unfold wpX_state
  rcases ps_ix v1 hJ with e | ⟨y, hy, rfl⟩
  · refine ps_noX e (br_f (by decide) ?_)
    unfold wpY_state
    exact ps_noY e (br_t rfl ⟨rfl, R⟩)
  · have hv : vp_in (nI y) 24 := vp_in_nI (by omega) (by decide)
    refine ps_okX hJ hy (br_t rfl ⟨hv, ?_⟩)
    refine ps_ystate hJ I.1.2.2.2 I.2.1 hy ⟨?_, R⟩
    rw [nI_clamp (by omega), ps_fa]
    have := I.2.2.2.1 y hy
    refine congrArg nI ?_
    unfold ps_y
    split
    · split <;> omega
    · rfl
theorem i_vc_had {k : Nat} {u : SX} {v : SY} (I : i_Rel k u v) (hk : k + 3 ≤ 1536) (v1 : Int32) : wpX_had (fun r => wpY_had (fun r' => r' = r ∧ i_Rel (k + 3) u v) v v1) u v1 := by
  refine ps_el (P := fun u v => wpX_had (fun r => wpY_had (fun r' => r' = r ∧ i_Rel (k + 3) u v) v v1) u v1) ?_ I
  intro T J K h c l s a q w wx m g H C L A F hT I
  have R := ps_mk (k := k + 3) (by omega) I
  have hJ := I.1.1
  rcases ps_ix v1 hJ with e | ⟨y, hy, rfl⟩
  · unfold wpX_had wpY_had
    refine ps_noX e (br_f (by decide) ?_)
    exact ps_noY e (br_t rfl ⟨rfl, R⟩)
  · have hv : vp_in (nI y) 24 := vp_in_nI (by omega) (by decide)
    refine ps_had I hy ?_
    unfold wpY_had
    refine ps_known1 hJ hy (br_f (by decide) ⟨hv, ?_, R⟩)
    rw [nI_clamp (by omega), ps_fa]
theorem i_vc_cancel {k : Nat} {u : SX} {v : SY} (I : i_Rel k u v) (hk : k + 3 ≤ 1536) (v1 : Int32) : wpX_cancel (fun r u' => wpY_cancel (fun r' v' => r' = r ∧ i_Rel (k + 3) u' v') v v1) u v1 := by
  refine ps_el (P := fun u v => wpX_cancel (fun r u' => wpY_cancel (fun r' v' => r' = r ∧ i_Rel (k + 3) u' v') v v1) u v1) ?_ I
  intro T J K h c l s a q w wx m g H C L A F hT I
  have R := ps_mk (k := k + 3) (by omega) I
  have hJ := I.1.1
  rcases ps_ix v1 hJ with e | ⟨y, hy, rfl⟩
  · unfold wpX_cancel wpY_cancel
    refine ps_noX e (br_f (by decide) ?_)
    exact ps_noY e (br_t rfl ⟨rfl, R⟩)
  · have hv : vp_in (nI y) 24 := vp_in_nI (by omega) (by decide)
    have ec : (nI y).toNatClampNeg = y := nI_clamp (by omega)
    obtain ⟨z1, z2, z3, z4, z5, z6, z7, z8, z9, z10⟩ := I.2.1 y hy
    by_cases hq : q y < 3
    · obtain ⟨h', c', l', H', C', L', I', X⟩ := ps_cancel I hy hq
      refine X _ ?_
      unfold wpY_cancel
      refine ps_known1 hJ hy ?_
      refine br_f (by decide) ⟨hv, ?_⟩
      rw [ec, ps_fa w, ps_fa g, z6 (by omega)]
      exact br_f (Int32.not_le.mpr (z8 (by omega))) ⟨hv, br_t rfl ⟨hv, nm_r (e' := ps_f (ps_u g y 1)) (ps_uf g y 1) ⟨hv, rfl, ps_mk (by omega) I'⟩⟩⟩
    · unfold wpX_cancel
      refine ps_okX hJ hy (br_t rfl ⟨hv, br_f ?_ ?_⟩)
      · rw [ec, ps_fa]
        exact nI_nlt (b := 3) (by omega) (by omega)
      · unfold wpY_cancel
        refine ps_known1 hJ hy ?_
        refine br_f (by decide) ⟨hv, ?_⟩
        rw [ec]
        refine br_c (fun _ => ⟨rfl, R⟩) (fun hf => ⟨hv, br_f ?_ ⟨rfl, R⟩⟩)
        have e4 : q y = 4 := by
          by_cases e3 : q y = 3
          · exact absurd (z7 e3) hf
          · omega
        rw [ps_fa, z5 e4]
        decide
theorem i_vc_submit {k : Nat} {u : SX} {v : SY} (I : i_Rel k u v) (hk : k + 3 ≤ 1536) (v1 : Int32) (v2 : Int32) : wpX_submit (fun r u' => wpY_submit (fun r' v' => r' = r ∧ i_Rel (k + 3) u' v') v v1 v2) u v1 v2 := by
  refine ps_el (P := fun u v => wpX_submit (fun r u' => wpY_submit (fun r' v' => r' = r ∧ i_Rel (k + 3) u' v') v v1 v2) u v1 v2) ?_ I
  intro T J K h c l s a q w wx m g H C L A F hT I
  have R := ps_mk (k := k + 3) (by omega) I
  have hJ := I.1.1
  by_cases a1 : v1 < 1
  · exact br_t a1 (br_t a1 ⟨rfl, R⟩)
  by_cases a2 : v1 ≤ 100000
  rotate_left
  · exact br_f a1 (br_f a2 (br_f a1 (br_f a2 ⟨rfl, R⟩)))
  by_cases a3 : v2 < 0
  · exact br_f a1 (br_t a2 (br_t a3 (br_f a1 (br_t a2 (br_t a3 ⟨rfl, R⟩)))))
  by_cases a4 : v2 ≤ 1000
  rotate_left
  · exact br_f a1 (br_t a2 (br_f a3 (br_f a4 (br_f a1 (br_t a2 (br_f a3 (br_f a4 ⟨rfl, R⟩)))))))
  by_cases a5 : J = 24
  · have b1 : ¬ nI J < 24 := nI_nlt (b := 24) (by omega) (by omega)
    have b2 : nI J = 24 := congrArg nI a5
    exact br_f a1 (br_t a2 (br_f a3 (br_t a4 (br_f b1 (br_f a1 (br_t a2 (br_f a3 (br_t a4 (br_t b2 ⟨rfl, R⟩)))))))))
  have b1 : nI J < 24 := nI_lt (b := 24) (by omega) (by omega)
  have b2 : ¬ nI J = 24 := fun z => a5 ((nI_eq (b := 24) (by omega) (by omega)).mp z)
  obtain ⟨d, hd, rfl⟩ := nI_of2 (M := 1000) (n := 1000) (by decide) a3 a4
  obtain ⟨x, hx, rfl⟩ := nI_of2 (M := 100000) (n := 100000) (by decide) (fun z => a1 (Int32.lt_trans z (by decide))) a2
  have hx1 : 1 ≤ x := by
    by_cases z : x = 0
    · exact absurd (by rw [z]; decide) a1
    · omega
  have i4 := I.1.2.2.2
  have IC := I.2.2.2.2.1
  have eC := ps_cnt (ps_S_B IC)
  have eS := ps_c_sum q J
  have hv : vp_in (nI J) 24 := vp_in_nI (by omega) (by decide)
  have ec : (nI J).toNatClampNeg = J := nI_clamp (by omega)
  have aJ : ps_u a J (T + d) J = T + d := ps_us
  have aC : ∀ z, z < c → ps_u a J (T + d) (C z) = a (C z) := fun z hz => ps_un (by have := (IC.1 z hz).1; omega)
  obtain ⟨p, D, p1, p2, p3, p4, p5⟩ := ps_s109 (t := nI T) (j := nI (J + 1)) (h := nI h) (l := nI l) (k := lN K) (sz := ps_f (ps_u s J x)) (so := ps_f (ps_u q J 0)) (ad := upd A J (-5)) (fi := upd F J (-5)) (wo := ps_f (ps_u wx J 0)) (hj := ps_f H) (lj := ps_f L) (mk := ps_l m) (c := c) (y := J) (a := ps_u a J (T + d)) (C0 := C) (by omega) (by omega) (by rw [aJ]; omega) (fun z hz => by have := (IC.1 z hz).1; have := (I.2.1 _ this).2.2.1; rw [aC z hz]; omega) c C (by omega) (fun z _ => rfl) (fun z hz1 hz2 => by omega) (fun z hz1 hz2 => by omega)
  rw [aJ] at p3 p4
  have I' := ps_subI (p := p) (x := x) (d := d) (D := D) I (by omega) hx1 hx hd p1 p2 (by
    rcases p3 with e | e
    · exact Or.inl e
    · by_cases z : p = 0
      · exact Or.inl z
      · rw [aC (p - 1) (by omega)] at e
        exact Or.inr e) (fun z hz1 hz2 => by have := p4 z hz1 hz2; rw [aC z hz2] at this; exact this)
  have R' := ps_mk (k := k + 3) (by omega) I'
  refine br_f a1 (br_t a2 (br_f a3 (br_t a4 (br_t b1 (nm_r (nI_1 J) ⟨hv, nm_r (e' := ps_f (ps_u s J x)) (by rw [ec, ps_uf]) ⟨hv, nm_r (e' := ps_f (ps_u a J (T + d))) (by rw [ec, nI_add, ps_uf]) ⟨hv, nm_r (e' := ps_f (ps_u q J 0)) (by rw [ec]; exact ps_uf q J 0) ⟨hv, nm_r (e' := upd A J (-5)) (by rw [ec]) ⟨hv, nm_r (e' := upd F J (-5)) (by rw [ec]) ⟨hv, nm_r (e' := ps_f (ps_u wx J 0)) (by rw [ec]; exact ps_uf wx J 0) ⟨c + 1, p5 _ (c + 1) (by omega) ?_⟩⟩⟩⟩⟩⟩⟩)))))
  refine br_f a1 (br_t a2 (br_f a3 (br_t a4 (br_f b2 ⟨hv, nm_r (e' := ps_f (ps_u s J x)) (by rw [ec, ps_uf]) ⟨hv, nm_r (e' := ps_f (ps_u a J (T + d))) (by rw [ec, nI_add, ps_uf]) ⟨hv, nm_r (e' := ps_f (ps_u w J 0)) (by rw [ec]; exact ps_uf w J 0) ⟨hv, nm_r (e' := upd A J (-5)) (by rw [ec]) ⟨hv, nm_r (e' := upd F J (-5)) (by rw [ec]) ⟨hv, nm_r (e' := ps_f (ps_u g J 0)) (by rw [ec]; exact ps_uf g J 0) (nm_r (nI_1 J) ⟨nI_pred J, R'⟩)⟩⟩⟩⟩⟩⟩))))
theorem i_vc_run {k : Nat} {u : SX} {v : SY} (I : i_Rel k u v) (hk : k + 3 ≤ 1536) (v1 : Int32) : wpX_run (fun r u' => wpY_run (fun r' v' => r' = r ∧ i_Rel (k + 3) u' v') v v1) u v1 := by
  refine ps_el (P := fun u v => wpX_run (fun r u' => wpY_run (fun r' v' => r' = r ∧ i_Rel (k + 3) u' v') v v1) u v1) ?_ I
  intro T J K h c l s a q w wx m g H C L A F hT I
  have go : ∀ left : Nat, left ≤ 5000 → ∃ (r : Int32) (u' : SX) (v' : SY), i_Rel (k + 3) u' v' ∧ (∀ post : Int32 → SX → Prop, post r u' → ∃ n, wX_run_21 post n (nI left) 0 (nI T) (nI J) (lN K) (nI h) (nI c) (nI l) (ps_f s) (ps_f a) (ps_f q) A F (ps_f wx) (ps_l m) (ps_f H) (ps_f C) (ps_f L)) ∧ (∀ post : Int32 → SY → Prop, post r v' → ∃ n, wY_run_28 post (nI left) n 0 0 (nI J) (nI T) (ps_f s) (ps_f a) (ps_f w) A F (ps_f g)) := by
    intro left hl
    obtain ⟨r, u', v', Q, hX, hY⟩ := ps_main left T K h c l q w wx m H C L A F hl (by omega) I
    refine ⟨nI (0 + r), u', v', ⟨T + left, J, s, a, g, by omega, Q⟩, fun post hp => ⟨left + 1, hX post (left + 1) 0 (by omega) hp⟩, fun post hp => ⟨0 + 1 + left, hY post left 0 0 0 (by omega) (by omega) hp⟩⟩
  by_cases a1 : 0 ≤ v1
  · by_cases a2 : v1 ≤ 5000
    · obtain ⟨x, hx, rfl⟩ := nI_of2 (M := 5000) (n := 5000) (by decide) (Int32.not_lt.mpr a1) a2
      obtain ⟨r, u', v', R, hX, hY⟩ := go x hx
      exact br_t a1 (br_t a2 (hX _ (br_t a1 (br_t a2 (hY _ ⟨rfl, R⟩)))))
    · obtain ⟨r, u', v', R, hX, hY⟩ := go 5000 (by omega)
      exact br_t a1 (br_f a2 (hX _ (br_t a1 (br_f a2 (hY _ ⟨rfl, R⟩)))))
  · obtain ⟨r, u', v', R, hX, hY⟩ := go 0 (by omega)
    exact br_f a1 (br_t (by decide) (hX _ (br_f a1 (hY _ ⟨rfl, R⟩))))
end
