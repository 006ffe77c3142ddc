section
/-! counting over the first n naturals; sets are Nat → Bool -/
def pw_c (p : Nat → Bool) : Nat → Nat
  | 0 => 0
  | n + 1 => pw_c p n + (p n).toNat
theorem pw_b1 (b : Bool) : b.toNat ≤ 1 := by cases b <;> decide
theorem pw_c_le (p : Nat → Bool) (n : Nat) : pw_c p n ≤ n := by
  induction n with
  | zero => exact Nat.le_refl 0
  | succ n ih =>
    have h := pw_b1 (p n)
    show pw_c p n + (p n).toNat ≤ n + 1
    omega
theorem pw_c_mono {p q : Nat → Bool} {n : Nat} (h : ∀ i, i < n → p i = true → q i = true) : pw_c p n ≤ pw_c q n := by
  induction n with
  | zero => exact Nat.le_refl 0
  | succ n ih =>
    have h1 := ih (fun i hi => h i (by omega))
    have h2 := h n (by omega)
    show pw_c p n + (p n).toNat ≤ pw_c q n + (q n).toNat
    cases hp : p n
    · show pw_c p n + 0 ≤ pw_c q n + (q n).toNat
      omega
    · rw [h2 hp]
      omega
theorem pw_c_congr {p q : Nat → Bool} {n : Nat} (h : ∀ i, i < n → p i = q i) : pw_c p n = pw_c q n :=
  Nat.le_antisymm (pw_c_mono (fun i hi hp => by rw [← h i hi]; exact hp)) (pw_c_mono (fun i hi hp => by rw [h i hi]; exact hp))
theorem pw_c_zero {p : Nat → Bool} {n : Nat} (h : ∀ i, i < n → p i = false) : pw_c p n = 0 := by
  induction n with
  | zero => rfl
  | succ n ih =>
    have h1 := ih (fun i hi => h i (by omega))
    show pw_c p n + (p n).toNat = 0
    rw [h n (by omega), h1]
    rfl
theorem pw_c_all {p : Nat → Bool} {n : Nat} (h : ∀ i, i < n → p i = true) : pw_c p n = n := by
  induction n with
  | zero => rfl
  | succ n ih =>
    have h1 := ih (fun i hi => h i (by omega))
    show pw_c p n + (p n).toNat = n + 1
    rw [h n (by omega), h1]
    rfl
theorem pw_c_or {p q : Nat → Bool} {n : Nat} (h : ∀ i, i < n → p i = true → q i = false) : pw_c (fun i => p i || q i) n = pw_c p n + pw_c q n := by
  induction n with
  | zero => rfl
  | succ n ih =>
    have h1 := ih (fun i hi => h i (by omega))
    have h2 := h n (by omega)
    show pw_c (fun i => p i || q i) n + (p n || q n).toNat = (pw_c p n + (p n).toNat) + (pw_c q n + (q n).toNat)
    rw [h1]
    cases hp : p n
    · show pw_c p n + pw_c q n + (q n).toNat = (pw_c p n + 0) + (pw_c q n + (q n).toNat)
      omega
    · rw [h2 hp]
      show pw_c p n + pw_c q n + 1 = (pw_c p n + 1) + (pw_c q n + 0)
      omega
theorem pw_c_split (p q : Nat → Bool) (n : Nat) : pw_c p n = pw_c (fun i => p i && q i) n + pw_c (fun i => p i && !q i) n := by
  induction n with
  | zero => rfl
  | succ n ih =>
    show pw_c p n + (p n).toNat = (pw_c (fun i => p i && q i) n + (p n && q n).toNat) + (pw_c (fun i => p i && !q i) n + (p n && !q n).toNat)
    have e : (p n).toNat = (p n && q n).toNat + (p n && !q n).toNat := by
      cases p n <;> cases q n <;> rfl
    omega
theorem pw_c_one {k m : Nat} (hk : k < m) : pw_c (fun j => j == k) m = 1 := by
  induction m with
  | zero => exact absurd hk (Nat.not_lt_zero k)
  | succ m ih =>
    show pw_c (fun j => j == k) m + (m == k).toNat = 1
    by_cases e : m = k
    · have h0 : pw_c (fun j => j == k) m = 0 := pw_c_zero (fun i hi => beq_eq_false_iff_ne.mpr (by omega))
      rw [h0, beq_iff_eq.mpr e]
      rfl
    · rw [ih (by omega), beq_eq_false_iff_ne.mpr e]
      rfl
theorem pw_c_del {q : Nat → Bool} {m k : Nat} (hk : k < m) (hq : q k = true) : pw_c q m = pw_c (fun j => q j && !(j == k)) m + 1 := by
  have h1 := pw_c_split q (fun j => j == k) m
  have h2 : pw_c (fun i => q i && (i == k)) m = pw_c (fun j => j == k) m := pw_c_congr (fun i _ => by
    by_cases e : i = k
    · rw [e, hq, Bool.true_and]
    · rw [beq_eq_false_iff_ne.mpr e, Bool.and_false])
  have h3 := pw_c_one hk
  have h4 : pw_c q m = pw_c (fun i => q i && (i == k)) m + pw_c (fun i => q i && !(i == k)) m := h1
  omega
theorem pw_c_inj {m : Nat} (f : Nat → Nat) : ∀ (n : Nat) (p q : Nat → Bool), (∀ i, i < n → p i = true → f i < m ∧ q (f i) = true) → (∀ i j, i < n → j < n → p i = true → p j = true → f i = f j → i = j) → pw_c p n ≤ pw_c q m := by
  intro n
  induction n with
  | zero => intro p q _ _; exact Nat.zero_le _
  | succ n ih =>
    intro p q h1 h2
    show pw_c p n + (p n).toNat ≤ pw_c q m
    cases hp : p n
    · exact ih p q (fun i hi => h1 i (by omega)) (fun i j hi hj => h2 i j (by omega) (by omega))
    · obtain ⟨h3, h4⟩ := h1 n (by omega) hp
      rw [pw_c_del h3 h4]
      show pw_c p n + 1 ≤ _ + 1
      refine Nat.add_le_add_right (ih p _ (fun i hi hpi => ?_) (fun i j hi hj => h2 i j (by omega) (by omega))) 1
      obtain ⟨h5, h6⟩ := h1 i (by omega) hpi
      refine ⟨h5, ?_⟩
      have h7 : ¬ f i = f n := fun e => by
        have h8 := h2 i n (by omega) (by omega) hpi hp e
        omega
      show (q (f i) && !(f i == f n)) = true
      rw [h6, beq_eq_false_iff_ne.mpr h7]
      rfl
theorem pw_c_pos {p : Nat → Bool} {n k : Nat} (hk : k < n) (hp : p k = true) : 0 < pw_c p n := by
  rw [pw_c_del hk hp]
  exact Nat.succ_pos _
/-- p falls: it holds just below its count -/
theorem pw_c_fall {p : Nat → Bool} (h : ∀ i, p (i + 1) = true → p i = true) : ∀ n i, i < n → (p i = true ↔ i < pw_c p n) := by
  have hd : ∀ k i, p (i + k) = true → p i = true := by
    intro k
    induction k with
    | zero => intro i hi; exact hi
    | succ k ih => intro i hi; exact ih i (h (i + k) hi)
  intro n
  induction n with
  | zero => intro i hi; exact absurd hi (Nat.not_lt_zero i)
  | succ n ih =>
    intro i hi
    show p i = true ↔ i < pw_c p n + (p n).toNat
    have hl := pw_c_le p n
    cases hp : p n
    · show p i = true ↔ i < pw_c p n + 0
      rcases Nat.lt_or_ge i n with z | z
      · exact ih i z
      · have e : i = n := by omega
        rw [e, hp]
        exact ⟨fun z => absurd z Bool.false_ne_true, fun z => absurd z (by omega)⟩
    · show p i = true ↔ i < pw_c p n + 1
      have ha : pw_c p n = n := pw_c_all (fun j hj => hd (n - j) j (by rw [show j + (n - j) = n by omega]; exact hp))
      rw [ha]
      refine ⟨fun _ => hi, fun _ => hd (n - i) i (by rw [show i + (n - i) = n by omega]; exact hp)⟩
/-- some place below n is in p -/
def pw_any (p : Nat → Bool) : Nat → Bool
  | 0 => false
  | n + 1 => pw_any p n || p n
theorem pw_any_iff {p : Nat → Bool} {n : Nat} : pw_any p n = true ↔ ∃ i, i < n ∧ p i = true := by
  induction n with
  | zero => exact ⟨fun z => absurd z Bool.false_ne_true, fun ⟨i, hi, _⟩ => absurd hi (Nat.not_lt_zero i)⟩
  | succ n ih =>
    show (pw_any p n || p n) = true ↔ _
    rw [Bool.or_eq_true, ih]
    constructor
    · rintro (⟨i, hi, hp⟩ | hp)
      · exact ⟨i, by omega, hp⟩
      · exact ⟨n, by omega, hp⟩
    · rintro ⟨i, hi, hp⟩
      by_cases e : i = n
      · exact Or.inr (e ▸ hp)
      · exact Or.inl ⟨i, by omega, hp⟩
theorem pw_any_f {p : Nat → Bool} {n : Nat} (h : pw_any p n = false) {i : Nat} (hi : i < n) : p i = false := by
  cases hp : p i
  · rfl
  · rw [pw_any_iff.mpr ⟨i, hi, hp⟩] at h
    exact absurd h.symm Bool.false_ne_true
end
section
/-! a strict order on 0..9, antichains, the greatest size of one: pw_W -/
def pw_po (r : Nat → Nat → Bool) : Prop := (∀ a, a < 10 → r a a = false) ∧ (∀ a b c, a < 10 → b < 10 → c < 10 → r a b = true → r b c = true → r a c = true)
def pw_an (r : Nat → Nat → Bool) (A : Nat → Bool) : Prop := ∀ a b, a < 10 → b < 10 → A a = true → A b = true → r a b = false
def pw_sb (A S : Nat → Bool) : Prop := ∀ a, a < 10 → A a = true → S a = true
def pw_is (r : Nat → Nat → Bool) (S : Nat → Bool) (n : Nat) : Prop := (∃ A, pw_sb A S ∧ pw_an r A ∧ pw_c A 10 = n) ∧ ∀ A, pw_sb A S → pw_an r A → pw_c A 10 ≤ n
theorem pw_tf {b : Bool} (h : ¬ b = true) : b = false := by
  cases b
  · rfl
  · exact absurd rfl h
theorem pw_ft {b : Bool} (h : ¬ b = false) : b = true := by
  cases b
  · exact absurd rfl h
  · rfl
theorem pw_no {b : Bool} {A : Prop} (h : b = true) (h' : b = false) : A := absurd (h.symm.trans h') (fun z => absurd z.symm Bool.false_ne_true)
theorem pw_max (P : Nat → Prop) (h0 : P 0) : ∀ B, (∀ m, P m → m ≤ B) → ∃ n, P n ∧ ∀ m, P m → m ≤ n := by
  intro B
  induction B with
  | zero => intro h; exact ⟨0, h0, h⟩
  | succ B ih =>
    intro h
    by_cases hB : P (B + 1)
    · exact ⟨B + 1, hB, h⟩
    · refine ih (fun m hm => ?_)
      have h1 := h m hm
      have h2 : m ≠ B + 1 := fun e => hB (e ▸ hm)
      omega
theorem pw_ex (r : Nat → Nat → Bool) (S : Nat → Bool) : ∃ n, pw_is r S n := by
  obtain ⟨n, hA, h⟩ := pw_max (fun n => ∃ A, pw_sb A S ∧ pw_an r A ∧ pw_c A 10 = n) ⟨fun _ => false, fun a _ z => absurd z Bool.false_ne_true, fun a b _ _ z => absurd z Bool.false_ne_true, rfl⟩ 10 (fun m hm => by
    obtain ⟨A, _, _, e⟩ := hm
    rw [← e]
    exact pw_c_le A 10)
  exact ⟨n, hA, fun A h1 h2 => h _ ⟨A, h1, h2, rfl⟩⟩
noncomputable def pw_W (r : Nat → Nat → Bool) (S : Nat → Bool) : Nat := Classical.choose (pw_ex r S)
theorem pw_W_is (r : Nat → Nat → Bool) (S : Nat → Bool) : pw_is r S (pw_W r S) := Classical.choose_spec (pw_ex r S)
theorem pw_W_eq {r : Nat → Nat → Bool} {S : Nat → Bool} {n : Nat} (h : pw_is r S n) : pw_W r S = n := by
  obtain ⟨⟨A, a1, a2, a3⟩, a4⟩ := pw_W_is r S
  obtain ⟨⟨B, b1, b2, b3⟩, b4⟩ := h
  have h1 := a4 B b1 b2
  have h2 := b4 A a1 a2
  omega
theorem pw_W_ge {r : Nat → Nat → Bool} {S A : Nat → Bool} (h1 : pw_sb A S) (h2 : pw_an r A) : pw_c A 10 ≤ pw_W r S := (pw_W_is r S).2 A h1 h2
theorem pw_W_mono {r : Nat → Nat → Bool} {S T : Nat → Bool} (h : pw_sb S T) : pw_W r S ≤ pw_W r T := by
  obtain ⟨⟨A, a1, a2, a3⟩, a4⟩ := pw_W_is r S
  rw [← a3]
  exact pw_W_ge (fun a ha hA => h a ha (a1 a ha hA)) a2
theorem pw_W_congr {r : Nat → Nat → Bool} {S T : Nat → Bool} (h : ∀ i, i < 10 → S i = T i) : pw_W r S = pw_W r T :=
  Nat.le_antisymm (pw_W_mono (fun a ha hA => by rw [← h a ha]; exact hA)) (pw_W_mono (fun a ha hA => by rw [h a ha]; exact hA))
theorem pw_W_le (r : Nat → Nat → Bool) (S : Nat → Bool) : pw_W r S ≤ 10 := by
  obtain ⟨⟨A, a1, a2, a3⟩, a4⟩ := pw_W_is r S
  rw [← a3]
  exact pw_c_le A 10
theorem pw_W_zero {r : Nat → Nat → Bool} {S : Nat → Bool} (h : ∀ i, i < 10 → S i = false) : pw_W r S = 0 := by
  obtain ⟨⟨A, a1, a2, a3⟩, a4⟩ := pw_W_is r S
  rw [← a3]
  exact pw_c_zero (fun i hi => pw_tf (fun z => pw_no (a1 i hi z) (h i hi)))
/-- what is beside t -/
def pw_bs (r : Nat → Nat → Bool) (t x : Nat) : Bool := !(r t x || r x t || x == t)
theorem pw_bs_iff {r : Nat → Nat → Bool} {t x : Nat} : pw_bs r t x = true ↔ r t x = false ∧ r x t = false ∧ x ≠ t := by
  unfold pw_bs
  by_cases e : x = t
  · rw [beq_iff_eq.mpr e, Bool.or_true]
    exact ⟨fun z => absurd z Bool.false_ne_true, fun z => absurd e z.2.2⟩
  · rw [beq_eq_false_iff_ne.mpr e, Bool.or_false]
    cases r t x <;> cases r x t <;> simp [e]
/-- S without t -/
def pw_wo (S : Nat → Bool) (t x : Nat) : Bool := S x && !(x == t)
theorem pw_wo_iff {S : Nat → Bool} {t x : Nat} : pw_wo S t x = true ↔ S x = true ∧ x ≠ t := by
  unfold pw_wo
  by_cases e : x = t
  · rw [beq_iff_eq.mpr e, Bool.not_true, Bool.and_false]
    exact ⟨fun z => absurd z Bool.false_ne_true, fun z => absurd e z.2⟩
  · rw [beq_eq_false_iff_ne.mpr e, Bool.not_false, Bool.and_true]
    exact ⟨fun z => ⟨z, e⟩, fun z => z.1⟩
theorem pw_split {r : Nat → Nat → Bool} (hp : pw_po r) {S : Nat → Bool} {t : Nat} (ht : t < 10) (hS : S t = true) : pw_W r S = max (pw_W r (pw_wo S t)) (1 + pw_W r (fun x => S x && pw_bs r t x)) := by
  have h1 : pw_W r (pw_wo S t) ≤ pw_W r S := pw_W_mono (fun a _ hA => (pw_wo_iff.mp hA).1)
  have h2 : 1 + pw_W r (fun x => S x && pw_bs r t x) ≤ pw_W r S := by
    obtain ⟨⟨A, a1, a2, a3⟩, a4⟩ := pw_W_is r (fun x => S x && pw_bs r t x)
    have hb : ∀ a, a < 10 → A a = true → S a = true ∧ pw_bs r t a = true := fun a ha hA => (Bool.and_eq_true _ _).mp (a1 a ha hA)
    have hc : pw_c (fun x => A x || x == t) 10 = pw_c A 10 + pw_c (fun x => x == t) 10 := pw_c_or (fun i hi hA => beq_eq_false_iff_ne.mpr (pw_bs_iff.mp (hb i hi hA).2).2.2)
    have hd : pw_c (fun x => A x || x == t) 10 ≤ pw_W r S := by
      refine pw_W_ge (fun a ha hA => ?_) (fun a b ha hb' hA hB => ?_)
      · rcases (Bool.or_eq_true _ _).mp hA with z | z
        · exact (hb a ha z).1
        · rw [beq_iff_eq.mp z]
          exact hS
      · rcases (Bool.or_eq_true _ _).mp hA with z | z
        · rcases (Bool.or_eq_true _ _).mp hB with y | y
          · exact a2 a b ha hb' z y
          · rw [beq_iff_eq.mp y]
            exact (pw_bs_iff.mp (hb a ha z).2).2.1
        · rcases (Bool.or_eq_true _ _).mp hB with y | y
          · rw [beq_iff_eq.mp z]
            exact (pw_bs_iff.mp (hb b hb' y).2).1
          · rw [beq_iff_eq.mp z, beq_iff_eq.mp y]
            exact hp.1 t ht
    rw [pw_c_one ht] at hc
    omega
  have h3 : pw_W r S ≤ pw_W r (pw_wo S t) ∨ pw_W r S ≤ 1 + pw_W r (fun x => S x && pw_bs r t x) := by
    obtain ⟨⟨A, a1, a2, a3⟩, a4⟩ := pw_W_is r S
    cases hA : A t
    · refine Or.inl ?_
      rw [← a3]
      exact pw_W_ge (fun a ha z => pw_wo_iff.mpr ⟨a1 a ha z, fun e => pw_no (e ▸ z) hA⟩) a2
    · refine Or.inr ?_
      rw [← a3, pw_c_del ht hA]
      have h5 : pw_c (fun j => A j && !(j == t)) 10 ≤ pw_W r (fun x => S x && pw_bs r t x) := by
        refine pw_W_ge (fun a ha z => ?_) (fun a b ha hb z y => ?_)
        · obtain ⟨z1, z2⟩ := pw_wo_iff.mp z
          exact (Bool.and_eq_true _ _).mpr ⟨a1 a ha z1, pw_bs_iff.mpr ⟨a2 t a ht ha hA z1, a2 a t ha ht z1 hA, z2⟩⟩
        · exact a2 a b ha hb (pw_wo_iff.mp z).1 (pw_wo_iff.mp y).1
      omega
  omega
/-! matchings, and the bound from both sides -/
def pw_M (r : Nat → Nat → Bool) (S : Nat → Bool) (nx pv : Nat → Option Nat) : Prop :=
  (∀ x y, x < 10 → nx x = some y → y < 10 ∧ pv y = some x ∧ S x = true ∧ S y = true ∧ r x y = true) ∧
  (∀ x y, y < 10 → pv y = some x → x < 10 ∧ nx x = some y)
def pw_K (r : Nat → Nat → Bool) (S : Nat → Bool) (pv : Nat → Option Nat) (Q R : Nat → Bool) : Prop :=
  (∀ x y, x < 10 → y < 10 → Q x = true → S y = true → r x y = true → R y = true) ∧
  (∀ y, y < 10 → R y = true → ∃ x, pv y = some x ∧ Q x = true) ∧ (∀ x, x < 10 → Q x = true → S x = true)
def pw_un (S : Nat → Bool) (nx : Nat → Option Nat) (x : Nat) : Bool := S x && (nx x).isNone
def pw_mt (S : Nat → Bool) (nx : Nat → Option Nat) (x : Nat) : Bool := S x && !(nx x).isNone
theorem pw_un_iff {S : Nat → Bool} {nx : Nat → Option Nat} {x : Nat} : pw_un S nx x = true ↔ S x = true ∧ nx x = none := by
  unfold pw_un
  rw [Bool.and_eq_true, Option.isNone_iff_eq_none]
theorem pw_mt_iff {S : Nat → Bool} {nx : Nat → Option Nat} {x : Nat} : pw_mt S nx x = true ↔ S x = true ∧ ∃ y, nx x = some y := by
  unfold pw_mt
  rw [Bool.and_eq_true]
  cases h : nx x with
  | none => exact ⟨fun z => absurd z.2 Bool.false_ne_true, fun z => by obtain ⟨y, hy⟩ := z.2; cases hy⟩
  | some y => exact ⟨fun z => ⟨z.1, y, rfl⟩, fun z => ⟨z.1, rfl⟩⟩
theorem pw_upper {r : Nat → Nat → Bool} (hp : pw_po r) {S : Nat → Bool} {nx pv : Nat → Option Nat} (hM : pw_M r S nx pv) {A : Nat → Bool} (hs : pw_sb A S) (ha : pw_an r A) : pw_c A 10 ≤ pw_c (pw_un S nx) 10 := by
  have h1 := pw_c_split S A 10
  have h2 : pw_c (fun i => S i && A i) 10 = pw_c A 10 := pw_c_congr (fun i hi => by
    cases hA : A i
    · rw [Bool.and_false]
    · rw [hs i hi hA]
      rfl)
  have h3 : pw_c S 10 = pw_c (pw_un S nx) 10 + pw_c (pw_mt S nx) 10 := pw_c_split S (fun x => (nx x).isNone) 10
  have hU : ∀ x, pw_any (fun a => A a && (a == x || r a x)) 10 = true ↔ ∃ a, a < 10 ∧ A a = true ∧ (a = x ∨ r a x = true) := by
    intro x
    rw [pw_any_iff]
    constructor
    · rintro ⟨a, ha, z⟩
      obtain ⟨z1, z2⟩ := (Bool.and_eq_true _ _).mp z
      rcases (Bool.or_eq_true _ _).mp z2 with y | y
      · exact ⟨a, ha, z1, Or.inl (beq_iff_eq.mp y)⟩
      · exact ⟨a, ha, z1, Or.inr y⟩
    · rintro ⟨a, ha, z1, z2⟩
      refine ⟨a, ha, (Bool.and_eq_true _ _).mpr ⟨z1, (Bool.or_eq_true _ _).mpr ?_⟩⟩
      rcases z2 with y | y
      · exact Or.inl (beq_iff_eq.mpr y)
      · exact Or.inr y
  have hX : ∀ x y, x < 10 → y < 10 → r x y = true → pw_any (fun a => A a && (a == x || r a x)) 10 = true → ∃ a, a < 10 ∧ A a = true ∧ r a y = true := by
    intro x y hx hy hr hu
    obtain ⟨a, h5, h6, h7⟩ := (hU x).mp hu
    rcases h7 with z | z
    · exact ⟨a, h5, h6, z ▸ hr⟩
    · exact ⟨a, h5, h6, hp.2 a x y h5 hx hy z hr⟩
  have h4 : pw_c (pw_mt S nx) 10 ≤ pw_c (fun i => S i && !A i) 10 := by
    refine pw_c_inj (fun x => if pw_any (fun a => A a && (a == x || r a x)) 10 = true then (nx x).getD 0 else x) 10 _ _ (fun x hx hm => ?_) (fun x x' hx hx' hm hm' he => ?_)
    · obtain ⟨hSx, y, hy⟩ := pw_mt_iff.mp hm
      obtain ⟨m1, m2, m3, m4, m5⟩ := hM.1 x y hx hy
      by_cases hu : pw_any (fun a => A a && (a == x || r a x)) 10 = true
      · rw [if_pos hu, hy]
        refine ⟨m1, (Bool.and_eq_true _ _).mpr ⟨m4, ?_⟩⟩
        obtain ⟨a, g1, g2, g3⟩ := hX x y hx m1 m5 hu
        cases hA : A y
        · show (!A y) = true
          rw [hA]
          rfl
        · exact pw_no g3 (ha a y g1 m1 g2 hA)
      · rw [if_neg hu]
        refine ⟨hx, (Bool.and_eq_true _ _).mpr ⟨hSx, ?_⟩⟩
        cases hA : A x
        · rfl
        · exact absurd ((hU x).mpr ⟨x, hx, hA, Or.inl rfl⟩) hu
    · obtain ⟨hSx, y, hy⟩ := pw_mt_iff.mp hm
      obtain ⟨m1, m2, m3, m4, m5⟩ := hM.1 x y hx hy
      obtain ⟨hSx', y', hy'⟩ := pw_mt_iff.mp hm'
      obtain ⟨n1, n2, n3, n4, n5⟩ := hM.1 x' y' hx' hy'
      rw [hy, hy'] at he
      by_cases hu : pw_any (fun a => A a && (a == x || r a x)) 10 = true
      · by_cases hu' : pw_any (fun a => A a && (a == x' || r a x')) 10 = true
        · rw [if_pos hu, if_pos hu'] at he
          have e : y = y' := he
          rw [e, n2] at m2
          exact (Option.some.inj m2).symm
        · rw [if_pos hu, if_neg hu'] at he
          have e : y = x' := he
          obtain ⟨a, g1, g2, g3⟩ := hX x y hx m1 m5 hu
          exact absurd ((hU x').mpr ⟨a, g1, g2, Or.inr (e ▸ g3)⟩) hu'
      · by_cases hu' : pw_any (fun a => A a && (a == x' || r a x')) 10 = true
        · rw [if_neg hu, if_pos hu'] at he
          have e : x = y' := he
          obtain ⟨a, g1, g2, g3⟩ := hX x' y' hx' n1 n5 hu'
          exact absurd ((hU x).mpr ⟨a, g1, g2, Or.inr (e ▸ g3)⟩) hu
        · rw [if_neg hu, if_neg hu'] at he
          exact he
  have h5 : pw_c S 10 = pw_c (fun i => S i && A i) 10 + pw_c (fun i => S i && !A i) 10 := h1
  omega
theorem pw_dil {r : Nat → Nat → Bool} (hp : pw_po r) {S : Nat → Bool} {nx pv : Nat → Option Nat} (hM : pw_M r S nx pv) {Q R : Nat → Bool} (hK : pw_K r S pv Q R) (hQ : ∀ x, x < 10 → S x = true → nx x = none → Q x = true) : pw_W r S = pw_c (pw_un S nx) 10 := by
  have a1 : pw_sb (fun x => Q x && !R x) S := fun a ha z => hK.2.2 a ha ((Bool.and_eq_true _ _).mp z).1
  have a2 : pw_an r (fun x => Q x && !R x) := by
    intro a b ha hb za zb
    obtain ⟨z1, z2⟩ := (Bool.and_eq_true _ _).mp za
    obtain ⟨y1, y2⟩ := (Bool.and_eq_true _ _).mp zb
    refine pw_tf (fun hr => ?_)
    have h := hK.1 a b ha hb z1 (hK.2.2 b hb y1) hr
    rw [h] at y2
    exact absurd y2 Bool.false_ne_true
  have h1 : pw_c Q 10 = pw_c (fun i => Q i && R i) 10 + pw_c (fun i => Q i && !R i) 10 := pw_c_split Q R 10
  have h2 : pw_c Q 10 = pw_c (pw_un Q nx) 10 + pw_c (pw_mt Q nx) 10 := pw_c_split Q (fun x => (nx x).isNone) 10
  have h3 : pw_c (fun i => Q i && R i) 10 ≤ pw_c R 10 := pw_c_mono (fun i _ z => ((Bool.and_eq_true _ _).mp z).2)
  have h4 : pw_c (pw_un S nx) 10 ≤ pw_c (pw_un Q nx) 10 := pw_c_mono (fun i hi z => by
    obtain ⟨z1, z2⟩ := pw_un_iff.mp z
    exact pw_un_iff.mpr ⟨hQ i hi z1 z2, z2⟩)
  have h5 : pw_c R 10 ≤ pw_c (pw_mt Q nx) 10 := by
    refine pw_c_inj (fun y => (pv y).getD 0) 10 _ _ (fun y hy hR => ?_) (fun y y' hy hy' hR hR' he => ?_)
    · obtain ⟨x, e, hx⟩ := hK.2.1 y hy hR
      obtain ⟨g1, g2⟩ := hM.2 x y hy e
      rw [e]
      exact ⟨g1, pw_mt_iff.mpr ⟨hx, y, g2⟩⟩
    · obtain ⟨x, e, hx⟩ := hK.2.1 y hy hR
      obtain ⟨g1, g2⟩ := hM.2 x y hy e
      obtain ⟨x', e', hx'⟩ := hK.2.1 y' hy' hR'
      obtain ⟨g1', g2'⟩ := hM.2 x' y' hy' e'
      rw [e, e'] at he
      have ex : x = x' := he
      rw [ex, g2'] at g2
      exact (Option.some.inj g2).symm
  have h6 := pw_upper hp hM a1 a2
  have h7 : pw_c (fun i => Q i && !R i) 10 = pw_c (pw_un S nx) 10 := by omega
  exact pw_W_eq ⟨⟨_, a1, a2, h7⟩, fun A s1 s2 => pw_upper hp hM s1 s2⟩
end
section
/-! the greedy choice from 9 down -/
noncomputable def pw_gs (r : Nat → Nat → Bool) (t : Nat) (S : Nat → Bool) : Nat → Bool :=
  if S t = true then (if pw_W r (pw_wo S t) = pw_W r S then pw_wo S t else fun x => pw_wo S t x && pw_bs r t x) else S
noncomputable def pw_g (r : Nat → Nat → Bool) : Nat → Nat → Bool
  | 0 => fun _ => true
  | j + 1 => pw_gs r (9 - j) (pw_g r j)
noncomputable def pw_ch (r : Nat → Nat → Bool) (t : Nat) : Bool := pw_g r (9 - t) t && !(pw_W r (pw_wo (pw_g r (9 - t)) t) == pw_W r (pw_g r (9 - t)))
theorem pw_ch_iff {r : Nat → Nat → Bool} {t : Nat} : pw_ch r t = true ↔ pw_g r (9 - t) t = true ∧ ¬ pw_W r (pw_wo (pw_g r (9 - t)) t) = pw_W r (pw_g r (9 - t)) := by
  unfold pw_ch
  rw [Bool.and_eq_true, Bool.not_eq_true', beq_eq_false_iff_ne]
theorem pw_gs_in {r : Nat → Nat → Bool} {t x : Nat} {S : Nat → Bool} (h : pw_gs r t S x = true) : S x = true := by
  unfold pw_gs at h
  by_cases h1 : S t = true
  · rw [if_pos h1] at h
    by_cases h2 : pw_W r (pw_wo S t) = pw_W r S
    · rw [if_pos h2] at h
      exact (pw_wo_iff.mp h).1
    · rw [if_neg h2] at h
      exact (pw_wo_iff.mp ((Bool.and_eq_true _ _).mp h).1).1
  · rw [if_neg h1] at h
    exact h
theorem pw_gs_self {r : Nat → Nat → Bool} {t : Nat} {S : Nat → Bool} : pw_gs r t S t = false := by
  refine pw_tf (fun h => ?_)
  have h0 := pw_gs_in h
  unfold pw_gs at h
  rw [if_pos h0] at h
  by_cases h2 : pw_W r (pw_wo S t) = pw_W r S
  · rw [if_pos h2] at h
    exact (pw_wo_iff.mp h).2 rfl
  · rw [if_neg h2] at h
    exact (pw_wo_iff.mp ((Bool.and_eq_true _ _).mp h).1).2 rfl
theorem pw_g_mono {r : Nat → Nat → Bool} {x : Nat} : ∀ k j, pw_g r (j + k) x = true → pw_g r j x = true := by
  intro k
  induction k with
  | zero => intro j h; exact h
  | succ k ih => intro j h; exact ih j (pw_gs_in (r := r) (t := 9 - (j + k)) h)
theorem pw_g_out {r : Nat → Nat → Bool} {j x : Nat} (h : 10 - j ≤ x) (hx : x < 10) : pw_g r j x = false := by
  refine pw_tf (fun z => ?_)
  have h1 : pw_g r (9 - x + 1) x = true := pw_g_mono (j - (9 - x + 1)) (9 - x + 1) (by rw [show 9 - x + 1 + (j - (9 - x + 1)) = j by omega]; exact z)
  have h2 : pw_gs r (9 - (9 - x)) (pw_g r (9 - x)) x = true := h1
  rw [show 9 - (9 - x) = x by omega, pw_gs_self] at h2
  exact absurd h2 Bool.false_ne_true
theorem pw_ch_bs {r : Nat → Nat → Bool} {s t : Nat} (hs : s < 10) (ht : t < s) (h1 : pw_ch r s = true) (h2 : pw_ch r t = true) : r s t = false ∧ r t s = false := by
  obtain ⟨a1, a2⟩ := pw_ch_iff.mp h1
  obtain ⟨b1, b2⟩ := pw_ch_iff.mp h2
  have h3 : pw_g r (9 - s + 1) t = true := pw_g_mono (9 - t - (9 - s + 1)) (9 - s + 1) (by rw [show 9 - s + 1 + (9 - t - (9 - s + 1)) = 9 - t by omega]; exact b1)
  have h4 : pw_gs r (9 - (9 - s)) (pw_g r (9 - s)) t = true := h3
  rw [show 9 - (9 - s) = s by omega] at h4
  unfold pw_gs at h4
  rw [if_pos a1, if_neg a2] at h4
  have h5 := pw_bs_iff.mp ((Bool.and_eq_true _ _).mp h4).2
  exact ⟨h5.1, h5.2.1⟩
theorem pw_ch_an {r : Nat → Nat → Bool} (hp : pw_po r) {s t : Nat} (hs : s < 10) (ht : t < 10) (h1 : pw_ch r s = true) (h2 : pw_ch r t = true) : r s t = false := by
  rcases Nat.lt_trichotomy s t with z | z | z
  · exact (pw_ch_bs ht z h2 h1).2
  · rw [z]
    exact hp.1 t ht
  · exact (pw_ch_bs hs z h1 h2).1
theorem pw_gs_take {r : Nat → Nat → Bool} (hp : pw_po r) {t : Nat} (ht : t < 10) {S : Nat → Bool} (h1 : S t = true) (h2 : ¬ pw_W r (pw_wo S t) = pw_W r S) : pw_W r (pw_gs r t S) + 1 = pw_W r S := by
  unfold pw_gs
  rw [if_pos h1, if_neg h2]
  have h3 := pw_split hp ht h1
  have h4 : pw_W r (fun x => pw_wo S t x && pw_bs r t x) = pw_W r (fun x => S x && pw_bs r t x) := pw_W_congr (fun i hi => by
    cases hb : pw_bs r t i
    · rw [Bool.and_false, Bool.and_false]
    · rw [Bool.and_true, Bool.and_true]
      unfold pw_wo
      rw [beq_eq_false_iff_ne.mpr (pw_bs_iff.mp hb).2.2, Bool.not_false, Bool.and_true])
  omega
theorem pw_gs_leave {r : Nat → Nat → Bool} {t : Nat} {S : Nat → Bool} (h2 : S t = true → pw_W r (pw_wo S t) = pw_W r S) : pw_W r (pw_gs r t S) = pw_W r S := by
  unfold pw_gs
  by_cases h1 : S t = true
  · rw [if_pos h1, if_pos (h2 h1)]
    exact h2 h1
  · rw [if_neg h1]
theorem pw_g_W {r : Nat → Nat → Bool} (hp : pw_po r) : ∀ j, j ≤ 10 → pw_W r (pw_g r j) + pw_c (fun i => pw_ch r (9 - i)) j = pw_W r (fun _ => true) := by
  intro j
  induction j with
  | zero => intro _; rfl
  | succ j ih =>
    intro hj
    have h1 := ih (by omega)
    show pw_W r (pw_gs r (9 - j) (pw_g r j)) + (pw_c (fun i => pw_ch r (9 - i)) j + (pw_ch r (9 - j)).toNat) = _
    have e : 9 - (9 - j) = j := by omega
    cases hc : pw_ch r (9 - j)
    · have h2 : pw_W r (pw_gs r (9 - j) (pw_g r j)) = pw_W r (pw_g r j) := pw_gs_leave (fun z => by
        by_cases hw : pw_W r (pw_wo (pw_g r j) (9 - j)) = pw_W r (pw_g r j)
        · exact hw
        · exact pw_no (pw_ch_iff.mpr (by rw [e]; exact ⟨z, hw⟩)) hc)
      show _ + (_ + 0) = _
      omega
    · have h2 := pw_ch_iff.mp hc
      rw [e] at h2
      have h3 := pw_gs_take hp (by omega) h2.1 h2.2
      show _ + (_ + 1) = _
      omega
theorem pw_c_rev (p : Nat → Bool) : pw_c (fun i => p (9 - i)) 10 = pw_c p 10 := by
  show 0 + (p 9).toNat + (p 8).toNat + (p 7).toNat + (p 6).toNat + (p 5).toNat + (p 4).toNat + (p 3).toNat + (p 2).toNat + (p 1).toNat + (p 0).toNat = 0 + (p 0).toNat + (p 1).toNat + (p 2).toNat + (p 3).toNat + (p 4).toNat + (p 5).toNat + (p 6).toNat + (p 7).toNat + (p 8).toNat + (p 9).toNat
  omega
theorem pw_ch_count {r : Nat → Nat → Bool} (hp : pw_po r) : pw_c (pw_ch r) 10 = pw_W r (fun _ => true) := by
  have h1 := pw_g_W hp 10 (by omega)
  have h2 : pw_W r (pw_g r 10) = 0 := pw_W_zero (fun i hi => pw_g_out (by omega) hi)
  have h3 := pw_c_rev (pw_ch r)
  omega
/-! layers, and the height -/
def pw_R (r : Nat → Nat → Bool) (S : Nat → Bool) : Nat → Nat → Bool
  | 0 => S
  | i + 1 => fun x => pw_R r S i x && pw_any (fun y => pw_R r S i y && r y x) 10
theorem pw_R_s {r : Nat → Nat → Bool} {S : Nat → Bool} {i x : Nat} : pw_R r S (i + 1) x = true ↔ pw_R r S i x = true ∧ ∃ y, y < 10 ∧ pw_R r S i y = true ∧ r y x = true := by
  show (pw_R r S i x && pw_any (fun y => pw_R r S i y && r y x) 10) = true ↔ _
  rw [Bool.and_eq_true, pw_any_iff]
  refine and_congr_right (fun _ => ?_)
  constructor
  · rintro ⟨y, hy, z⟩
    exact ⟨y, hy, (Bool.and_eq_true _ _).mp z⟩
  · rintro ⟨y, hy, z⟩
    exact ⟨y, hy, (Bool.and_eq_true _ _).mpr z⟩
def pw_l (r : Nat → Nat → Bool) (S : Nat → Bool) : Nat := pw_c (fun i => pw_any (pw_R r S i) 10) 10
/-- a set with a member has one with none of it before it -/
theorem pw_first {r : Nat → Nat → Bool} (hp : pw_po r) {T : Nat → Bool} (h : pw_any T 10 = true) : ∃ x, x < 10 ∧ T x = true ∧ ∀ y, y < 10 → T y = true → r y x = false := by
  obtain ⟨k, ⟨x, hx, hT, hk⟩, hm⟩ := pk_least (fun k => ∃ x, x < 10 ∧ T x = true ∧ pw_c (fun y => T y && r y x) 10 = k) (by
    obtain ⟨x, hx, hT⟩ := pw_any_iff.mp h
    exact ⟨_, x, hx, hT, rfl⟩)
  refine ⟨x, hx, hT, fun y hy hTy => pw_tf (fun hr => ?_)⟩
  have hd := pw_c_del (q := fun y => T y && r y x) (k := y) hy ((Bool.and_eq_true _ _).mpr ⟨hTy, hr⟩)
  have hle : pw_c (fun z => T z && r z y) 10 ≤ pw_c (fun j => (T j && r j x) && !(j == y)) 10 := pw_c_mono (fun i hi z => by
    obtain ⟨z1, z2⟩ := (Bool.and_eq_true _ _).mp z
    refine (Bool.and_eq_true _ _).mpr ⟨(Bool.and_eq_true _ _).mpr ⟨z1, hp.2 i y x hi hy hx z2 hr⟩, ?_⟩
    by_cases e : i = y
    · rw [e] at z2
      exact pw_no z2 (hp.1 y hy)
    · rw [beq_eq_false_iff_ne.mpr e]
      rfl)
  refine hm _ (show pw_c (fun z => T z && r z y) 10 < k from ?_) ⟨y, hy, hTy, rfl⟩
  have hd' : pw_c (fun y => T y && r y x) 10 = pw_c (fun j => (T j && r j x) && !(j == y)) 10 + 1 := hd
  omega
theorem pw_R_less {r : Nat → Nat → Bool} (hp : pw_po r) {S : Nat → Bool} {i : Nat} (h : pw_any (pw_R r S i) 10 = true) : pw_c (pw_R r S (i + 1)) 10 + 1 ≤ pw_c (pw_R r S i) 10 := by
  obtain ⟨x, hx, hT, hn⟩ := pw_first hp h
  rw [pw_c_del hx hT]
  refine Nat.add_le_add_right (pw_c_mono (fun j hj z => ?_)) 1
  obtain ⟨z1, y, y1, y2, y3⟩ := pw_R_s.mp z
  refine (Bool.and_eq_true _ _).mpr ⟨z1, ?_⟩
  by_cases e : j = x
  · rw [e] at y3
    exact pw_no y3 (hn y y1 y2)
  · rw [beq_eq_false_iff_ne.mpr e]
    rfl
theorem pw_R_sub {r : Nat → Nat → Bool} {A B : Nat → Bool} (h : pw_sb A B) : ∀ i, pw_sb (pw_R r A i) (pw_R r B i) := by
  intro i
  induction i with
  | zero => exact h
  | succ i ih =>
    intro a ha z
    obtain ⟨z1, y, y1, y2, y3⟩ := pw_R_s.mp z
    exact pw_R_s.mpr ⟨ih a ha z1, y, y1, ih y y1 y2, y3⟩
theorem pw_R_fall {r : Nat → Nat → Bool} {S : Nat → Bool} (i : Nat) (h : pw_any (pw_R r S (i + 1)) 10 = true) : pw_any (pw_R r S i) 10 = true := by
  obtain ⟨x, hx, z⟩ := pw_any_iff.mp h
  exact pw_any_iff.mpr ⟨x, hx, (pw_R_s.mp z).1⟩
theorem pw_R_cnt {r : Nat → Nat → Bool} (hp : pw_po r) {S : Nat → Bool} {s : Nat} (hs : s < 10) (hn : S s = false) : ∀ i, pw_any (pw_R r S i) 10 = true → pw_c (pw_R r S i) 10 + i ≤ 9 := by
  intro i
  induction i with
  | zero =>
    intro _
    have h1 : pw_c S 10 ≤ pw_c (fun x => true && !(x == s)) 10 := pw_c_mono (fun x hx z => by
      by_cases e : x = s
      · rw [e] at z
        exact pw_no z hn
      · rw [beq_eq_false_iff_ne.mpr e]
        rfl)
    have h2 := pw_c_del (q := fun _ => true) hs rfl
    have h3 : pw_c (fun _ => true) 10 = 10 := rfl
    show pw_c S 10 + 0 ≤ 9
    omega
  | succ i ih =>
    intro h
    have h1 := ih (pw_R_fall i h)
    have h2 := pw_R_less hp (pw_R_fall i h)
    omega
theorem pw_l_up {r : Nat → Nat → Bool} (hp : pw_po r) {s t : Nat} (hs : s < 10) (ht : t < 10) (h : r s t = true) : pw_l r (fun x => r x s) + 1 ≤ pw_l r (fun x => r x t) := by
  have hA : ∀ i, i < 10 → (pw_any (pw_R r (fun x => r x s) i) 10 = true ↔ i < pw_l r (fun x => r x s)) := pw_c_fall (p := fun i => pw_any (pw_R r (fun x => r x s) i) 10) pw_R_fall 10
  have hB : ∀ i, i < 10 → (pw_any (pw_R r (fun x => r x t) i) 10 = true ↔ i < pw_l r (fun x => r x t)) := pw_c_fall (p := fun i => pw_any (pw_R r (fun x => r x t) i) 10) pw_R_fall 10
  have hsub : pw_sb (fun x => r x s) (fun x => r x t) := fun a ha z => hp.2 a s t ha hs ht z h
  have h9 : pw_l r (fun x => r x s) ≤ 9 := by
    rcases Nat.lt_or_ge 9 (pw_l r (fun x => r x s)) with z | z
    · have h1 := (hA 9 (by omega)).mpr z
      have h2 := pw_R_cnt hp (S := fun x => r x s) hs (hp.1 s hs) 9 h1
      obtain ⟨x, hx, hx'⟩ := pw_any_iff.mp h1
      have h3 := pw_c_pos hx hx'
      omega
    · exact z
  have hs' : ∀ i, i ≤ pw_l r (fun x => r x s) → pw_R r (fun x => r x t) i s = true := by
    intro i
    induction i with
    | zero => intro _; exact h
    | succ i ih =>
      intro hi
      obtain ⟨y, y1, y2⟩ := pw_any_iff.mp ((hA i (by omega)).mpr (by omega))
      have y3 : r y s = true := by
        have h0 : ∀ k, pw_R r (fun x => r x s) k y = true → r y s = true := by
          intro k
          induction k with
          | zero => intro z; exact z
          | succ k ihk => intro z; exact ihk (pw_R_s.mp z).1
        exact h0 i y2
      exact pw_R_s.mpr ⟨ih (by omega), y, y1, pw_R_sub hsub i y y1 y2, y3⟩
  exact (hB _ (by omega)).mp (pw_any_iff.mpr ⟨s, hs, hs' _ (Nat.le_refl _)⟩)
theorem pw_l_le (r : Nat → Nat → Bool) (S : Nat → Bool) : pw_l r S ≤ 10 := pw_c_le _ 10
theorem pw_height {r : Nat → Nat → Bool} (hp : pw_po r) {h : Nat} (hh : ∀ t, t < 10 → pw_l r (fun x => r x t) + 1 ≤ h) : 10 ≤ pw_W r (fun _ => true) * h := by
  have h1 : ∀ v, pw_c (fun t => decide (pw_l r (fun x => r x t) < v)) 10 ≤ pw_W r (fun _ => true) * v := by
    intro v
    induction v with
    | zero =>
      rw [pw_c_zero (fun i _ => decide_eq_false (Nat.not_lt_zero _))]
      exact Nat.zero_le _
    | succ v ih =>
      have h2 := pw_c_split (fun t => decide (pw_l r (fun x => r x t) < v + 1)) (fun t => decide (pw_l r (fun x => r x t) < v)) 10
      have h3 : pw_c (fun t => decide (pw_l r (fun x => r x t) < v + 1) && decide (pw_l r (fun x => r x t) < v)) 10 ≤ pw_c (fun t => decide (pw_l r (fun x => r x t) < v)) 10 := pw_c_mono (fun i _ z => ((Bool.and_eq_true _ _).mp z).2)
      have h4 : pw_c (fun t => decide (pw_l r (fun x => r x t) < v + 1) && !decide (pw_l r (fun x => r x t) < v)) 10 ≤ pw_W r (fun _ => true) := by
        refine pw_W_ge (fun _ _ _ => rfl) (fun a b ha hb za zb => pw_tf (fun hr => ?_))
        obtain ⟨z1, z2⟩ := (Bool.and_eq_true _ _).mp za
        obtain ⟨y1, y2⟩ := (Bool.and_eq_true _ _).mp zb
        have z3 := of_decide_eq_true z1
        have y3 := of_decide_eq_true y1
        have z4 := of_decide_eq_false (by rw [Bool.not_eq_true'] at z2; exact z2)
        have y4 := of_decide_eq_false (by rw [Bool.not_eq_true'] at y2; exact y2)
        have h5 := pw_l_up hp ha hb hr
        omega
      have h6 : pw_c (fun t => decide (pw_l r (fun x => r x t) < v + 1)) 10 = pw_c (fun t => decide (pw_l r (fun x => r x t) < v + 1) && decide (pw_l r (fun x => r x t) < v)) 10 + pw_c (fun t => decide (pw_l r (fun x => r x t) < v + 1) && !decide (pw_l r (fun x => r x t) < v)) 10 := h2
      rw [Nat.mul_succ]
      omega
  have h2 := h1 h
  rw [pw_c_all (fun t ht => decide_eq_true (by have h3 := hh t ht; omega))] at h2
  exact h2
end
section
/-! Int32 by its bits (the first rows began as rows of laws/BITS.to-paste) -/
def pw_bt (x : Int32) (i : Nat) : Bool := x.toBitVec.getLsbD i
theorem pw_bx {x y : Int32} (h : ∀ i, i < 32 → pw_bt x i = pw_bt y i) : x = y := Int32.toBitVec_inj.mp (BitVec.eq_of_getLsbD_eq (fun i hi => h i hi))
theorem pw_b_or (x y : Int32) (i : Nat) : pw_bt (x ||| y) i = (pw_bt x i || pw_bt y i) := by unfold pw_bt; rw [Int32.toBitVec_or, BitVec.getLsbD_or]
theorem pw_b_and (x y : Int32) (i : Nat) : pw_bt (x &&& y) i = (pw_bt x i && pw_bt y i) := by unfold pw_bt; rw [Int32.toBitVec_and, BitVec.getLsbD_and]
theorem pw_b_xor (x y : Int32) (i : Nat) : pw_bt (x ^^^ y) i = (pw_bt x i ^^ pw_bt y i) := by unfold pw_bt; rw [Int32.toBitVec_xor, BitVec.getLsbD_xor]
theorem pw_b_big {x : Int32} {i : Nat} (h : 32 ≤ i) : pw_bt x i = false := BitVec.getLsbD_of_ge _ _ h
theorem pw_b_m1 : ∀ i, i < 32 → pw_bt (-1) i = true := by decide +kernel
theorem pw_b_0 (i : Nat) : pw_bt 0 i = false := BitVec.getLsbD_zero
theorem pw_b_full (i : Nat) : pw_bt 1023 i = decide (i < 10) := by
  rcases Nat.lt_or_ge i 32 with h | h
  · exact (by decide +kernel : ∀ i, i < 32 → pw_bt 1023 i = decide (i < 10)) i h
  · rw [pw_b_big h, decide_eq_false (by omega)]
theorem pw_s_l : ∀ n, n < 32 → ((nI n &&& 31).toBitVec.smod 32).toNat = n := by decide +kernel
theorem pw_s_u : ∀ n, n < 32 → (((nI n).toUInt32 &&& Int32.toUInt32 31).toBitVec % 32).toNat = n := by decide +kernel
theorem pw_b_one (i : Nat) : pw_bt 1 i = (i == 0) := by
  rcases Nat.lt_or_ge i 32 with h | h
  · exact (by decide +kernel : ∀ i, i < 32 → pw_bt 1 i = (i == 0)) i h
  · rw [pw_b_big h, beq_eq_false_iff_ne.mpr (by omega)]
/-- the bit of a place -/
theorem pw_b_sh (n : Nat) (hn : n < 32) (i : Nat) : pw_bt ((1 : Int32) <<< (nI n &&& 31)) i = (i == n) := by
  rcases Nat.lt_or_ge i 32 with hi | hi
  · unfold pw_bt
    rw [Int32.toBitVec_shiftLeft]
    show ((1 : Int32).toBitVec <<< ((nI n &&& 31).toBitVec.smod 32).toNat).getLsbD i = _
    rw [pw_s_l n hn, BitVec.getLsbD_shiftLeft]
    have h1 := pw_b_one (i - n)
    unfold pw_bt at h1
    rw [h1]
    rcases Nat.lt_or_ge i n with h | h
    · rw [decide_eq_true h, beq_eq_false_iff_ne.mpr (show i ≠ n by omega), Bool.not_true, Bool.and_false, Bool.false_and]
    · rw [decide_eq_false (show ¬ i < n by omega), decide_eq_true hi, Bool.not_false, Bool.true_and, Bool.true_and]
      by_cases e : i = n
      · rw [beq_iff_eq.mpr e, beq_iff_eq.mpr (show i - n = 0 by omega)]
      · rw [beq_eq_false_iff_ne.mpr e, beq_eq_false_iff_ne.mpr (show i - n ≠ 0 by omega)]
  · rw [pw_b_big hi, beq_eq_false_iff_ne.mpr (by omega)]
theorem pw_b_ushr (n : Nat) (hn : n < 32) (x : Int32) (i : Nat) : pw_bt ((x.toUInt32 >>> ((nI n).toUInt32 &&& Int32.toUInt32 31)).toInt32) i = pw_bt x (n + i) := by
  show (x.toUInt32 >>> ((nI n).toUInt32 &&& Int32.toUInt32 31)).toBitVec.getLsbD i = x.toUInt32.toBitVec.getLsbD (n + i)
  rw [UInt32.toBitVec_shiftRight]
  show (x.toUInt32.toBitVec >>> (((nI n).toUInt32 &&& Int32.toUInt32 31).toBitVec % 32).toNat).getLsbD i = _
  rw [pw_s_u n hn, BitVec.getLsbD_ushiftRight]
theorem pw_b_not (x : Int32) {i : Nat} (hi : i < 32) : pw_bt (x ^^^ (-1)) i = !pw_bt x i := by
  rw [pw_b_xor, pw_b_m1 i hi, Bool.xor_true]
/-- the test by >>> -/
theorem pw_test (x : Int32) (n : Nat) (hn : n < 32) : ((x.toUInt32 >>> ((nI n).toUInt32 &&& Int32.toUInt32 31)).toInt32 &&& 1) = nI (pw_bt x n).toNat := by
  apply pw_bx
  intro i _
  rw [pw_b_and, pw_b_ushr n hn, pw_b_one]
  by_cases e : i = 0
  · rw [e, Nat.add_zero]
    cases pw_bt x n <;> decide
  · rw [beq_eq_false_iff_ne.mpr e, Bool.and_false]
    cases pw_bt x n
    · exact (pw_b_0 i).symm
    · show false = pw_bt 1 i
      rw [pw_b_one, beq_eq_false_iff_ne.mpr e]
theorem pw_test0 (x : Int32) (n : Nat) (hn : n < 32) : ((x.toUInt32 >>> ((nI n).toUInt32 &&& Int32.toUInt32 31)).toInt32 &&& 1) = 0 ↔ pw_bt x n = false := by
  rw [pw_test x n hn]
  cases pw_bt x n <;> decide
/-- the test by & -/
theorem pw_and0 (x : Int32) (n : Nat) (hn : n < 32) : (x &&& ((1 : Int32) <<< (nI n &&& 31))) = 0 ↔ pw_bt x n = false := by
  constructor
  · intro h
    have h1 : pw_bt (x &&& ((1 : Int32) <<< (nI n &&& 31))) n = pw_bt 0 n := by rw [h]
    rw [pw_b_and, pw_b_sh n hn, pw_b_0, beq_iff_eq.mpr rfl, Bool.and_true] at h1
    exact h1
  · intro h
    apply pw_bx
    intro i _
    rw [pw_b_and, pw_b_sh n hn, pw_b_0]
    by_cases e : i = n
    · rw [e, h, Bool.false_and]
    · rw [beq_eq_false_iff_ne.mpr e, Bool.and_false]
/-- a set of 0..9 -/
def pw_m (x : Int32) : Prop := ∀ i, 10 ≤ i → pw_bt x i = false
theorem pw_m0 {x : Int32} (hx : pw_m x) : x = 0 ↔ pw_any (pw_bt x) 10 = false := by
  constructor
  · intro h
    refine pw_tf (fun z => ?_)
    obtain ⟨i, _, hi⟩ := pw_any_iff.mp z
    rw [h, pw_b_0] at hi
    exact absurd hi Bool.false_ne_true
  · intro h
    apply pw_bx
    intro i _
    rw [pw_b_0]
    rcases Nat.lt_or_ge i 10 with z | z
    · exact pw_any_f h z
    · exact hx i z
theorem pw_m_and {x y : Int32} (h : pw_m x) : pw_m (x &&& y) := fun i hi => by rw [pw_b_and, h i hi, Bool.false_and]
theorem pw_m_or {x y : Int32} (h : pw_m x) (h' : pw_m y) : pw_m (x ||| y) := fun i hi => by rw [pw_b_or, h i hi, h' i hi]; rfl
theorem pw_m_sh {n : Nat} (hn : n < 10) : pw_m ((1 : Int32) <<< (nI n &&& 31)) := fun i hi => by rw [pw_b_sh n (by omega), beq_eq_false_iff_ne.mpr (by omega)]
theorem pw_m_full : pw_m 1023 := fun i hi => by rw [pw_b_full, decide_eq_false (by omega)]
theorem pw_m_0 : pw_m 0 := fun i _ => pw_b_0 i
/-- the state's order: after (a1) and ahead (a2) -/
def pw_r (a1 : Nat → Int32) (a b : Nat) : Bool := pw_bt (a1 a) b
def pw_S (a1 a2 : Nat → Int32) : Prop := (∀ a, a < 10 → pw_m (a1 a)) ∧ (∀ a, a < 10 → pw_m (a2 a)) ∧ (∀ a b, a < 10 → b < 10 → pw_bt (a2 b) a = pw_r a1 a b) ∧ pw_po (pw_r a1)
end
section
/-! walks of the methods that store nothing -/
theorem pw_c_s (p : Nat → Bool) (n : Nat) : pw_c p (n + 1) = pw_c p n + (p n).toNat := rfl
theorem pw_any_congr {p q : Nat → Bool} {n : Nat} (h : ∀ i, i < n → p i = q i) : pw_any p n = pw_any q n := by
  cases hp : pw_any p n
  · refine (pw_tf (fun z => ?_)).symm
    obtain ⟨i, hi, hq⟩ := pw_any_iff.mp z
    exact pw_no ((h i hi).trans hq) (pw_any_f hp hi)
  · obtain ⟨i, hi, hq⟩ := pw_any_iff.mp hp
    exact (pw_any_iff.mpr ⟨i, hi, (h i hi).symm.trans hq⟩).symm
theorem pw_size {post : Int32 → Prop} {x : Int32} (H : post (nI (pw_c (pw_bt x) 10))) : wpX_size post () x :=
  pk_loop (σ := Int32) (fun n i s => wX_size_4 post x n s (nI i)) (fun i s => s = nI (pw_c (pw_bt x) i)) 10 0 0 (by omega) rfl
    (fun n s h => pk_le 10 10 (fun _ => by rw [h]; exact H) (fun z => absurd z (by omega)))
    (fun n i s hi h hw => pk_le 10 i (fun z => absurd z (by omega)) (fun _ => nm_r (by rw [h, pw_test x i (by omega), nI_add, pw_c_s]) (nm_r (nI_1 i) (hw _ rfl))))
theorem pw_thing {post : Int32 → Prop} {t : Nat} (ht : t < 10) (H : post 1) : wpX_isThing post () (nI t) :=
  pk_lt t 0 (fun z => absurd z (by omega)) (fun _ => pk_lt 9 t (fun z => absurd z (by omega)) (fun _ => H))
theorem pw_pairs {post : Int32 → Prop} {q : Int32} {a1 a2 a3 a4 a5 a6 : Nat → Int32} (H : ∀ x, post x) : wpX_pairs post (q, a1, a2, a3, a4, a5, a6) :=
  pk_loop (σ := Int32) (fun n i s => wX_pairs_4 post q a1 a2 a3 a4 a5 a6 n s (nI i)) (fun _ _ => True) 10 0 0 (by omega) trivial
    (fun n s _ => pk_le 10 10 (fun _ => H s) (fun z => absurd z (by omega)))
    (fun n i s hi _ hw => pk_le 10 i (fun z => absurd z (by omega)) (fun _ => ⟨pk_in i 10 hi, pw_size (nm_e (nm_r (nI_1 i) (hw _ trivial)))⟩))
/-- the set besides(t) answers -/
def pw_be (a1 a2 : Nat → Int32) (t : Nat) : Int32 := 1023 &&& (((a1 t ||| a2 t) ||| ((1 : Int32) <<< (nI t &&& 31))) ^^^ (-1))
theorem pw_be_m (a1 a2 : Nat → Int32) (t : Nat) : pw_m (pw_be a1 a2 t) := pw_m_and pw_m_full
theorem pw_be_b {a1 a2 : Nat → Int32} (hS : pw_S a1 a2) {t x : Nat} (ht : t < 10) (hx : x < 10) : pw_bt (pw_be a1 a2 t) x = pw_bs (pw_r a1) t x := by
  unfold pw_be pw_bs
  rw [pw_b_and, pw_b_full, pw_b_not _ (by omega), pw_b_or, pw_b_or, pw_b_sh t (by omega), decide_eq_true hx, Bool.true_and, hS.2.2.1 x t hx ht]
  rfl
theorem pw_besides {post : Int32 → Prop} {q : Int32} {a1 a2 a3 a4 a5 a6 : Nat → Int32} {t : Nat} (ht : t < 10) (H : post (pw_be a1 a2 t)) : wpX_besides post (q, a1, a2, a3, a4, a5, a6) (nI t) := by
  refine ⟨pk_in t 10 ht, pk_in t 10 ht, ?_⟩
  rw [nI_clamp (show t < 2 ^ 31 by omega)]
  exact H
theorem pw_before {post : Int32 → Prop} {q : Int32} {a1 a2 a3 a4 a5 a6 : Nat → Int32} {s t : Nat} (hs : s < 10) (ht : t < 10) (H : post (nI (pw_r a1 s t).toNat)) : wpX_before post (q, a1, a2, a3, a4, a5, a6) (nI s) (nI t) := by
  unfold wpX_before
  dsimp only
  refine pw_thing hs (br_f (by decide) (pw_thing ht (br_f (by decide) ⟨pk_in s 10 hs, ?_⟩)))
  rw [nI_clamp (show s < 2 ^ 31 by omega), pw_test _ t (by omega)]
  exact H
/-- the layer that firstOnes answers -/
def pw_ly (r : Nat → Nat → Bool) (T : Nat → Bool) (b : Nat) : Bool := T b && !pw_any (fun y => T y && r y b) 10
theorem pw_firstOnes {post : Int32 → Prop} {q x : Int32} {a1 a2 a3 a4 a5 a6 : Nat → Int32} (hS : pw_S a1 a2) (H : ∀ y, (∀ b, pw_bt y b = (decide (b < 10) && pw_ly (pw_r a1) (pw_bt x) b)) → post y) : wpX_firstOnes post (q, a1, a2, a3, a4, a5, a6) x := by
  refine pk_loop (σ := Int32) (fun n i s => wX_firstOnes_4 post x q a1 a2 a3 a4 a5 a6 n s (nI i)) (fun i s => ∀ b, pw_bt s b = (decide (b < i) && pw_ly (pw_r a1) (pw_bt x) b)) 10 0 0 (by omega) (fun b => ?_)
    (fun n s h => pk_le 10 10 (fun _ => H s h) (fun z => absurd z (by omega))) (fun n i s hi h hw => pk_le 10 i (fun z => absurd z (by omega)) (fun _ => ek_if (pw_test0 x i (by omega)) (fun hb => nm_r (nI_1 i) (hw s ?_)) (fun hb => ⟨pk_in i 10 hi, ek_if (d := pw_any (fun y => pw_bt x y && pw_r a1 y i) 10 = false) ?_ (fun ha => nm_e (nm_r (nI_1 i) (hw _ ?_))) (fun ha => nm_r (nI_1 i) (hw s ?_))⟩)))
  · rw [pw_b_0, decide_eq_false (Nat.not_lt_zero b), Bool.false_and]
  · intro b
    rw [h b]
    by_cases e : b = i
    · rw [e]
      unfold pw_ly
      rw [hb, Bool.false_and, Bool.and_false, Bool.and_false]
    · rw [show decide (b < i) = decide (b < i + 1) from decide_eq_decide.mpr (by omega)]
  · rw [nI_clamp (show i < 2 ^ 31 by omega), pw_m0 (pw_m_and (hS.2.1 i hi))]
    rw [pw_any_congr (p := pw_bt (a2 i &&& x)) (q := fun y => pw_bt x y && pw_r a1 y i) (fun y hy => by rw [pw_b_and, hS.2.2.1 y i hy hi, Bool.and_comm])]
  · intro b
    rw [pw_b_or, pw_b_sh i (by omega), h b]
    by_cases e : b = i
    · rw [e, beq_iff_eq.mpr rfl, Bool.or_true, decide_eq_true (show i < i + 1 by omega), Bool.true_and]
      unfold pw_ly
      rw [pw_ft hb, ha]
      rfl
    · rw [beq_eq_false_iff_ne.mpr e, Bool.or_false, show decide (b < i) = decide (b < i + 1) from decide_eq_decide.mpr (by omega)]
  · intro b
    rw [h b]
    by_cases e : b = i
    · rw [e]
      unfold pw_ly
      rw [pw_ft ha, Bool.not_true, Bool.and_false, Bool.and_false, Bool.and_false]
    · rw [show decide (b < i) = decide (b < i + 1) from decide_eq_decide.mpr (by omega)]
theorem pw_R_out {r : Nat → Nat → Bool} {S : Nat → Bool} {b : Nat} (h : S b = false) : ∀ i, pw_R r S i b = false := by
  intro i
  induction i with
  | zero => exact h
  | succ i ih =>
    show (pw_R r S i b && _) = false
    rw [ih, Bool.false_and]
theorem pw_longest {post : Int32 → Prop} {q x : Int32} {a1 a2 a3 a4 a5 a6 : Nat → Int32} (hS : pw_S a1 a2) (hx : pw_m x) (H : post (nI (pw_l (pw_r a1) (pw_bt x)))) : wpX_longest post (q, a1, a2, a3, a4, a5, a6) x := by
  refine pk_loop (σ := Int32 × Int32) (fun n i s => wX_longest_7 post x q a1 a2 a3 a4 a5 a6 n s.1 s.2 (nI i)) (fun i s => s.1 = nI (pw_c (fun i => pw_any (pw_R (pw_r a1) (pw_bt x) i) 10) i) ∧ ∀ b, b < 32 → (pw_bt x b && !pw_bt s.2 b) = pw_R (pw_r a1) (pw_bt x) i b) 10 0 (0, 0) (by omega) ⟨rfl, fun b _ => ?_⟩
    (fun n s h => pk_le 10 10 (fun _ => by rw [h.1]; exact H) (fun z => absurd z (by omega))) (fun n i s hi h hw => pk_le 10 i (fun z => absurd z (by omega)) (fun _ => pw_firstOnes hS (fun y hy => ?_)))
  · show (pw_bt x b && !pw_bt 0 b) = pw_bt x b
    rw [pw_b_0, Bool.not_false, Bool.and_true]
  · obtain ⟨h1, h2⟩ := h
    have e : pw_bt (x &&& (s.2 ^^^ (-1))) = pw_R (pw_r a1) (pw_bt x) i := by
      funext b
      rcases Nat.lt_or_ge b 32 with z | z
      · rw [pw_b_and, pw_b_not _ z]
        exact h2 b z
      · rw [pw_b_big z, pw_R_out (hx b (by omega))]
    rw [e] at hy
    have hym : pw_m y := fun b hb => by rw [hy b, decide_eq_false (by omega), Bool.false_and]
    have hn : ∀ b, b < 32 → (pw_bt x b && !pw_bt (s.2 ||| y) b) = pw_R (pw_r a1) (pw_bt x) (i + 1) b := by
      intro b hb
      show _ = (pw_R (pw_r a1) (pw_bt x) i b && pw_any (fun y => pw_R (pw_r a1) (pw_bt x) i y && pw_r a1 y b) 10)
      rw [pw_b_or, Bool.not_or, ← Bool.and_assoc, h2 b hb, hy b]
      rcases Nat.lt_or_ge b 10 with z | z
      · rw [decide_eq_true z, Bool.true_and]
        unfold pw_ly
        cases pw_R (pw_r a1) (pw_bt x) i b
        · rfl
        · rw [Bool.true_and, Bool.true_and, Bool.true_and, Bool.not_not]
      · rw [pw_R_out (hx b z), Bool.false_and, Bool.false_and]
    refine ek_if (d := pw_any (pw_R (pw_r a1) (pw_bt x) i) 10 = false) ?_ (fun ha => nm_e (nm_r (nI_1 i) (hw (s.1, s.2 ||| y) ⟨?_, hn⟩))) (fun ha => nm_e (nm_e (nm_r (nI_1 i) (hw (s.1 + 1, s.2 ||| y) ⟨?_, hn⟩))))
    · rw [pw_m0 hym]
      constructor
      · intro hz
        refine pw_tf (fun z => ?_)
        obtain ⟨b, b1, b2, b3⟩ := pw_first hS.2.2.2 z
        have hb := hy b
        rw [pw_any_f hz b1, decide_eq_true b1, Bool.true_and] at hb
        unfold pw_ly at hb
        rw [b2, Bool.true_and] at hb
        have hb' : pw_any (fun y => pw_R (pw_r a1) (pw_bt x) i y && pw_r a1 y b) 10 = true := by
          cases hc : pw_any (fun y => pw_R (pw_r a1) (pw_bt x) i y && pw_r a1 y b) 10
          · rw [hc] at hb
            exact absurd hb Bool.false_ne_true
          · rfl
        obtain ⟨y', y1, y2⟩ := pw_any_iff.mp hb'
        obtain ⟨y3, y4⟩ := (Bool.and_eq_true _ _).mp y2
        exact pw_no y4 (b3 y' y1 y3)
      · intro hz
        refine pw_tf (fun z => ?_)
        obtain ⟨b, b1, b2⟩ := pw_any_iff.mp z
        rw [hy b] at b2
        unfold pw_ly at b2
        rw [pw_any_f hz b1, Bool.false_and, Bool.and_false] at b2
        exact absurd b2 Bool.false_ne_true
    · show s.1 = _
      rw [h1, pw_c_s, ha]
      rfl
    · show s.1 + 1 = _
      rw [h1, pw_c_s, pw_ft ha, nI_1]
      rfl
theorem pw_l_mono {r : Nat → Nat → Bool} {A B : Nat → Bool} (h : pw_sb A B) : pw_l r A ≤ pw_l r B := pw_c_mono (fun i _ z => by
  obtain ⟨x, hx, hR⟩ := pw_any_iff.mp z
  exact pw_any_iff.mpr ⟨x, hx, pw_R_sub h i x hx hR⟩)
theorem pw_heightWith {post : Int32 → Prop} {q : Int32} {a1 a2 a3 a4 a5 a6 : Nat → Int32} {t : Nat} (ht : t < 10) (hS : pw_S a1 a2) (H : ∀ h, pw_l (pw_r a1) (fun x => pw_r a1 x t) + 1 ≤ h → h ≤ 21 → post (nI h)) : wpX_heightWith post (q, a1, a2, a3, a4, a5, a6) (nI t) := by
  unfold wpX_heightWith
  dsimp only
  refine pw_thing ht (br_f (by decide) ⟨pk_in t 10 ht, ?_⟩)
  rw [nI_clamp (show t < 2 ^ 31 by omega)]
  refine pw_longest hS (hS.2.1 t ht) ⟨pk_in t 10 ht, pw_longest hS (hS.1 t ht) ?_⟩
  rw [nI_1, nI_add]
  have h1 : pw_l (pw_r a1) (fun x => pw_r a1 x t) ≤ pw_l (pw_r a1) (pw_bt (a2 t)) := pw_l_mono (fun x hx z => by rw [hS.2.2.1 x t hx ht]; exact z)
  have h2 := pw_l_le (pw_r a1) (pw_bt (a2 t))
  have h3 := pw_l_le (pw_r a1) (pw_bt (a1 t))
  exact H _ (by omega) (by omega)
theorem pw_heightX {post : Int32 → Prop} {q : Int32} {a1 a2 a3 a4 a5 a6 : Nat → Int32} (hS : pw_S a1 a2) (H : ∀ h, (∀ t, t < 10 → pw_l (pw_r a1) (fun x => pw_r a1 x t) + 1 ≤ h) → h ≤ 21 → post (nI h)) : wpX_height post (q, a1, a2, a3, a4, a5, a6) := by
  refine pk_loop (σ := Int32) (fun n i s => wX_height_4 post q a1 a2 a3 a4 a5 a6 n s (nI i)) (fun i s => ∃ h, s = nI h ∧ h ≤ 21 ∧ ∀ t, t < i → pw_l (pw_r a1) (fun x => pw_r a1 x t) + 1 ≤ h) 10 0 0 (by omega) ⟨0, rfl, by omega, fun t ht => absurd ht (by omega)⟩
    (fun n s h => pk_le 10 10 (fun _ => ?_) (fun z => absurd z (by omega))) (fun n i s hi h hw => pk_le 10 i (fun z => absurd z (by omega)) (fun _ => pw_heightWith hi hS (fun h' g1 g2 => ?_)))
  · obtain ⟨h, e, h1, h2⟩ := h
    rw [e]
    exact H h h2 h1
  · obtain ⟨h, e, h1, h2⟩ := h
    have e' : s = nI h := e
    subst e'
    refine pk_le h' h (fun z => nm_r (nI_1 i) (hw _ ⟨h, rfl, h1, fun t ht => ?_⟩)) (fun z => nm_r (nI_1 i) (hw _ ⟨h', rfl, g2, fun t ht => ?_⟩))
    · by_cases et : t = i
      · rw [et]
        omega
      · exact h2 t (by omega)
    · by_cases et : t = i
      · rw [et]
        exact g1
      · have h3 := h2 t (by omega)
        omega
end
section
/-! put and release: the order that they make -/
theorem pw_po_congr {r r' : Nat → Nat → Bool} (h : ∀ a b, a < 10 → b < 10 → r' a b = r a b) (hp : pw_po r) : pw_po r' := by
  refine ⟨fun a ha => by rw [h a a ha ha]; exact hp.1 a ha, fun a b c ha hb hc h1 h2 => ?_⟩
  rw [h a b ha hb] at h1
  rw [h b c hb hc] at h2
  rw [h a c ha hc]
  exact hp.2 a b c ha hb hc h1 h2
def pw_lo (r : Nat → Nat → Bool) (a x : Nat) : Bool := r x a || x == a
def pw_hi (r : Nat → Nat → Bool) (b y : Nat) : Bool := r b y || y == b
theorem pw_lo_iff {r : Nat → Nat → Bool} {a x : Nat} : pw_lo r a x = true ↔ r x a = true ∨ x = a := by
  unfold pw_lo
  rw [Bool.or_eq_true, beq_iff_eq]
theorem pw_hi_iff {r : Nat → Nat → Bool} {b y : Nat} : pw_hi r b y = true ↔ r b y = true ∨ y = b := by
  unfold pw_hi
  rw [Bool.or_eq_true, beq_iff_eq]
theorem pw_po_add {r : Nat → Nat → Bool} (hp : pw_po r) {a b : Nat} (ha : a < 10) (hb : b < 10) (hab : a ≠ b) (hr : r b a = false) : pw_po (fun x y => r x y || (pw_lo r a x && pw_hi r b y)) := by
  have key : ∀ x y, (r x y || (pw_lo r a x && pw_hi r b y)) = true ↔ r x y = true ∨ ((r x a = true ∨ x = a) ∧ (r b y = true ∨ y = b)) := by
    intro x y
    rw [Bool.or_eq_true, Bool.and_eq_true, pw_lo_iff, pw_hi_iff]
  refine ⟨fun x hx => pw_tf (fun z => ?_), fun x y z hx hy hz h1 h2 => ?_⟩
  · rcases (key x x).mp z with h | ⟨h1, h2⟩
    · exact pw_no h (hp.1 x hx)
    · rcases h1 with h1 | h1
      · rcases h2 with h2 | h2
        · exact pw_no (hp.2 b x a hb hx ha h2 h1) hr
        · rw [h2] at h1
          exact pw_no h1 hr
      · rcases h2 with h2 | h2
        · rw [h1] at h2
          exact pw_no h2 hr
        · exact absurd (h1.symm.trans h2) hab
  · refine (key x z).mpr ?_
    rcases (key x y).mp h1 with g | ⟨g1, g2⟩
    · rcases (key y z).mp h2 with k | ⟨k1, k2⟩
      · exact Or.inl (hp.2 x y z hx hy hz g k)
      · refine Or.inr ⟨Or.inl ?_, k2⟩
        rcases k1 with k1 | k1
        · exact hp.2 x y a hx hy ha g k1
        · rw [← k1]
          exact g
    · rcases (key y z).mp h2 with k | ⟨k1, k2⟩
      · refine Or.inr ⟨g1, Or.inl ?_⟩
        rcases g2 with g2 | g2
        · exact hp.2 b y z hb hy hz g2 k
        · rw [← g2]
          exact k
      · exact Or.inr ⟨g1, k2⟩
/-- an array after i turns of put's loop -/
def pw_pu (a : Nat → Int32) (lo up : Int32) (i : Nat) : Nat → Int32 := fun j => if j < i ∧ pw_bt lo j = true then a j ||| up else a j
theorem pw_pu_0 (a : Nat → Int32) (lo up : Int32) : pw_pu a lo up 0 = a := by
  funext j
  unfold pw_pu
  rw [if_neg (fun z => absurd z.1 (Nat.not_lt_zero j))]
theorem pw_pu_f {a : Nat → Int32} {lo up : Int32} {i : Nat} (h : pw_bt lo i = false) : pw_pu a lo up i = pw_pu a lo up (i + 1) := by
  funext j
  unfold pw_pu
  by_cases e : j = i
  · rw [if_neg (fun z => absurd z.1 (by omega)), if_neg (fun z => pw_no z.2 (e ▸ h))]
  · by_cases c : j < i ∧ pw_bt lo j = true
    · rw [if_pos c, if_pos ⟨by omega, c.2⟩]
    · rw [if_neg c, if_neg (fun z => c ⟨by omega, z.2⟩)]
theorem pw_pu_t {a : Nat → Int32} {lo up : Int32} {i : Nat} (h : pw_bt lo i = true) : upd (pw_pu a lo up i) i (pw_pu a lo up i i ||| up) = pw_pu a lo up (i + 1) := by
  funext j
  by_cases e : j = i
  · rw [e, pk_us]
    unfold pw_pu
    rw [if_neg (fun z => absurd z.1 (by omega)), if_pos ⟨by omega, h⟩]
  · rw [pk_un e]
    unfold pw_pu
    by_cases c : j < i ∧ pw_bt lo j = true
    · rw [if_pos c, if_pos ⟨by omega, c.2⟩]
    · rw [if_neg c, if_neg (fun z => c ⟨by omega, z.2⟩)]
theorem pw_pu_b {a : Nat → Int32} {lo up : Int32} {j : Nat} (hj : j < 10) (b : Nat) : pw_bt (pw_pu a lo up 10 j) b = (pw_bt (a j) b || (pw_bt lo j && pw_bt up b)) := by
  unfold pw_pu
  cases h : pw_bt lo j
  · rw [if_neg (fun z => absurd z.2 Bool.false_ne_true), Bool.false_and, Bool.or_false]
  · rw [if_pos ⟨hj, rfl⟩, pw_b_or, Bool.true_and]
theorem pw_put60 {post : Int32 → St1 → Prop} {lo up q : Int32} {a1 a2 a3 a4 a5 a6 : Nat → Int32} (H : ∀ x, post x (q, pw_pu a1 lo up 10, pw_pu a2 up lo 10, a3, a4, a5, a6)) : ∃ n, wX_put_60 post lo up q n 0 a1 a2 a3 a4 a5 a6 := by
  have h := pk_loop (σ := Unit) (fun n i _ => wX_put_60 post lo up q n (nI i) (pw_pu a1 lo up i) (pw_pu a2 up lo i) a3 a4 a5 a6) (fun _ _ => True) 10 0 () (by omega) trivial
    (fun n _ _ => pk_le 10 10 (fun _ => pw_pairs H) (fun z => absurd z (by omega)))
    (fun n i _ hi _ hw => pk_le 10 i (fun z => absurd z (by omega)) (fun _ => by
      have w : wX_put_60 post lo up q n (nI (i + 1)) (pw_pu a1 lo up (i + 1)) (pw_pu a2 up lo (i + 1)) a3 a4 a5 a6 := hw () trivial
      have k : wX_put_88 post (wX_put_60 post lo up q n) lo up (nI i) q (pw_pu a1 lo up (i + 1)) (pw_pu a2 up lo i) a3 a4 a5 a6 := by
        unfold wX_put_88
        refine ek_if (pw_test0 up i (by omega)) (fun hb => nm_r (nI_1 i) ?_) (fun hb => ⟨pk_in i 10 hi, pk_in i 10 hi, ?_⟩)
        · rw [pw_pu_f hb]
          exact w
        · rw [nI_clamp (show i < 2 ^ 31 by omega)]
          exact nm_r (pw_pu_t (pw_ft hb)) (nm_r (nI_1 i) w)
      refine ek_if (pw_test0 lo i (by omega)) (fun hb => ?_) (fun hb => ⟨pk_in i 10 hi, pk_in i 10 hi, ?_⟩)
      · rw [pw_pu_f (a := a1) hb]
        exact k
      · rw [nI_clamp (show i < 2 ^ 31 by omega)]
        exact nm_r (pw_pu_t (pw_ft hb)) k))
  obtain ⟨n, h⟩ := h
  have h' : wX_put_60 post lo up q n (nI 0) (pw_pu a1 lo up 0) (pw_pu a2 up lo 0) a3 a4 a5 a6 := h
  rw [pw_pu_0, pw_pu_0] at h'
  exact ⟨n, h'⟩
theorem pw_put_S {a1 a2 : Nat → Int32} (hS : pw_S a1 a2) {a b : Nat} (ha : a < 10) (hb : b < 10) (hab : a ≠ b) (hr : pw_r a1 b a = false) {lo up : Int32} (hlo : lo = a2 a ||| ((1 : Int32) <<< (nI a &&& 31))) (hup : up = a1 b ||| ((1 : Int32) <<< (nI b &&& 31))) : pw_S (pw_pu a1 lo up 10) (pw_pu a2 up lo 10) := by
  have ml : pw_m lo := by rw [hlo]; exact pw_m_or (hS.2.1 a ha) (pw_m_sh ha)
  have mu : pw_m up := by rw [hup]; exact pw_m_or (hS.1 b hb) (pw_m_sh hb)
  have bl : ∀ x, x < 10 → pw_bt lo x = pw_lo (pw_r a1) a x := fun x hx => by
    rw [hlo, pw_b_or, pw_b_sh a (by omega), hS.2.2.1 x a hx ha]
    rfl
  have bu : ∀ x, pw_bt up x = pw_hi (pw_r a1) b x := fun x => by
    rw [hup, pw_b_or, pw_b_sh b (by omega)]
    rfl
  have hr' : ∀ x y, x < 10 → y < 10 → pw_r (pw_pu a1 lo up 10) x y = (pw_r a1 x y || (pw_lo (pw_r a1) a x && pw_hi (pw_r a1) b y)) := fun x y hx hy => by
    show pw_bt (pw_pu a1 lo up 10 x) y = _
    rw [pw_pu_b hx, bl x hx, bu y]
    rfl
  refine ⟨fun x hx i hi => ?_, fun x hx i hi => ?_, fun x y hx hy => ?_, pw_po_congr hr' (pw_po_add hS.2.2.2 ha hb hab hr)⟩
  · rw [pw_pu_b hx, hS.1 x hx i hi, mu i hi, Bool.and_false, Bool.or_false]
  · rw [pw_pu_b hx, hS.2.1 x hx i hi, ml i hi, Bool.and_false, Bool.or_false]
  · rw [hr' x y hx hy, pw_pu_b hy, hS.2.2.1 x y hx hy, bl x hx, bu y, Bool.and_comm]
theorem pw_putX {post : Int32 → St1 → Prop} {q : Int32} {a1 a2 a3 a4 a5 a6 : Nat → Int32} (hS : pw_S a1 a2) {a b : Nat} (ha : a < 10) (hb : b < 10) (H : ∀ x a1' a2', pw_S a1' a2' → post x (q, a1', a2', a3, a4, a5, a6)) : wpX_put post (q, a1, a2, a3, a4, a5, a6) (nI a) (nI b) := by
  unfold wpX_put
  dsimp only
  refine pw_thing ha (br_f (by decide) (pw_thing hb (br_f (by decide) (pk_eq a b (fun _ => H _ _ _ hS) (fun hab => ⟨pk_in b 10 hb, ?_⟩)))))
  rw [nI_clamp (show b < 2 ^ 31 by omega)]
  refine ek_if (pw_test0 (a1 b) a (by omega)) (fun hr => ⟨pk_in a 10 ha, ?_⟩) (fun _ => H _ _ _ hS)
  rw [nI_clamp (show a < 2 ^ 31 by omega)]
  exact fun lo hlo => ⟨pk_in b 10 hb, fun up hup => pw_put60 (fun x => H _ _ _ (pw_put_S hS ha hb hab hr hlo hup))⟩
/-- an array after i turns of release's loop -/
def pw_rl (a : Nat → Int32) (t i : Nat) : Nat → Int32 := fun j => if j < i then a j &&& (((1 : Int32) <<< (nI t &&& 31)) ^^^ (-1)) else a j
theorem pw_rl_0 (a : Nat → Int32) (t : Nat) : pw_rl a t 0 = a := by
  funext j
  unfold pw_rl
  rw [if_neg (Nat.not_lt_zero j)]
theorem pw_rl_s (a : Nat → Int32) (t i : Nat) : upd (pw_rl a t i) i (pw_rl a t i i &&& (((1 : Int32) <<< (nI t &&& 31)) ^^^ (-1))) = pw_rl a t (i + 1) := by
  funext j
  by_cases e : j = i
  · rw [e, pk_us]
    unfold pw_rl
    rw [if_neg (Nat.lt_irrefl i), if_pos (Nat.lt_succ_self i)]
  · rw [pk_un e]
    unfold pw_rl
    by_cases c : j < i
    · rw [if_pos c, if_pos (by omega)]
    · rw [if_neg c, if_neg (by omega)]
theorem pw_rel11 {post : Int32 → St1 → Prop} {q : Int32} {a1 a2 a3 a4 a5 a6 : Nat → Int32} {t : Nat} (ht : t < 10) (H : ∀ x, post x (q, upd (pw_rl a1 t 10) t 0, upd (pw_rl a2 t 10) t 0, a3, a4, a5, a6)) : ∃ n, wX_release_11 post (nI t) q n 0 a1 a2 a3 a4 a5 a6 := by
  have h := pk_loop (σ := Unit) (fun n i _ => wX_release_11 post (nI t) q n (nI i) (pw_rl a1 t i) (pw_rl a2 t i) a3 a4 a5 a6) (fun _ _ => True) 10 0 () (by omega) trivial
    (fun n _ _ => pk_le 10 10 (fun _ => ⟨pk_in t 10 ht, by
      rw [nI_clamp (show t < 2 ^ 31 by omega)]
      exact nm_e ⟨pk_in t 10 ht, nm_e (pw_pairs H)⟩⟩) (fun z => absurd z (by omega)))
    (fun n i _ hi _ hw => pk_le 10 i (fun z => absurd z (by omega)) (fun _ => by
      have w : wX_release_11 post (nI t) q n (nI (i + 1)) (pw_rl a1 t (i + 1)) (pw_rl a2 t (i + 1)) a3 a4 a5 a6 := hw () trivial
      rw [nI_clamp (show i < 2 ^ 31 by omega)]
      exact ⟨pk_in i 10 hi, pk_in i 10 hi, nm_r (pw_rl_s a1 t i) ⟨pk_in i 10 hi, pk_in i 10 hi, nm_r (pw_rl_s a2 t i) (nm_r (nI_1 i) w)⟩⟩))
  obtain ⟨n, h⟩ := h
  have h' : wX_release_11 post (nI t) q n (nI 0) (pw_rl a1 t 0) (pw_rl a2 t 0) a3 a4 a5 a6 := h
  rw [pw_rl_0, pw_rl_0] at h'
  exact ⟨n, h'⟩
theorem pw_rl_b {a : Nat → Int32} {t j : Nat} (ht : t < 10) (hj : j < 10) {b : Nat} (hb : b < 32) : pw_bt (upd (pw_rl a t 10) t 0 j) b = (!(j == t) && (pw_bt (a j) b && !(b == t))) := by
  by_cases e : j = t
  · rw [e, pk_us, pw_b_0, beq_iff_eq.mpr rfl, Bool.not_true, Bool.false_and]
  · rw [pk_un e, beq_eq_false_iff_ne.mpr e, Bool.not_false, Bool.true_and]
    unfold pw_rl
    rw [if_pos hj, pw_b_and, pw_b_not _ hb, pw_b_sh t (by omega)]
theorem pw_rel_r {a1 : Nat → Int32} {t : Nat} (ht : t < 10) {x y : Nat} (hx : x < 10) (hy : y < 10) : pw_r (upd (pw_rl a1 t 10) t 0) x y = true ↔ x ≠ t ∧ y ≠ t ∧ pw_r a1 x y = true := by
  unfold pw_r
  rw [pw_rl_b ht hx (by omega), Bool.and_eq_true, Bool.and_eq_true, Bool.not_eq_true', Bool.not_eq_true', beq_eq_false_iff_ne, beq_eq_false_iff_ne]
  exact ⟨fun z => ⟨z.1, z.2.2, z.2.1⟩, fun z => ⟨z.1, z.2.2, z.2.1⟩⟩
theorem pw_rel_S {a1 a2 : Nat → Int32} (hS : pw_S a1 a2) {t : Nat} (ht : t < 10) : pw_S (upd (pw_rl a1 t 10) t 0) (upd (pw_rl a2 t 10) t 0) := by
  have hm : ∀ (a : Nat → Int32) x, x < 10 → pw_m (a x) → pw_m (upd (pw_rl a t 10) t 0 x) := by
    intro a x hx h i hi
    rcases Nat.lt_or_ge i 32 with z | z
    · rw [pw_rl_b ht hx z, h i hi, Bool.false_and, Bool.and_false]
    · exact pw_b_big z
  refine ⟨fun x hx => hm a1 x hx (hS.1 x hx), fun x hx => hm a2 x hx (hS.2.1 x hx), fun x y hx hy => ?_, fun x hx => pw_tf (fun z => ?_), fun x y z hx hy hz h1 h2 => ?_⟩
  · unfold pw_r
    rw [pw_rl_b ht hy (by omega), pw_rl_b ht hx (by omega), hS.2.2.1 x y hx hy]
    unfold pw_r
    cases pw_bt (a1 x) y <;> cases x == t <;> cases y == t <;> rfl
  · exact pw_no ((pw_rel_r ht hx hx).mp z).2.2 (hS.2.2.2.1 x hx)
  · obtain ⟨g1, g2, g3⟩ := (pw_rel_r ht hx hy).mp h1
    obtain ⟨k1, k2, k3⟩ := (pw_rel_r ht hy hz).mp h2
    exact (pw_rel_r ht hx hz).mpr ⟨g1, k2, hS.2.2.2.2 x y z hx hy hz g3 k3⟩
/-- after release(t) nothing is before or behind t -/
def pw_al (a1 : Nat → Int32) (t : Nat) : Prop := ∀ x, x < 10 → pw_r a1 t x = false ∧ pw_r a1 x t = false
theorem pw_releaseX {post : Int32 → St1 → Prop} {q : Int32} {a1 a2 a3 a4 a5 a6 : Nat → Int32} (hS : pw_S a1 a2) {t : Nat} (ht : t < 10) (H : ∀ x a1' a2', pw_S a1' a2' → pw_al a1' t → post x (q, a1', a2', a3, a4, a5, a6)) : wpX_release post (q, a1, a2, a3, a4, a5, a6) (nI t) := by
  unfold wpX_release
  dsimp only
  exact pw_thing ht (br_f (by decide) (pw_rel11 ht (fun x => H _ _ _ (pw_rel_S hS ht) (fun x hx => ⟨pw_tf (fun z => ((pw_rel_r ht ht hx).mp z).1 rfl), pw_tf (fun z => ((pw_rel_r ht hx ht).mp z).2.1 rfl)⟩))))
end
section
/-! the search for a way, in pure terms. nx, pv: the matching; rf: reached from; qu, qe: the queue and its end -/
def pw_up {α : Type} (f : Nat → α) (k : Nat) (v : α) : Nat → α := fun j => if j = k then v else f j
theorem pw_us {α : Type} {f : Nat → α} {k : Nat} {v : α} : pw_up f k v k = v := if_pos rfl
theorem pw_un' {α : Type} {f : Nat → α} {k j : Nat} {v : α} (h : j ≠ k) : pw_up f k v j = f j := if_neg h
theorem pw_sn {α : Type} {A : Prop} {o : Option α} {x : α} (h : o = some x) (h' : o = none) : A := by
  rw [h] at h'
  cases h'
theorem pw_si {α : Type} {o : Option α} {x y : α} (h : o = some x) (h' : o = some y) : x = y := Option.some.inj (h.symm.trans h')
/-- what holds of the queue and of what is reached, at any time -/
def pw_B (r : Nat → Nat → Bool) (S : Nat → Bool) (pv : Nat → Option Nat) (f : Nat) (rf : Nat → Option Nat) (qu : Nat → Nat) (qe : Nat) : Prop :=
  (qu 0 = f ∧ 1 ≤ qe) ∧ (∀ i, i < qe → qu i < 10 ∧ S (qu i) = true) ∧ (∀ i j, i < qe → j < qe → qu i = qu j → i = j) ∧
  (∀ i, 0 < i → i < qe → ∃ y j, y < 10 ∧ j < i ∧ pv y = some (qu i) ∧ rf y = some (qu j)) ∧
  (∀ y u, y < 10 → rf y = some u → S y = true ∧ r u y = true ∧ ∃ i, i < qe ∧ u = qu i)
/-- as long as no end is found: what is reached is matched, its partner waits in the queue -/
def pw_B2 (pv rf : Nat → Option Nat) (qu : Nat → Nat) (qe : Nat) : Prop := ∀ y u, y < 10 → rf y = some u → ∃ i, i < qe ∧ pv y = some (qu i)
/-- everything behind u is reached -/
def pw_cl (r : Nat → Nat → Bool) (S : Nat → Bool) (rf : Nat → Option Nat) (u : Nat) : Prop := ∀ y, y < 10 → S y = true → r u y = true → ∃ z, rf y = some z
theorem pw_qe {qu : Nat → Nat} {qe : Nat} (h1 : ∀ i, i < qe → qu i < 10) (h2 : ∀ i j, i < qe → j < qe → qu i = qu j → i = j) : qe ≤ 10 := by
  have h := pw_c_inj (m := 10) qu qe (fun _ => true) (fun _ => true) (fun i hi _ => ⟨h1 i hi, rfl⟩) (fun i j hi hj _ _ e => h2 i j hi hj e)
  rw [pw_c_all (n := qe) (fun _ _ => rfl), pw_c_all (n := 10) (fun _ _ => rfl)] at h
  exact h
theorem pw_B_qe {r : Nat → Nat → Bool} {S : Nat → Bool} {pv : Nat → Option Nat} {f : Nat} {rf : Nat → Option Nat} {qu : Nat → Nat} {qe : Nat} (h : pw_B r S pv f rf qu qe) : qe ≤ 10 := pw_qe (fun i hi => (h.2.1 i hi).1) h.2.2.1
theorem pw_B_0 {r : Nat → Nat → Bool} {S : Nat → Bool} {pv : Nat → Option Nat} {f : Nat} (hf : f < 10) (hS : S f = true) : pw_B r S pv f (fun _ => none) (fun _ => f) 1 :=
  ⟨⟨rfl, Nat.le_refl 1⟩, fun _ _ => ⟨hf, hS⟩, fun i j hi hj _ => by omega, fun i h1 h2 => absurd h2 (by omega), fun y u _ h => by cases h⟩
theorem pw_cl_up {r : Nat → Nat → Bool} {S : Nat → Bool} {rf : Nat → Option Nat} {u t v : Nat} (h : pw_cl r S rf u) : pw_cl r S (pw_up rf t (some v)) u := by
  intro y hy hS hr
  by_cases e : y = t
  · exact ⟨v, by rw [e, pw_us]⟩
  · rw [pw_un' e]
    exact h y hy hS hr
/-- a free end is reached -/
theorem pw_B_end {r : Nat → Nat → Bool} {S : Nat → Bool} {pv : Nat → Option Nat} {f : Nat} {rf : Nat → Option Nat} {qu : Nat → Nat} {qe : Nat} (h : pw_B r S pv f rf qu qe) {k t : Nat} (hk : k < qe) (ht : rf t = none) (hS : S t = true) (hr : r (qu k) t = true) : pw_B r S pv f (pw_up rf t (some (qu k))) qu qe := by
  obtain ⟨b0, b1, b2, b3, b4⟩ := h
  refine ⟨b0, b1, b2, fun i h1 h2 => ?_, fun y u hy hu => ?_⟩
  · obtain ⟨y, j, y1, y2, y3, y4⟩ := b3 i h1 h2
    refine ⟨y, j, y1, y2, y3, ?_⟩
    rw [pw_un' (fun e => pw_sn (e ▸ y4) ht)]
    exact y4
  · by_cases e : y = t
    · rw [e, pw_us] at hu
      rw [← Option.some.inj hu, e]
      exact ⟨hS, hr, k, hk, rfl⟩
    · rw [pw_un' e] at hu
      exact b4 y u hy hu
/-- a matched thing is reached: its partner joins the queue -/
theorem pw_B_add {r : Nat → Nat → Bool} {S : Nat → Bool} {nx pv : Nat → Option Nat} (hM : pw_M r S nx pv) {f : Nat} (hf : nx f = none) {rf : Nat → Option Nat} {qu : Nat → Nat} {qe : Nat} (h : pw_B r S pv f rf qu qe) (h2 : pw_B2 pv rf qu qe) {k t x : Nat} (hk : k < qe) (h10 : t < 10) (ht : rf t = none) (hS : S t = true) (hr : r (qu k) t = true) (hx : pv t = some x) :
    pw_B r S pv f (pw_up rf t (some (qu k))) (pw_up qu qe x) (qe + 1) ∧ pw_B2 pv (pw_up rf t (some (qu k))) (pw_up qu qe x) (qe + 1) := by
  have h0 := pw_B_end h hk ht hS hr
  obtain ⟨b0, b1, b2, b3, b4⟩ := h
  obtain ⟨_, _, _, c3, c4⟩ := h0
  obtain ⟨x1, x2⟩ := hM.2 x t h10 hx
  obtain ⟨_, _, x3, _, _⟩ := hM.1 x t x1 x2
  have hu : ∀ i, i < qe → pw_up qu qe x i = qu i := fun i hi => pw_un' (by omega)
  have hne : ∀ j, j < qe → x ≠ qu j := by
    intro j hj e
    rcases Nat.eq_zero_or_pos j with z | z
    · rw [e, z, b0.1] at x2
      exact pw_sn x2 hf
    · obtain ⟨y, j', y1, y2, y3, y4⟩ := b3 j z hj
      rw [← e] at y3
      have e2 := pw_si x2 (hM.2 x y y1 y3).2
      rw [← e2] at y4
      exact pw_sn y4 ht
  refine ⟨⟨⟨by rw [hu 0 (by omega)]; exact b0.1, by omega⟩, fun i hi => ?_, fun i j hi hj e => ?_, fun i i0 hi => ?_, fun y u hy hyu => ?_⟩, fun y u hy hyu => ?_⟩
  · by_cases e : i = qe
    · rw [e, pw_us]
      exact ⟨x1, x3⟩
    · rw [hu i (by omega)]
      exact b1 i (by omega)
  · by_cases ei : i = qe
    · by_cases ej : j = qe
      · omega
      · rw [ei, pw_us, hu j (by omega)] at e
        exact absurd e (hne j (by omega))
    · by_cases ej : j = qe
      · rw [ej, pw_us, hu i (by omega)] at e
        exact absurd e.symm (hne i (by omega))
      · rw [hu i (by omega), hu j (by omega)] at e
        exact b2 i j (by omega) (by omega) e
  · by_cases ei : i = qe
    · refine ⟨t, k, h10, by omega, ?_, ?_⟩
      · rw [ei, pw_us]
        exact hx
      · rw [pw_us, hu k hk]
    · obtain ⟨y, j, y1, y2, y3, y4⟩ := c3 i i0 (by omega)
      refine ⟨y, j, y1, y2, ?_, ?_⟩
      · rw [hu i (by omega)]
        exact y3
      · rw [hu j (by omega)]
        exact y4
  · obtain ⟨g1, g2, i, g3, g4⟩ := c4 y u hy hyu
    exact ⟨g1, g2, i, by omega, by rw [hu i g3]; exact g4⟩
  · by_cases e : y = t
    · exact ⟨qe, by omega, by rw [e, pw_us]; exact hx⟩
    · rw [pw_un' e] at hyu
      obtain ⟨i, g1, g2⟩ := h2 y u hy hyu
      exact ⟨i, by omega, by rw [hu i g1]; exact g2⟩
/-- the search has failed: a new part of the certificate -/
def pw_Q (qu : Nat → Nat) (qe x : Nat) : Bool := pw_any (fun i => qu i == x) qe
theorem pw_Q_iff {qu : Nat → Nat} {qe x : Nat} : pw_Q qu qe x = true ↔ ∃ i, i < qe ∧ qu i = x := by
  unfold pw_Q
  rw [pw_any_iff]
  constructor
  · rintro ⟨i, hi, h⟩
    exact ⟨i, hi, beq_iff_eq.mp h⟩
  · rintro ⟨i, hi, h⟩
    exact ⟨i, hi, beq_iff_eq.mpr h⟩
theorem pw_isSome_iff {o : Option Nat} : o.isSome = true ↔ ∃ z, o = some z := by
  cases o with
  | none => exact ⟨fun z => absurd z Bool.false_ne_true, fun ⟨z, h⟩ => by cases h⟩
  | some x => exact ⟨fun _ => ⟨x, rfl⟩, fun _ => rfl⟩
theorem pw_fail {r : Nat → Nat → Bool} {S : Nat → Bool} {pv : Nat → Option Nat} {f : Nat} {rf : Nat → Option Nat} {qu : Nat → Nat} {qe : Nat} (h : pw_B r S pv f rf qu qe) (h2 : pw_B2 pv rf qu qe) (h3 : ∀ i, i < qe → pw_cl r S rf (qu i)) {Q R : Nat → Bool} (hK : pw_K r S pv Q R) :
    ∃ Q' R', pw_K r S pv Q' R' ∧ Q' f = true ∧ ∀ x, Q x = true → Q' x = true := by
  refine ⟨fun x => Q x || pw_Q qu qe x, fun y => R y || (rf y).isSome, ⟨fun x y hx hy hQ hS hr => ?_, fun y hy hR => ?_, fun x hx hQ => ?_⟩, ?_, fun x hx => (Bool.or_eq_true _ _).mpr (Or.inl hx)⟩
  · rcases (Bool.or_eq_true _ _).mp hQ with z | z
    · exact (Bool.or_eq_true _ _).mpr (Or.inl (hK.1 x y hx hy z hS hr))
    · obtain ⟨i, hi, e⟩ := pw_Q_iff.mp z
      rw [← e] at hr
      exact (Bool.or_eq_true _ _).mpr (Or.inr (pw_isSome_iff.mpr (h3 i hi y hy hS hr)))
  · rcases (Bool.or_eq_true _ _).mp hR with z | z
    · obtain ⟨x, e, hx⟩ := hK.2.1 y hy z
      exact ⟨x, e, (Bool.or_eq_true _ _).mpr (Or.inl hx)⟩
    · obtain ⟨u, hu⟩ := pw_isSome_iff.mp z
      obtain ⟨i, hi, e⟩ := h2 y u hy hu
      exact ⟨qu i, e, (Bool.or_eq_true _ _).mpr (Or.inr (pw_Q_iff.mpr ⟨i, hi, rfl⟩))⟩
  · rcases (Bool.or_eq_true _ _).mp hQ with z | z
    · exact hK.2.2 x hx z
    · obtain ⟨i, hi, e⟩ := pw_Q_iff.mp z
      rw [← e]
      exact (h.2.1 i hi).2
  · exact (Bool.or_eq_true _ _).mpr (Or.inr (pw_Q_iff.mpr ⟨0, h.1.2, h.1.1⟩))
/-! the way is turned round: yc is the thing that is to get a new one before it, qu i that one -/
def pw_T (r : Nat → Nat → Bool) (S : Nat → Bool) (nx pv rf : Nat → Option Nat) (qu : Nat → Nat) (qe : Nat) (R : Nat → Bool) (i yc : Nat) (nx' pv' : Nat → Option Nat) : Prop :=
  (yc < 10 ∧ i < qe ∧ rf yc = some (qu i) ∧ R yc = false) ∧ (∀ j, j ≤ i → nx' (qu j) = nx (qu j)) ∧
  (∀ x y, x < 10 → nx' x = some y → y < 10 ∧ y ≠ yc ∧ pv' y = some x ∧ S x = true ∧ S y = true ∧ r x y = true) ∧
  (∀ x y, y < 10 → y ≠ yc → pv' y = some x → x < 10 ∧ nx' x = some y) ∧
  (∀ x, x < 10 → (nx' x = none ↔ nx x = none)) ∧ (∀ y, y < 10 → R y = true → pv' y = pv y)
/-- the way is turned: one more is matched -/
def pw_F (r : Nat → Nat → Bool) (S : Nat → Bool) (nx : Nat → Option Nat) (f : Nat) (Q R : Nat → Bool) (nx' pv' : Nat → Option Nat) : Prop :=
  pw_M r S nx' pv' ∧ pw_K r S pv' Q R ∧ ∀ x, x < 10 → (nx' x = none ↔ nx x = none ∧ x ≠ f)
theorem pw_T_0 {r : Nat → Nat → Bool} {S : Nat → Bool} {nx pv : Nat → Option Nat} (hM : pw_M r S nx pv) {f : Nat} {rf : Nat → Option Nat} {qu : Nat → Nat} {qe : Nat} (hB : pw_B r S pv f rf qu qe) {Q R : Nat → Bool} (hK : pw_K r S pv Q R) {k yc : Nat} (hy : yc < 10) (hk : k < qe) (hrf : rf yc = some (qu k)) (hp : pv yc = none) : pw_T r S nx pv rf qu qe R k yc nx pv := by
  refine ⟨⟨hy, hk, hrf, pw_tf (fun z => ?_)⟩, fun _ _ => rfl, fun x y hx h => ?_, fun x y h1 _ h => hM.2 x y h1 h, fun _ _ => Iff.rfl, fun _ _ _ => rfl⟩
  · obtain ⟨x, e, _⟩ := hK.2.1 yc hy z
    exact pw_sn e hp
  · obtain ⟨m1, m2, m3, m4, m5⟩ := hM.1 x y hx h
    exact ⟨m1, fun e => pw_sn (e ▸ m2) hp, m2, m3, m4, m5⟩
theorem pw_T_s {r : Nat → Nat → Bool} {S : Nat → Bool} {nx pv : Nat → Option Nat} (hM : pw_M r S nx pv) {f : Nat} (hf : nx f = none) {rf : Nat → Option Nat} {qu : Nat → Nat} {qe : Nat} (hB : pw_B r S pv f rf qu qe) {Q R : Nat → Bool} (hK : pw_K r S pv Q R) {i yc : Nat} {nx' pv' : Nat → Option Nat} (hT : pw_T r S nx pv rf qu qe R i yc nx' pv') :
    (nx' (qu i) = none ∧ pw_F r S nx f Q R (pw_up nx' (qu i) (some yc)) (pw_up pv' yc (some (qu i)))) ∨ (∃ y j, y < 10 ∧ j < i ∧ nx' (qu i) = some y ∧ pw_T r S nx pv rf qu qe R j y (pw_up nx' (qu i) (some yc)) (pw_up pv' yc (some (qu i)))) := by
  obtain ⟨⟨t1, t2, t3, t4⟩, t5, t6, t7, t8, t9⟩ := hT
  obtain ⟨u1, u2⟩ := hB.2.1 i t2
  obtain ⟨g1, g2, _⟩ := hB.2.2.2.2 yc (qu i) t1 t3
  have hQ : ¬ Q (qu i) = true := fun z => pw_no (hK.1 (qu i) yc u1 t1 z g1 g2) t4
  have e0 := t5 i (Nat.le_refl i)
  have hR : ∀ y, y < 10 → R y = true → pw_up pv' yc (some (qu i)) y = pv y := by
    intro y hy hR
    have hne : y ≠ yc := fun e => by
      rw [e] at hR
      exact pw_no hR t4
    rw [pw_un' hne]
    exact t9 y hy hR
  rcases Nat.eq_zero_or_pos i with z | z
  · have en : nx' (qu i) = none := by
      rw [e0, z, hB.1.1]
      exact hf
    refine Or.inl ⟨en, ⟨fun x y hx h => ?_, fun x y hy h => ?_⟩, ⟨hK.1, fun y hy h => ?_, hK.2.2⟩, fun x hx => ?_⟩
    · by_cases e : x = qu i
      · rw [e, pw_us] at h
        rw [← Option.some.inj h, e, pw_us]
        exact ⟨t1, rfl, u2, g1, g2⟩
      · rw [pw_un' e] at h
        obtain ⟨m1, m2, m3, m4⟩ := t6 x y hx h
        rw [pw_un' m2]
        exact ⟨m1, m3, m4⟩
    · by_cases e : y = yc
      · rw [e, pw_us] at h
        rw [← Option.some.inj h, e, pw_us]
        exact ⟨u1, rfl⟩
      · rw [pw_un' e] at h
        obtain ⟨m1, m2⟩ := t7 x y hy e h
        refine ⟨m1, ?_⟩
        rw [pw_un' (fun e' => pw_sn (e' ▸ m2) en)]
        exact m2
    · rw [hR y hy h]
      exact hK.2.1 y hy h
    · have hq : qu i = f := by rw [z]; exact hB.1.1
      by_cases e : x = qu i
      · rw [e, pw_us]
        exact ⟨fun h => (by cases h), fun h => absurd (e.trans hq) (e ▸ h.2)⟩
      · rw [pw_un' e, t8 x hx]
        exact ⟨fun h => ⟨h, fun e' => e (e'.trans hq.symm)⟩, fun h => h.1⟩
  · obtain ⟨y1, j, a1, a2, a3, a4⟩ := hB.2.2.2.1 i z t2
    have e1 : nx' (qu i) = some y1 := e0.trans (hM.2 (qu i) y1 a1 a3).2
    obtain ⟨m1, m2, m3, m4⟩ := t6 (qu i) y1 u1 e1
    refine Or.inr ⟨y1, j, a1, a2, e1, ⟨a1, by omega, a4, pw_tf (fun hz => ?_)⟩, fun j' hj' => ?_, fun x y hx h => ?_, fun x y hy hne h => ?_, fun x hx => ?_, hR⟩
    · obtain ⟨x, e, hx⟩ := hK.2.1 y1 a1 hz
      rw [pw_si e a3] at hx
      exact hQ hx
    · rw [pw_un' (fun e => absurd (hB.2.2.1 j' i (by omega) t2 e) (by omega))]
      exact t5 j' (by omega)
    · by_cases e : x = qu i
      · rw [e, pw_us] at h
        rw [← Option.some.inj h, e, pw_us]
        exact ⟨t1, fun e' => m2 e'.symm, rfl, u2, g1, g2⟩
      · rw [pw_un' e] at h
        obtain ⟨k1, k2, k3, k4⟩ := t6 x y hx h
        rw [pw_un' k2]
        exact ⟨k1, fun e' => e (pw_si (e' ▸ k3) m3), k3, k4⟩
    · by_cases e : y = yc
      · rw [e, pw_us] at h
        rw [← Option.some.inj h, e, pw_us]
        exact ⟨u1, rfl⟩
      · rw [pw_un' e] at h
        obtain ⟨k1, k2⟩ := t7 x y hy e h
        refine ⟨k1, ?_⟩
        have hn2 : x ≠ qu i := fun e' => by
          rw [e'] at k2
          exact hne (pw_si k2 e1)
        rw [pw_un' hn2]
        exact k2
    · by_cases e : x = qu i
      · rw [e, pw_us]
        exact ⟨fun h => (by cases h), fun h => pw_sn e1 (e0.trans h)⟩
      · rw [pw_un' e]
        exact t8 x hx
end
section
/-! walks of spread, turnWay, lengthen, widthOf -/
def pw_en : Option Nat → Int32
  | none => -1
  | some j => nI j
def pw_ar (a : Nat → Int32) (f : Nat → Option Nat) : Prop := ∀ i, i < 10 → a i = pw_en (f i)
theorem pw_ar_up {a : Nat → Int32} {f : Nat → Option Nat} {k : Nat} {v : Option Nat} {x : Int32} (h : pw_ar a f) (hx : x = pw_en v) : pw_ar (upd a k x) (pw_up f k v) := by
  intro i hi
  by_cases e : i = k
  · rw [e, pk_us, pw_us]
    exact hx
  · rw [pk_un e, pw_un' e]
    exact h i hi
def pw_P (q : Int32) (a5 a6 : Nat → Int32) (rf : Nat → Option Nat) (qu : Nat → Nat) (qe : Nat) : Prop := q = nI qe ∧ pw_ar a5 rf ∧ ∀ i, i < qe → a6 i = nI (qu i)
theorem pw_spreadX {post : Int32 → St1 → Prop} {set q : Int32} {a1 a2 a3 a4 a5 a6 : Nat → Int32} {nx pv : Nat → Option Nat} (hM : pw_M (pw_r a1) (pw_bt set) nx pv) (h4 : pw_ar a4 pv) {f : Nat} (hf : nx f = none) {rf : Nat → Option Nat} {qu : Nat → Nat} {qe : Nat} (hP : pw_P q a5 a6 rf qu qe) (hB : pw_B (pw_r a1) (pw_bt set) pv f rf qu qe) (hB2 : pw_B2 pv rf qu qe) {k : Nat} (hk : k < qe) (hc : ∀ i, i < k → pw_cl (pw_r a1) (pw_bt set) rf (qu i))
    (H1 : ∀ q' a5' a6' rf' qu' qe', pw_P q' a5' a6' rf' qu' qe' → pw_B (pw_r a1) (pw_bt set) pv f rf' qu' qe' → pw_B2 pv rf' qu' qe' → k < qe' → (∀ i, i < k + 1 → pw_cl (pw_r a1) (pw_bt set) rf' (qu' i)) → post (-1) (q', a1, a2, a3, a4, a5', a6'))
    (H2 : ∀ q' a5' a6' rf' qu' qe' y, pw_P q' a5' a6' rf' qu' qe' → pw_B (pw_r a1) (pw_bt set) pv f rf' qu' qe' → y < 10 → rf' y = some (qu' k) → k < qe' → pv y = none → post (nI y) (q', a1, a2, a3, a4, a5', a6')) :
    wpX_spread post (q, a1, a2, a3, a4, a5, a6) (nI (qu k)) set := by
  have hu : qu k < 10 := (hB.2.1 k hk).1
  generalize hgu : qu k = u at hu
  refine pk_loop (σ := Int32 × (Nat → Int32) × (Nat → Int32)) (fun n i s => wX_spread_2 post (nI u) set n (nI i) s.1 a1 a2 a3 a4 s.2.1 s.2.2) (fun i s => ∃ rf qu qe, pw_P s.1 s.2.1 s.2.2 rf qu qe ∧ pw_B (pw_r a1) (pw_bt set) pv f rf qu qe ∧ pw_B2 pv rf qu qe ∧ k < qe ∧ qu k = u ∧ (∀ j, j < k → pw_cl (pw_r a1) (pw_bt set) rf (qu j)) ∧ ∀ y, y < i → pw_bt set y = true → pw_r a1 u y = true → ∃ z, rf y = some z) 10 0 (q, a5, a6) (by omega) ⟨rf, qu, qe, hP, hB, hB2, hk, hgu, hc, fun y hy => absurd hy (by omega)⟩ (fun n s h => ?_) (fun n i s hi h hw => ?_)
  · obtain ⟨q', a5', a6'⟩ := s
    obtain ⟨rf', qu', qe', p, b, b2, kq, ku, cl, ct⟩ := h
    refine pk_le 10 10 (fun _ => H1 q' a5' a6' rf' qu' qe' p b b2 kq (fun i hi => ?_)) (fun z => absurd z (by omega))
    by_cases e : i = k
    · rw [e, ku]
      exact ct
    · exact cl i (by omega)
  · obtain ⟨q', a5', a6'⟩ := s
    obtain ⟨rf', qu', qe', ⟨p1, p2, p3⟩, b, b2, kq, ku, cl, ct⟩ := h
    have p1' : q' = nI qe' := p1
    subst p1'
    have p2 : pw_ar a5' rf' := p2
    have p3 : ∀ i, i < qe' → a6' i = nI (qu' i) := p3
    show wX_spread_2 post (nI u) set (n + 1) (nI i) (nI qe') a1 a2 a3 a4 a5' a6'
    refine pk_le 10 i (fun z => absurd z (by omega)) (fun _ => ⟨pk_in u 10 hu, ?_⟩)
    rw [nI_clamp (show u < 2 ^ 31 by omega), nI_clamp (show i < 2 ^ 31 by omega)]
    refine ek_if (pw_and0 (a1 u &&& set) i (by omega)) (fun hb => nm_r (nI_1 i) (hw (nI qe', a5', a6') ⟨rf', qu', qe', ⟨rfl, p2, p3⟩, b, b2, kq, ku, cl, fun y hy hS hr => ?_⟩)) (fun hb => ⟨pk_in i 10 hi, ?_⟩)
    · by_cases e : y = i
      · rw [pw_b_and, ← e, hS, Bool.and_true] at hb
        exact pw_no hr hb
      · exact ct y (by omega) hS hr
    · have hb' := pw_ft hb
      rw [pw_b_and] at hb'
      obtain ⟨hri, hSi⟩ := (Bool.and_eq_true _ _).mp hb'
      have hrk : pw_r a1 (qu' k) i = true := by rw [ku]; exact hri
      cases h5 : rf' i with
      | some z =>
        obtain ⟨_, _, j, j1, j2⟩ := b.2.2.2.2 i z hi h5
        have hz : z < 10 := by rw [j2]; exact (b.2.1 j j1).1
        refine br_t (by rw [p2 i hi, h5]; exact nI_pos' (by omega)) (nm_r (nI_1 i) (hw (nI qe', a5', a6') ⟨rf', qu', qe', ⟨rfl, p2, p3⟩, b, b2, kq, ku, cl, fun y hy hS hr => ?_⟩))
        by_cases e : y = i
        · rw [e]
          exact ⟨z, h5⟩
        · exact ct y (by omega) hS hr
      | none =>
        refine br_f (by rw [p2 i hi, h5]; decide) ⟨pk_in i 10 hi, nm_e ⟨pk_in i 10 hi, ?_⟩⟩
        have p2' : pw_ar (upd a5' i (nI u)) (pw_up rf' i (some (qu' k))) := pw_ar_up p2 (by rw [ku]; rfl)
        cases h6 : pv i with
        | some x =>
          have hA := pw_B_add hM hf b b2 kq hi h5 hSi hrk h6
          have hq := pw_B_qe hA.1
          have hx : x < 10 := (hM.2 x i hi h6).1
          refine br_t (by rw [h4 i hi, h6]; exact nI_pos' (by omega)) ⟨pk_in i 10 hi, pk_in qe' 10 (by omega), ?_⟩
          rw [nI_clamp (show qe' < 2 ^ 31 by omega)]
          refine nm_e (nm_r (nI_1 qe') (nm_r (nI_1 i) (hw (nI (qe' + 1), upd a5' i (nI u), upd a6' qe' (a4 i)) ⟨pw_up rf' i (some (qu' k)), pw_up qu' qe' x, qe' + 1, ⟨rfl, p2', fun j hj => ?_⟩, hA.1, hA.2, by omega, by rw [pw_un' (by omega)]; exact ku, fun j hj => ?_, fun y hy hS hr => ?_⟩)))
          · by_cases e : j = qe'
            · show upd a6' qe' (a4 i) j = _
              rw [e, pk_us, pw_us, h4 i hi, h6]
              rfl
            · show upd a6' qe' (a4 i) j = _
              rw [pk_un e, pw_un' e]
              exact p3 j (by omega)
          · rw [pw_un' (by omega)]
            exact pw_cl_up (cl j hj)
          · by_cases e : y = i
            · rw [e, pw_us]
              exact ⟨_, rfl⟩
            · rw [pw_un' e]
              exact ct y (by omega) hS hr
        | none =>
          exact br_f (by rw [h4 i hi, h6]; decide) (H2 (nI qe') (upd a5' i (nI u)) a6' (pw_up rf' i (some (qu' k))) qu' qe' i ⟨rfl, p2', p3⟩ (pw_B_end b kq h5 hSi hrk) hi pw_us kq h6)
theorem pw_turnX {post : St1 → Prop} {set q : Int32} {a1 a2 a3 a4 a5 a6 : Nat → Int32} {nx pv : Nat → Option Nat} (hM : pw_M (pw_r a1) (pw_bt set) nx pv) (h3 : pw_ar a3 nx) (h4 : pw_ar a4 pv) {f : Nat} (hf : nx f = none) {rf : Nat → Option Nat} {qu : Nat → Nat} {qe : Nat} (h5 : pw_ar a5 rf) (hB : pw_B (pw_r a1) (pw_bt set) pv f rf qu qe) {Q R : Nat → Bool} (hK : pw_K (pw_r a1) (pw_bt set) pv Q R) {k yc : Nat} (hy : yc < 10) (hk : k < qe) (hrf : rf yc = some (qu k)) (hp : pv yc = none)
    (H : ∀ a3' a4' nx' pv', pw_ar a3' nx' → pw_ar a4' pv' → pw_F (pw_r a1) (pw_bt set) nx f Q R nx' pv' → post (q, a1, a2, a3', a4', a5, a6)) : wpX_turnWay post (q, a1, a2, a3, a4, a5, a6) (nI yc) := by
  have hq := pw_B_qe hB
  refine pk_loop (σ := Int32 × (Nat → Int32) × (Nat → Int32)) (fun n i s => wX_turnWay_4 post q n s.1 (nI i) a1 a2 s.2.1 s.2.2 a5 a6) (fun i s => ∃ nx' pv', pw_ar s.2.1 nx' ∧ pw_ar s.2.2 pv' ∧ ((s.1 = -1 ∧ pw_F (pw_r a1) (pw_bt set) nx f Q R nx' pv') ∨ ∃ j yc, s.1 = nI yc ∧ j + i ≤ 9 ∧ pw_T (pw_r a1) (pw_bt set) nx pv rf qu qe R j yc nx' pv')) 10 0 (nI yc, a3, a4) (by omega) ⟨nx, pv, h3, h4, Or.inr ⟨k, yc, rfl, by omega, pw_T_0 hM hB hK hy hk hrf hp⟩⟩ (fun n s h => ?_) (fun n i s hi h hw => ?_)
  · obtain ⟨x2, a3', a4'⟩ := s
    obtain ⟨nx', pv', g3, g4, g⟩ := h
    rcases g with ⟨g1, g2⟩ | ⟨j, yc, g1, g2, g5⟩
    · exact pk_le 10 10 (fun _ => H a3' a4' nx' pv' g3 g4 g2) (fun z => absurd z (by omega))
    · omega
  · obtain ⟨x2, a3', a4'⟩ := s
    obtain ⟨nx', pv', g3, g4, g⟩ := h
    rcases g with ⟨g1, g2⟩ | ⟨j, yc, g1, g2, g5⟩
    · have e : x2 = -1 := g1
      subst e
      show wX_turnWay_4 post q (n + 1) (-1) (nI i) a1 a2 a3' a4' a5 a6
      exact pk_le 10 i (fun z => absurd z (by omega)) (fun _ => br_t (by decide) (H a3' a4' nx' pv' g3 g4 g2))
    · have e : x2 = nI yc := g1
      subst e
      have hyc : yc < 10 := g5.1.1
      have hj : qu j < 10 := (hB.2.1 j g5.1.2.1).1
      have e5 : a5 yc = nI (qu j) := by rw [h5 yc hyc, g5.1.2.2.1]; rfl
      show wX_turnWay_4 post q (n + 1) (nI yc) (nI i) a1 a2 a3' a4' a5 a6
      refine pk_le 10 i (fun z => absurd z (by omega)) (fun _ => br_f (nI_pos (by omega)) ⟨pk_in yc 10 hyc, ?_⟩)
      rw [nI_clamp (show yc < 2 ^ 31 by omega)]
      refine nm_r e5 ⟨pk_in (qu j) 10 hj, ?_⟩
      rw [nI_clamp (show qu j < 2 ^ 31 by omega)]
      have e3 := g3 (qu j) hj
      have e3' : a3' (qu j) = pw_en (nx' (qu j)) := e3
      rcases pw_T_s hM hf hB hK g5 with ⟨c1, c2⟩ | ⟨y, j', c1, c2, c3, c4⟩
      · rw [c1] at e3'
        exact nm_r e3' ⟨pk_in (qu j) 10 hj, nm_e ⟨pk_in yc 10 hyc, nm_e (nm_r (nI_1 i) (hw (-1, upd a3' (qu j) (nI yc), upd a4' yc (nI (qu j))) ⟨_, _, pw_ar_up g3 rfl, pw_ar_up g4 rfl, Or.inl ⟨rfl, c2⟩⟩))⟩⟩
      · rw [c3] at e3'
        exact nm_r e3' ⟨pk_in (qu j) 10 hj, nm_e ⟨pk_in yc 10 hyc, nm_e (nm_r (nI_1 i) (hw (nI y, upd a3' (qu j) (nI yc), upd a4' yc (nI (qu j))) ⟨_, _, pw_ar_up g3 rfl, pw_ar_up g4 rfl, Or.inr ⟨j', y, rfl, by omega, c4⟩⟩))⟩⟩
theorem pw_len35 {post : Int32 → St1 → Prop} {set q : Int32} {a1 a2 a3 a4 a5 a6 : Nat → Int32} {nx pv : Nat → Option Nat} (hM : pw_M (pw_r a1) (pw_bt set) nx pv) (h3 : pw_ar a3 nx) (h4 : pw_ar a4 pv) {f : Nat} (hf : nx f = none) {rf : Nat → Option Nat} {qu : Nat → Nat} {qe : Nat} (hP : pw_P q a5 a6 rf qu qe) (hB : pw_B (pw_r a1) (pw_bt set) pv f rf qu qe) (hB2 : pw_B2 pv rf qu qe) {Q R : Nat → Bool} (hK : pw_K (pw_r a1) (pw_bt set) pv Q R)
    (H0 : ∀ q' a5' a6' Q' R', pw_K (pw_r a1) (pw_bt set) pv Q' R' → Q' f = true → (∀ x, Q x = true → Q' x = true) → post 0 (q', a1, a2, a3, a4, a5', a6'))
    (H1 : ∀ q' a3' a4' a5' a6' nx' pv', pw_ar a3' nx' → pw_ar a4' pv' → pw_F (pw_r a1) (pw_bt set) nx f Q R nx' pv' → post 1 (q', a1, a2, a3', a4', a5', a6')) : ∃ n, wX_lengthen_35 post set n 0 q a1 a2 a3 a4 a5 a6 := by
  have hfail : ∀ (q' : Int32) (a5' a6' : Nat → Int32) rf qu qe, pw_B (pw_r a1) (pw_bt set) pv f rf qu qe → pw_B2 pv rf qu qe → (∀ i, i < qe → pw_cl (pw_r a1) (pw_bt set) rf (qu i)) → post 0 (q', a1, a2, a3, a4, a5', a6') := by
    intro q' a5' a6' rf qu qe b b2 c
    obtain ⟨Q', R', k1, k2, k3⟩ := pw_fail b b2 c hK
    exact H0 q' a5' a6' Q' R' k1 k2 k3
  refine pk_loop (σ := Int32 × (Nat → Int32) × (Nat → Int32)) (fun n i s => wX_lengthen_35 post set n (nI i) s.1 a1 a2 a3 a4 s.2.1 s.2.2) (fun k s => ∃ rf qu qe, pw_P s.1 s.2.1 s.2.2 rf qu qe ∧ pw_B (pw_r a1) (pw_bt set) pv f rf qu qe ∧ pw_B2 pv rf qu qe ∧ k ≤ qe ∧ ∀ i, i < k → pw_cl (pw_r a1) (pw_bt set) rf (qu i)) 10 0 (q, a5, a6) (by omega) ⟨rf, qu, qe, hP, hB, hB2, by omega, fun i hi => absurd hi (by omega)⟩ (fun n s h => ?_) (fun n k s hk h hw => ?_)
  · obtain ⟨q', a5', a6'⟩ := s
    obtain ⟨rf', qu', qe', ⟨p1, p2, p3⟩, b, b2, kq, c⟩ := h
    have p1' : q' = nI qe' := p1
    subst p1'
    have p2 : pw_ar a5' rf' := p2
    have p3 : ∀ i, i < qe' → a6' i = nI (qu' i) := p3
    have hq := pw_B_qe b
    exact pk_le qe' 10 (fun _ => hfail _ _ _ rf' qu' qe' b b2 (fun i hi => c i (by omega))) (fun z => absurd z (by omega))
  · obtain ⟨q', a5', a6'⟩ := s
    obtain ⟨rf', qu', qe', ⟨p1, p2, p3⟩, b, b2, kq, c⟩ := h
    have p1' : q' = nI qe' := p1
    subst p1'
    have p2 : pw_ar a5' rf' := p2
    have p3 : ∀ i, i < qe' → a6' i = nI (qu' i) := p3
    have hq := pw_B_qe b
    show wX_lengthen_35 post set (n + 1) (nI k) (nI qe') a1 a2 a3 a4 a5' a6'
    refine pk_le qe' k (fun z => hfail _ _ _ rf' qu' qe' b b2 (fun i hi => c i (by omega))) (fun z => pk_le 10 k (fun z' => absurd z' (by omega)) (fun _ => ⟨pk_in k 10 hk, ?_⟩))
    rw [nI_clamp (show k < 2 ^ 31 by omega), p3 k z]
    refine pw_spreadX hM h4 hf ⟨rfl, p2, p3⟩ b b2 z c (fun q1 a51 a61 rf1 qu1 qe1 P B B2 K C => ?_) (fun q1 a51 a61 rf1 qu1 qe1 y P B Y RF K V => ?_)
    · exact br_t (by decide) (nm_r (nI_1 k) (hw (q1, a51, a61) ⟨rf1, qu1, qe1, P, B, B2, by omega, C⟩))
    · exact br_f (nI_pos (by omega)) (pw_turnX hM h3 h4 hf P.2.1 B hK Y K RF V (fun a3' a4' nx' pv' g3 g4 gF => H1 q1 a3' a4' a51 a61 nx' pv' g3 g4 gF))
theorem pw_lengthenX {post : Int32 → St1 → Prop} {set q : Int32} {a1 a2 a3 a4 a5 a6 : Nat → Int32} {nx pv : Nat → Option Nat} (hM : pw_M (pw_r a1) (pw_bt set) nx pv) (h3 : pw_ar a3 nx) (h4 : pw_ar a4 pv) {f : Nat} (hf10 : f < 10) (hSf : pw_bt set f = true) (hf : nx f = none) {Q R : Nat → Bool} (hK : pw_K (pw_r a1) (pw_bt set) pv Q R)
    (H0 : ∀ q' a5' a6' Q' R', pw_K (pw_r a1) (pw_bt set) pv Q' R' → Q' f = true → (∀ x, Q x = true → Q' x = true) → post 0 (q', a1, a2, a3, a4, a5', a6'))
    (H1 : ∀ q' a3' a4' a5' a6' nx' pv', pw_ar a3' nx' → pw_ar a4' pv' → pw_F (pw_r a1) (pw_bt set) nx f Q R nx' pv' → post 1 (q', a1, a2, a3', a4', a5', a6')) : wpX_lengthen post (q, a1, a2, a3, a4, a5, a6) (nI f) set := by
  refine pk_loop (σ := Nat → Int32) (fun n i s => wX_lengthen_2 post (nI f) set q n (nI i) a1 a2 a3 a4 s a6) (fun i s => ∀ j, j < i → s j = -1) 10 0 a5 (by omega) (fun j hj => absurd hj (by omega)) (fun n s h => ?_) (fun n i s hi h hw => ?_)
  · refine pk_le 10 10 (fun _ => nm_e ?_) (fun z => absurd z (by omega))
    exact pw_len35 hM h3 h4 hf (rf := fun _ => none) (qu := fun _ => f) (qe := 1) ⟨rfl, fun i hi => h i hi, fun i hi => by rw [show i = 0 by omega, pk_us]⟩ (pw_B_0 hf10 hSf) (fun y u _ z => by cases z) hK H0 H1
  · refine pk_le 10 i (fun z => absurd z (by omega)) (fun _ => ⟨pk_in i 10 hi, ?_⟩)
    rw [nI_clamp (show i < 2 ^ 31 by omega)]
    refine nm_e (nm_r (nI_1 i) (hw _ (fun j hj => ?_)))
    by_cases e : j = i
    · rw [e, pk_us]
    · rw [pk_un e]
      exact h j (by omega)
theorem pw_un_F {r : Nat → Nat → Bool} {S : Nat → Bool} {nx nx' pv' : Nat → Option Nat} {f : Nat} {Q R : Nat → Bool} (hf : f < 10) (hS : S f = true) (hn : nx f = none) (hF : pw_F r S nx f Q R nx' pv') : pw_c (pw_un S nx) 10 = pw_c (pw_un S nx') 10 + 1 := by
  rw [pw_c_del hf (pw_un_iff.mpr ⟨hS, hn⟩)]
  refine congrArg (· + 1) (pw_c_congr (fun i hi => ?_))
  have h1 : (pw_un S nx i && !(i == f)) = true ↔ pw_un S nx' i = true := by
    rw [Bool.and_eq_true, pw_un_iff, pw_un_iff, Bool.not_eq_true', beq_eq_false_iff_ne, hF.2.2 i hi]
    exact ⟨fun z => ⟨z.1.1, z.1.2, z.2⟩, fun z => ⟨⟨z.1, z.2.1⟩, z.2.2⟩⟩
  exact Bool.eq_iff_iff.mpr h1
theorem pw_w35 {post : Int32 → St1 → Prop} {set q : Int32} {a1 a2 a3 a4 a5 a6 : Nat → Int32} (hS : pw_S a1 a2) (h3 : ∀ j, j < 10 → a3 j = -1) (h4 : ∀ j, j < 10 → a4 j = -1)
    (H : ∀ q' a3' a4' a5' a6', post (nI (pw_W (pw_r a1) (pw_bt set))) (q', a1, a2, a3', a4', a5', a6')) : ∃ n, wX_widthOf_35 post set n (nI (pw_c (pw_bt set) 10)) 0 q a1 a2 a3 a4 a5 a6 := by
  refine pk_loop (σ := Int32 × Int32 × (Nat → Int32) × (Nat → Int32) × (Nat → Int32) × (Nat → Int32)) (fun n i s => wX_widthOf_35 post set n s.1 (nI i) s.2.1 a1 a2 s.2.2.1 s.2.2.2.1 s.2.2.2.2.1 s.2.2.2.2.2)
    (fun t s => ∃ nx pv Q R, s.1 = nI (pw_c (pw_un (pw_bt set) nx) 10) ∧ pw_ar s.2.2.1 nx ∧ pw_ar s.2.2.2.1 pv ∧ pw_M (pw_r a1) (pw_bt set) nx pv ∧ pw_K (pw_r a1) (pw_bt set) pv Q R ∧ (∀ x, x < t → pw_bt set x = true → nx x = none → Q x = true) ∧ (∀ x, t ≤ x → x < 10 → nx x = none)) 10 0 (nI (pw_c (pw_bt set) 10), q, a3, a4, a5, a6) (by omega)
    ⟨fun _ => none, fun _ => none, fun _ => false, fun _ => false, ?_, fun i hi => h3 i hi, fun i hi => h4 i hi, ⟨fun x y _ z => (by cases z), fun x y _ z => (by cases z)⟩, ⟨fun x y _ _ z => absurd z Bool.false_ne_true, fun y _ z => absurd z Bool.false_ne_true, fun x _ z => absurd z Bool.false_ne_true⟩, fun x hx => absurd hx (by omega), fun x _ _ => rfl⟩ (fun n s h => ?_) (fun n t s ht h hw => ?_)
  · refine congrArg nI (pw_c_congr (fun i _ => ?_))
    show pw_bt set i = (pw_bt set i && true)
    rw [Bool.and_true]
  · obtain ⟨x2, q', a3', a4', a5', a6'⟩ := s
    obtain ⟨nx, pv, Q, R, e, g3, g4, hM, hK, hQ, _⟩ := h
    have e' : x2 = nI (pw_c (pw_un (pw_bt set) nx) 10) := e
    subst e'
    rw [← pw_dil hS.2.2.2 hM hK (fun x hx h1 h2 => hQ x hx h1 h2)]
    exact pk_le 10 10 (fun _ => H q' a3' a4' a5' a6') (fun z => absurd z (by omega))
  · obtain ⟨x2, q', a3', a4', a5', a6'⟩ := s
    obtain ⟨nx, pv, Q, R, e, g3, g4, hM, hK, hQ, hN⟩ := h
    have e' : x2 = nI (pw_c (pw_un (pw_bt set) nx) 10) := e
    subst e'
    show wX_widthOf_35 post set (n + 1) (nI (pw_c (pw_un (pw_bt set) nx) 10)) (nI t) q' a1 a2 a3' a4' a5' a6'
    refine pk_le 10 t (fun z => absurd z (by omega)) (fun _ => ek_if (pw_test0 set t (by omega)) (fun hb => nm_r (nI_1 t) (hw (nI (pw_c (pw_un (pw_bt set) nx) 10), q', a3', a4', a5', a6') ⟨nx, pv, Q, R, rfl, g3, g4, hM, hK, fun x hx h1 h2 => ?_, fun x h1 h2 => hN x (by omega) h2⟩)) (fun hb => ?_))
    · by_cases ex : x = t
      · rw [ex] at h1
        exact pw_no h1 hb
      · exact hQ x (by omega) h1 h2
    · refine pw_lengthenX hM g3 g4 ht (pw_ft hb) (hN t (Nat.le_refl t) ht) hK (fun q1 a51 a61 Q' R' k1 k2 k3 => ?_) (fun q1 a31 a41 a51 a61 nx' pv' k3 k4 kF => ?_)
      · refine br_t rfl (nm_r (e' := nI (pw_c (pw_un (pw_bt set) nx) 10)) (Int32.sub_zero _) (nm_r (nI_1 t) (hw (nI (pw_c (pw_un (pw_bt set) nx) 10), q1, a3', a4', a51, a61) ⟨nx, pv, Q', R', rfl, g3, g4, hM, k1, fun x hx h1 h2 => ?_, fun x h1 h2 => hN x (by omega) h2⟩)))
        by_cases ex : x = t
        · rw [ex]
          exact k2
        · exact k3 x (hQ x (by omega) h1 h2)
      · have hc := pw_un_F ht (pw_ft hb) (hN t (Nat.le_refl t) ht) kF
        refine br_f (by decide) (nm_r (e' := nI (pw_c (pw_un (pw_bt set) nx') 10)) (by rw [hc]; exact nI_pred _) (nm_r (nI_1 t) (hw (nI (pw_c (pw_un (pw_bt set) nx') 10), q1, a31, a41, a51, a61) ⟨nx', pv', Q, R, rfl, k3, k4, kF.1, kF.2.1, fun x hx h1 h2 => ?_, fun x h1 h2 => (kF.2.2 x h2).mpr ⟨hN x (by omega) h2, by omega⟩⟩)))
        have h3' := (kF.2.2 x (by omega)).mp h2
        exact hQ x (by have := h3'.2; omega) h1 h3'.1
theorem pw_widthOf {post : Int32 → St1 → Prop} {set q : Int32} {a1 a2 a3 a4 a5 a6 : Nat → Int32} (hS : pw_S a1 a2) (H : ∀ q' a3' a4' a5' a6', post (nI (pw_W (pw_r a1) (pw_bt set))) (q', a1, a2, a3', a4', a5', a6')) : wpX_widthOf post (q, a1, a2, a3, a4, a5, a6) set := by
  refine pk_loop (σ := (Nat → Int32) × (Nat → Int32)) (fun n i s => wX_widthOf_2 post set q n (nI i) a1 a2 s.1 s.2 a5 a6) (fun i s => (∀ j, j < i → s.1 j = -1) ∧ (∀ j, j < i → s.2 j = -1)) 10 0 (a3, a4) (by omega) ⟨fun j hj => absurd hj (by omega), fun j hj => absurd hj (by omega)⟩ (fun n s h => ?_) (fun n i s hi h hw => ?_)
  · exact pk_le 10 10 (fun _ => pw_size (pw_w35 hS h.1 h.2 H)) (fun z => absurd z (by omega))
  · refine pk_le 10 i (fun z => absurd z (by omega)) (fun _ => ?_)
    rw [nI_clamp (show i < 2 ^ 31 by omega)]
    have fill : ∀ s : Nat → Int32, (∀ j, j < i → s j = -1) → ∀ j, j < i + 1 → upd s i (-1) j = -1 := by
      intro s h j hj
      by_cases e : j = i
      · rw [e, pk_us]
      · rw [pk_un e]
        exact h j (by omega)
    exact ⟨pk_in i 10 hi, nm_e ⟨pk_in i 10 hi, nm_e (nm_r (nI_1 i) (hw (upd s.1 i (-1), upd s.2 i (-1)) ⟨fill s.1 h.1, fill s.2 h.2⟩))⟩⟩
end
section
/-! width, widthWith, widthWithout, chosen -/
theorem pw_widthX {post : Int32 → St1 → Prop} {q : Int32} {a1 a2 a3 a4 a5 a6 : Nat → Int32} (hS : pw_S a1 a2) (H : ∀ q' a3' a4' a5' a6', post (nI (pw_W (pw_r a1) (fun _ => true))) (q', a1, a2, a3', a4', a5', a6')) : wpX_width post (q, a1, a2, a3, a4, a5, a6) := by
  unfold wpX_width
  dsimp only
  have e : pw_W (pw_r a1) (pw_bt 1023) = pw_W (pw_r a1) (fun _ => true) := pw_W_congr (fun i hi => by rw [pw_b_full, decide_eq_true hi])
  refine pw_widthOf hS (fun q' a3' a4' a5' a6' => ?_)
  rw [e]
  exact H q' a3' a4' a5' a6'
theorem pw_withX {post : Int32 → St1 → Prop} {q : Int32} {a1 a2 a3 a4 a5 a6 : Nat → Int32} (hS : pw_S a1 a2) {t : Nat} (ht : t < 10) (H : ∀ q' a3' a4' a5' a6', post (nI (1 + pw_W (pw_r a1) (pw_bs (pw_r a1) t))) (q', a1, a2, a3', a4', a5', a6')) : wpX_widthWith post (q, a1, a2, a3, a4, a5, a6) (nI t) := by
  unfold wpX_widthWith
  dsimp only
  have e : pw_W (pw_r a1) (pw_bt (pw_be a1 a2 t)) = pw_W (pw_r a1) (pw_bs (pw_r a1) t) := pw_W_congr (fun i hi => pw_be_b hS ht hi)
  refine pw_thing ht (br_f (by decide) (pw_besides ht (pw_widthOf hS (fun q' a3' a4' a5' a6' => ?_))))
  have e2 : (1 : Int32) + nI (pw_W (pw_r a1) (pw_bt (pw_be a1 a2 t))) = nI (1 + pw_W (pw_r a1) (pw_bs (pw_r a1) t)) := by
    rw [e]
    exact nI_add 1 _
  dsimp only
  rw [e2]
  exact H q' a3' a4' a5' a6'
theorem pw_withoutX {post : Int32 → St1 → Prop} {q : Int32} {a1 a2 a3 a4 a5 a6 : Nat → Int32} (hS : pw_S a1 a2) {t : Nat} (ht : t < 10) (H : ∀ q' a3' a4' a5' a6', post (nI (pw_W (pw_r a1) (pw_wo (fun _ => true) t))) (q', a1, a2, a3', a4', a5', a6')) : wpX_widthWithout post (q, a1, a2, a3, a4, a5, a6) (nI t) := by
  unfold wpX_widthWithout
  dsimp only
  have e : pw_W (pw_r a1) (pw_bt (1023 &&& (((1 : Int32) <<< (nI t &&& 31)) ^^^ (-1)))) = pw_W (pw_r a1) (pw_wo (fun _ => true) t) := pw_W_congr (fun i hi => by
    rw [pw_b_and, pw_b_full, decide_eq_true hi, pw_b_not _ (by omega), pw_b_sh t (by omega)]
    rfl)
  refine pw_thing ht (br_f (by decide) (pw_widthOf hS (fun q' a3' a4' a5' a6' => ?_)))
  rw [e]
  exact H q' a3' a4' a5' a6'
theorem pw_split1 {r : Nat → Nat → Bool} (hp : pw_po r) {t : Nat} (ht : t < 10) : pw_W r (fun _ => true) = max (pw_W r (pw_wo (fun _ => true) t)) (1 + pw_W r (pw_bs r t)) := by
  have h := pw_split hp (S := fun _ => true) ht rfl
  have e : pw_W r (fun x => true && pw_bs r t x) = pw_W r (pw_bs r t) := pw_W_congr (fun i _ => Bool.true_and _)
  rw [← e]
  exact h
theorem pw_lt1 : ∀ t, t < 10 → nI t + (-1) < nI t := by decide
theorem pw_ch23 {post : Int32 → St1 → Prop} {q : Int32} {a1 a2 a3 a4 a5 a6 : Nat → Int32} (hS : pw_S a1 a2) {th : Nat} (hth : th < 10) (H : ∀ q' a3' a4' a5' a6', post (nI (pw_ch (pw_r a1) th).toNat) (q', a1, a2, a3', a4', a5', a6')) : ∃ n, wX_chosen_23 post (nI th) n 1023 (nI (pw_W (pw_r a1) (fun _ => true))) 9 q a1 a2 a3 a4 a5 a6 := by
  refine pk_loop (σ := Int32 × Int32 × Int32 × (Nat → Int32) × (Nat → Int32) × (Nat → Int32) × (Nat → Int32)) (fun n j s => wX_chosen_23 post (nI th) n s.1 s.2.1 (nI (10 - j) + (-1)) s.2.2.1 a1 a2 s.2.2.2.1 s.2.2.2.2.1 s.2.2.2.2.2.1 s.2.2.2.2.2.2)
    (fun j s => (∀ x, x < 10 → pw_bt s.1 x = pw_g (pw_r a1) j x) ∧ s.2.1 = nI (pw_W (pw_r a1) (pw_g (pw_r a1) j)) ∧ (j = 10 - th → pw_ch (pw_r a1) th = false)) (10 - th) 0 (1023, nI (pw_W (pw_r a1) (fun _ => true)), q, a3, a4, a5, a6) (by omega) ⟨fun x hx => ?_, rfl, fun z => absurd z (by omega)⟩ (fun n s h => ?_) (fun n j s hj h hw => ?_)
  · show pw_bt 1023 x = true
    rw [pw_b_full, decide_eq_true hx]
  · obtain ⟨x2, x3, q', a3', a4', a5', a6'⟩ := s
    obtain ⟨_, _, h3⟩ := h
    have h4 := h3 rfl
    have h5 := H q' a3' a4' a5' a6'
    rw [h4] at h5
    show wX_chosen_23 post (nI th) (n + 1) x2 x3 (nI (10 - (10 - th)) + (-1)) q' a1 a2 a3' a4' a5' a6'
    rw [show 10 - (10 - th) = th by omega]
    exact br_t (pw_lt1 th hth) h5
  · obtain ⟨x2, x3, q', a3', a4', a5', a6'⟩ := s
    obtain ⟨h1, h2, _⟩ := h
    have h1 : ∀ x, x < 10 → pw_bt x2 x = pw_g (pw_r a1) j x := h1
    have h2' : x3 = nI (pw_W (pw_r a1) (pw_g (pw_r a1) j)) := h2
    subst h2'
    have ht : 9 - j < 10 := by omega
    have hW := pw_W_le (pw_r a1) (pw_g (pw_r a1) j)
    have e9 : 9 - (9 - j) = j := by omega
    show wX_chosen_23 post (nI th) (n + 1) x2 (nI (pw_W (pw_r a1) (pw_g (pw_r a1) j))) (nI (10 - j) + (-1)) q' a1 a2 a3' a4' a5' a6'
    rw [show nI (10 - j) + (-1) = nI (9 - j) by rw [show 10 - j = 9 - j + 1 by omega]; exact pk_m1 (9 - j)]
    have hw' : ∀ y2 y3 q1 b3 b4 b5 b6, (∀ x, x < 10 → pw_bt y2 x = pw_g (pw_r a1) (j + 1) x) → y3 = nI (pw_W (pw_r a1) (pw_g (pw_r a1) (j + 1))) → (j + 1 = 10 - th → pw_ch (pw_r a1) th = false) → wX_chosen_23 post (nI th) n y2 y3 (nI (9 - j) + (-1)) q1 a1 a2 b3 b4 b5 b6 := by
      intro y2 y3 q1 b3 b4 b5 b6 g1 g2 g3
      have h0 : wX_chosen_23 post (nI th) n y2 y3 (nI (10 - (j + 1)) + (-1)) q1 a1 a2 b3 b4 b5 b6 := hw (y2, y3, q1, b3, b4, b5, b6) ⟨g1, g2, g3⟩
      rw [show 10 - (j + 1) = 9 - j by omega] at h0
      exact h0
    have eg : pw_g (pw_r a1) (j + 1) = pw_gs (pw_r a1) (9 - j) (pw_g (pw_r a1) j) := rfl
    refine pk_lt (9 - j) th (fun z => absurd z (by omega)) (fun hge => ek_if (pw_test0 x2 (9 - j) (by omega)) (fun hb => nm_e ?_) (fun hb => nm_e ?_))
    · rw [h1 _ ht] at hb
      have es : pw_g (pw_r a1) (j + 1) = pw_g (pw_r a1) j := by
        rw [eg]
        unfold pw_gs
        rw [if_neg (fun z => pw_no z hb)]
      refine hw' x2 _ q' a3' a4' a5' a6' (fun x hx => by rw [es]; exact h1 x hx) (by rw [es]) (fun z => pw_tf (fun hc => ?_))
      have hc' := (pw_ch_iff.mp hc).1
      rw [show 9 - th = j by omega, show th = 9 - j by omega] at hc'
      exact pw_no hc' hb
    · have hb' := pw_ft hb
      rw [h1 _ ht] at hb'
      have hx5 : ∀ x, x < 10 → pw_bt (x2 &&& (((1 : Int32) <<< (nI (9 - j) &&& 31)) ^^^ (-1))) x = pw_wo (pw_g (pw_r a1) j) (9 - j) x := by
        intro x hx
        rw [pw_b_and, pw_b_not _ (by omega), pw_b_sh (9 - j) (by omega), h1 x hx]
        rfl
      have e5 : pw_W (pw_r a1) (pw_bt (x2 &&& (((1 : Int32) <<< (nI (9 - j) &&& 31)) ^^^ (-1)))) = pw_W (pw_r a1) (pw_wo (pw_g (pw_r a1) j) (9 - j)) := pw_W_congr hx5
      have hWo := pw_W_le (pw_r a1) (pw_wo (pw_g (pw_r a1) j) (9 - j))
      refine pw_widthOf hS (fun q1 b3 b4 b5 b6 => ?_)
      rw [e5]
      refine pk_eq (pw_W (pw_r a1) (pw_wo (pw_g (pw_r a1) j) (9 - j))) (pw_W (pw_r a1) (pw_g (pw_r a1) j)) (fun he => nm_e ?_) (fun hn => pk_eq (9 - j) th (fun et => ?_) (fun nt => pw_besides ht (nm_e (nm_e (nm_e ?_)))))
      · have es : pw_g (pw_r a1) (j + 1) = pw_wo (pw_g (pw_r a1) j) (9 - j) := by
          rw [eg]
          unfold pw_gs
          rw [if_pos hb', if_pos he]
        refine hw' _ _ q1 b3 b4 b5 b6 (fun x hx => by rw [es]; exact hx5 x hx) (by rw [es, he]) (fun z => pw_tf (fun hc => ?_))
        have hc' := (pw_ch_iff.mp hc).2
        rw [show 9 - th = j by omega, show th = 9 - j by omega] at hc'
        exact hc' he
      · have hc : pw_ch (pw_r a1) th = true := by
          rw [← et]
          exact pw_ch_iff.mpr (by rw [e9]; exact ⟨hb', hn⟩)
        have h5 := H q1 b3 b4 b5 b6
        rw [hc] at h5
        exact h5
      · have es : pw_g (pw_r a1) (j + 1) = fun x => pw_wo (pw_g (pw_r a1) j) (9 - j) x && pw_bs (pw_r a1) (9 - j) x := by
          rw [eg]
          unfold pw_gs
          rw [if_pos hb', if_neg hn]
        refine hw' _ _ q1 b3 b4 b5 b6 (fun x hx => ?_) ?_ (fun z => absurd z (by omega))
        · rw [es, pw_b_and, hx5 x hx, pw_be_b hS ht hx]
        · rw [← pw_gs_take hS.2.2.2 ht hb' hn, eg]
          exact pk_m1 _
theorem pw_chosenX {post : Int32 → St1 → Prop} {q : Int32} {a1 a2 a3 a4 a5 a6 : Nat → Int32} (hS : pw_S a1 a2) {th : Nat} (hth : th < 10) (H : ∀ q' a3' a4' a5' a6', post (nI (pw_ch (pw_r a1) th).toNat) (q', a1, a2, a3', a4', a5', a6')) : wpX_chosen post (q, a1, a2, a3, a4, a5, a6) (nI th) := by
  unfold wpX_chosen
  dsimp only
  have e : pw_W (pw_r a1) (pw_bt 1023) = pw_W (pw_r a1) (fun _ => true) := pw_W_congr (fun i hi => by rw [pw_b_full, decide_eq_true hi])
  refine pw_thing hth (br_f (by decide) (pw_widthOf hS (fun q' a3' a4' a5' a6' => ?_)))
  rw [e]
  exact pw_ch23 hS hth H
end
section
/-! holds, and the law -/
theorem pw_h64 {post : Int32 → St1 → Prop} {J : Int32 → Int32 → Int32 → (Nat → Int32) → (Nat → Int32) → (Nat → Int32) → (Nat → Int32) → (Nat → Int32) → (Nat → Int32) → Prop} {x1 x2 q : Int32} {a1 a2 a3 a4 a5 a6 : Nat → Int32} (hS : pw_S a1 a2) {t : Nat} (ht : t < 10) (hc : pw_ch (pw_r a1) t = true) (H : ∀ q' a3' a4' a5' a6', J x2 (nI (t + 1)) q' a1 a2 a3' a4' a5' a6') : ∃ n, wL_holds_64 post J x1 x2 (nI t) n 0 q a1 a2 a3 a4 a5 a6 := by
  refine pk_loop (σ := Int32 × (Nat → Int32) × (Nat → Int32) × (Nat → Int32) × (Nat → Int32)) (fun n i s => wL_holds_64 post J x1 x2 (nI t) n (nI i) s.1 a1 a2 s.2.1 s.2.2.1 s.2.2.2.1 s.2.2.2.2) (fun _ _ => True) 10 0 (q, a3, a4, a5, a6) (by omega) trivial (fun n s _ => ?_) (fun n i s hi _ hw => ?_)
  · exact pk_le 10 10 (fun _ => nm_r (nI_1 t) (H _ _ _ _ _)) (fun z => absurd z (by omega))
  · refine pk_le 10 i (fun z => absurd z (by omega)) (fun _ => pw_chosenX hS hi (fun q' a3' a4' a5' a6' => ?_))
    cases h : pw_ch (pw_r a1) i
    · exact br_f (by decide) (nm_r (nI_1 i) (hw (q', a3', a4', a5', a6') trivial))
    · refine br_t rfl (pw_before hi ht ?_)
      rw [pw_ch_an hS.2.2.2 hi ht h hc]
      exact br_t rfl (nm_r (nI_1 i) (hw (q', a3', a4', a5', a6') trivial))
theorem pw_h44 {post : Int32 → St1 → Prop} {J : Int32 → Int32 → Int32 → (Nat → Int32) → (Nat → Int32) → (Nat → Int32) → (Nat → Int32) → (Nat → Int32) → (Nat → Int32) → Prop} {x1 z q : Int32} {a1 a2 a3 a4 a5 a6 : Nat → Int32} (hS : pw_S a1 a2) {t c : Nat} (ht : t < 10) (hz : x1 = z) (H : ∀ q' a3' a4' a5' a6', J (nI (c + (pw_ch (pw_r a1) t).toNat)) (nI (t + 1)) q' a1 a2 a3' a4' a5' a6') : wL_holds_44 post J x1 (nI c) (nI t) z x1 q a1 a2 a3 a4 a5 a6 := by
  unfold wL_holds_44
  refine br_t hz (pw_chosenX hS ht (fun q' a3' a4' a5' a6' => ?_))
  cases h : pw_ch (pw_r a1) t
  · rw [h] at H
    exact br_f (by decide) (nm_r (nI_1 t) (H q' a3' a4' a5' a6'))
  · rw [h] at H
    exact br_t rfl (nm_r (nI_1 c) (pw_h64 hS ht h H))
theorem pw_holds {post : Int32 → St1 → Prop} {q : Int32} {a1 a2 a3 a4 a5 a6 : Nat → Int32} (hS : pw_S a1 a2) (H : ∀ q' a3' a4' a5' a6', post 1 (q', a1, a2, a3', a4', a5', a6')) : wpL_holds post (q, a1, a2, a3, a4, a5, a6) := by
  unfold wpL_holds
  dsimp only
  have hN := pw_W_le (pw_r a1) (fun _ => true)
  refine pw_widthX hS (fun q0 a30 a40 a50 a60 => ?_)
  refine pk_loop (σ := Int32 × Int32 × (Nat → Int32) × (Nat → Int32) × (Nat → Int32) × (Nat → Int32)) (fun n t s => wL_holds_9 post (nI (pw_W (pw_r a1) (fun _ => true))) n s.1 (nI t) s.2.1 a1 a2 s.2.2.1 s.2.2.2.1 s.2.2.2.2.1 s.2.2.2.2.2) (fun t s => s.1 = nI (pw_c (pw_ch (pw_r a1)) t)) 10 0 (0, q0, a30, a40, a50, a60) (by omega) rfl (fun n s h => ?_) (fun n t s ht h hw => ?_)
  · obtain ⟨x2, q', a3', a4', a5', a6'⟩ := s
    have h' : x2 = nI (pw_c (pw_ch (pw_r a1)) 10) := h
    subst h'
    refine pk_le 10 10 (fun _ => br_t (congrArg nI (pw_ch_count hS.2.2.2)) (pw_heightX hS (fun h h1 h2 => ?_))) (fun z => absurd z (by omega))
    have h3 := pw_height hS.2.2.2 h1
    have h4 : pw_W (pw_r a1) (fun _ => true) * h ≤ 10 * 21 := Nat.mul_le_mul hN h2
    exact pk_lt (pw_W (pw_r a1) (fun _ => true) * h) 10 (fun z => absurd z (by omega)) (fun _ => H q' a3' a4' a5' a6') (pk_mul _ _)
  · obtain ⟨x2, q', a3', a4', a5', a6'⟩ := s
    have h' : x2 = nI (pw_c (pw_ch (pw_r a1)) t) := h
    subst h'
    have hs := pw_split1 hS.2.2.2 ht
    have l1 := pw_W_le (pw_r a1) (pw_bs (pw_r a1) t)
    have l2 := pw_W_le (pw_r a1) (pw_wo (fun _ => true) t)
    refine pk_le 10 t (fun z => absurd z (by omega)) (fun _ => pw_withX hS ht (fun q1 b3 b4 b5 b6 => pw_withoutX hS ht (fun q2 c3 c4 c5 c6 => ?_)))
    exact pk_le (1 + pw_W (pw_r a1) (pw_bs (pw_r a1) t)) (pw_W (pw_r a1) (pw_wo (fun _ => true) t))
      (fun z => pw_h44 hS ht (congrArg nI (by omega)) (fun q3 d3 d4 d5 d6 => hw (nI (pw_c (pw_ch (pw_r a1)) t + (pw_ch (pw_r a1) t).toNat), q3, d3, d4, d5, d6) rfl))
      (fun z => pw_h44 hS ht (congrArg nI (by omega)) (fun q3 d3 d4 d5 d6 => hw (nI (pw_c (pw_ch (pw_r a1)) t + (pw_ch (pw_r a1) t).toNat), q3, d3, d4, d5, d6) rfl))
theorem pw_law97 {L : Nat} {xs : Nat → Int32} {J : Int32 → Int32 → (Nat → Int32) → (Nat → Int32) → (Nat → Int32) → (Nat → Int32) → (Nat → Int32) → (Nat → Int32) → Prop} {x3 q : Int32} {kc ks i : Nat} {a1 a2 a3 a4 a5 a6 : Nat → Int32} (hS : pw_S a1 a2) (H : ∀ q' a3' a4' a5' a6', J (nI (3 * (i + 1))) q' a1 a2 a3' a4' a5' a6') : wL_law_97 (fun r => r = 1) L xs J (nI (3 * i)) x3 kc ks q a1 a2 a3 a4 a5 a6 := by
  have e : nI (3 * i) + 3 = nI (3 * (i + 1)) := nI_add (3 * i) 3
  unfold wL_law_97
  exact br_c (fun _ => pw_holds hS (fun q' a3' a4' a5' a6' => br_f (by decide) (nm_r e (H q' a3' a4' a5' a6')))) (fun _ => nm_r e (H q a3 a4 a5 a6))
theorem pw_rem10 (x : Int32) : ∃ a, a < 10 ∧ (x &&& 255) - (x &&& 255) / 10 * 10 = nI a := by
  obtain ⟨j, hj, e⟩ := pk_andE x (m := 255) 8 (by decide)
  refine ⟨j % 10, Nat.mod_lt _ (by omega), ?_⟩
  rw [e]
  exact pk_rem (d := 10) (by omega) (by omega) (by omega)
theorem pw_S_0 : pw_S (fun _ => 0) (fun _ => 0) :=
  ⟨fun _ _ => pw_m_0, fun _ _ => pw_m_0, fun a b _ _ => (pw_b_0 a).trans (pw_b_0 b).symm, fun a _ => pw_b_0 a, fun a b c _ _ _ h1 _ => absurd ((pw_b_0 b).symm.trans h1) Bool.false_ne_true⟩
theorem pw_al_W {a1 : Nat → Int32} {t : Nat} (h : pw_al a1 t) : pw_W (pw_r a1) (pw_bs (pw_r a1) t) = pw_W (pw_r a1) (pw_wo (fun _ => true) t) := pw_W_congr (fun x hx => by
  unfold pw_bs pw_wo
  rw [(h x hx).1, (h x hx).2]
  rfl)
theorem i_vc (xs : Nat → Int32) (L : Nat) (hL : L ≤ 260) : wpL_law (fun r => r = 1) L xs := by
  refine ⟨6, 60, by omega, by omega, by omega, by omega, by omega, by omega, by omega, by omega, by omega, by omega, by omega, by omega, by omega, by omega, ?_⟩
  refine pk_loop (σ := St1) (fun n i s => wL_law_10 (fun r => r = 1) L xs (1 + 6) (7 + 60) n (nI (3 * i)) s.1 s.2.1 s.2.2.1 s.2.2.2.1 s.2.2.2.2.1 s.2.2.2.2.2.1 s.2.2.2.2.2.2) (fun _ s => pw_S s.2.1 s.2.2.1) (L / 3) 0 (0, (fun _ => 0), (fun _ => 0), (fun _ => 0), (fun _ => 0), (fun _ => 0), (fun _ => 0)) (by omega) pw_S_0 (fun n s h => ?_) (fun n i s hi h hw => ?_)
  · exact pk_lt L (3 * (L / 3) + 3) (fun _ => pw_holds h (fun _ _ _ _ _ => rfl)) (fun z => absurd z (by omega)) rfl (nI_add (3 * (L / 3)) 3)
  · obtain ⟨q, a1, a2, a3, a4, a5, a6⟩ := s
    have hS : pw_S a1 a2 := h
    have hw' : ∀ q' a1' a2' a3' a4' a5' a6', pw_S a1' a2' → wL_law_10 (fun r => r = 1) L xs (1 + 6) (7 + 60) n (nI (3 * (i + 1))) q' a1' a2' a3' a4' a5' a6' := fun q' a1' a2' a3' a4' a5' a6' g => hw (q', a1', a2', a3', a4', a5', a6') g
    obtain ⟨a, ha, ea⟩ := pw_rem10 (xs (nI (3 * i) + 1).toNatClampNeg)
    obtain ⟨b, hb, eb⟩ := pw_rem10 (xs (nI (3 * i) + 2).toNatClampNeg)
    refine pk_lt L (3 * i + 3) (fun z => absurd z (by omega)) (fun _ => ⟨pk_in (3 * i) L (by omega), nm_e ⟨pk_in (3 * i + 1) L (by omega) (nI_add (3 * i) 1), by decide, nm_r ea ⟨pk_in (3 * i + 2) L (by omega) (nI_add (3 * i) 2), by decide, nm_r eb (br_c (fun _ => ?_) (fun _ => ?_))⟩⟩⟩) rfl (nI_add (3 * i) 3)
    · refine pw_releaseX hS ha (fun x a1' a2' g1 g2 => pw_withX g1 ha (fun q1 b3 b4 b5 b6 => pw_withoutX g1 ha (fun q2 c3 c4 c5 c6 => ?_)))
      refine br_t ?_ (pw_law97 g1 (fun q3 d3 d4 d5 d6 => hw' q3 a1' a2' d3 d4 d5 d6 g1))
      rw [pw_al_W g2, nI_1, Nat.add_comm]
    · exact pw_putX hS ha hb (fun x a1' a2' g1 => pw_law97 g1 (fun q3 d3 d4 d5 d6 => hw' q3 a1' a2' d3 d4 d5 d6 g1))
end
