section
/-! Sums, sets, enumerations: nothing of the program -/
theorem cy_us {f : Nat → Int32} {k : Nat} {x : Int32} : upd f k x k = x := if_pos rfl
theorem cy_un {f : Nat → Int32} {k j : Nat} {x : Int32} (h : j ≠ k) : upd f k x j = f j := if_neg h
theorem cy_cl {n : Nat} (h : n < 2 ^ 31) : (nI n).toNatClampNeg = n := nI_clamp h
theorem cy_inj {a b : Nat} (ha : a < 32) (hb : b < 32) (h : nI a = nI b) : a = b := (nI_eq (by omega) (by omega)).mp h
theorem cy_n1 {x : Nat} (h : x < 32) : ¬ nI x = -1 := by
  intro e
  have := nI_pos (n := x) (by omega)
  rw [e] at this
  exact this (by decide)
theorem cy_n2 {x : Nat} (h : x < 32) : ¬ nI x = -2 := by
  intro e
  have := nI_pos (n := x) (by omega)
  rw [e] at this
  exact this (by decide)
noncomputable def cy_b (p : Prop) : Nat := @ite Nat p (Classical.propDecidable p) 1 0
theorem cy_bt {p : Prop} (h : p) : cy_b p = 1 := by unfold cy_b; rw [if_pos h]
theorem cy_bf {p : Prop} (h : ¬ p) : cy_b p = 0 := by unfold cy_b; rw [if_neg h]
theorem cy_b1 (p : Prop) : cy_b p ≤ 1 := by
  rcases Classical.em p with h | h
  · rw [cy_bt h]; omega
  · rw [cy_bf h]; omega
theorem cy_be {p q : Prop} (h : p ↔ q) : cy_b p = cy_b q := by rw [propext h]
theorem cy_bm {p q : Prop} (h : p → q) : cy_b p ≤ cy_b q := by
  rcases Classical.em p with z | z
  · rw [cy_bt z, cy_bt (h z)]; omega
  · rw [cy_bf z]; omega
theorem cy_bn {p : Prop} (h : cy_b p ≠ 0) : p := by
  rcases Classical.em p with z | z
  · exact z
  · exact absurd (cy_bf z) h
noncomputable def cy_g (p : Prop) (n : Nat) : Nat := @ite Nat p (Classical.propDecidable p) n 0
theorem cy_gt {p : Prop} {n : Nat} (h : p) : cy_g p n = n := by unfold cy_g; rw [if_pos h]
theorem cy_gf {p : Prop} {n : Nat} (h : ¬ p) : cy_g p n = 0 := by unfold cy_g; rw [if_neg h]
theorem cy_ge {p q : Prop} {n : Nat} (h : p ↔ q) : cy_g p n = cy_g q n := by rw [propext h]
noncomputable def cy_gi (p : Prop) (n : Int32) : Int32 := @ite Int32 p (Classical.propDecidable p) n 0
theorem cy_git {p : Prop} {n : Int32} (h : p) : cy_gi p n = n := by unfold cy_gi; rw [if_pos h]
theorem cy_gif {p : Prop} {n : Int32} (h : ¬ p) : cy_gi p n = 0 := by unfold cy_gi; rw [if_neg h]
theorem cy_gie {p q : Prop} {n : Int32} (h : p ↔ q) : cy_gi p n = cy_gi q n := by rw [propext h]
/-- a sum of naturals below n -/
def cy_sm (f : Nat → Nat) : Nat → Nat
  | 0 => 0
  | n + 1 => cy_sm f n + f n
theorem cy_sm_s (f : Nat → Nat) (n : Nat) : cy_sm f (n + 1) = cy_sm f n + f n := rfl
theorem cy_sm_eq {f g : Nat → Nat} : ∀ {n : Nat}, (∀ j, j < n → f j = g j) → cy_sm f n = cy_sm g n
  | 0, _ => rfl
  | n + 1, h => by
    rw [cy_sm_s, cy_sm_s, cy_sm_eq (n := n) (fun j hj => h j (by omega)), h n (by omega)]
theorem cy_sm_le {f g : Nat → Nat} : ∀ {n : Nat}, (∀ j, j < n → f j ≤ g j) → cy_sm f n ≤ cy_sm g n
  | 0, _ => Nat.le_refl _
  | n + 1, h => by
    have a := cy_sm_le (f := f) (g := g) (n := n) (fun j hj => h j (by omega))
    have b := h n (by omega)
    rw [cy_sm_s, cy_sm_s]; omega
theorem cy_sm_up {f g : Nat → Nat} {i : Nat} : ∀ {n : Nat}, i < n → (∀ j, j < n → j ≠ i → f j = g j) → cy_sm f n + g i = cy_sm g n + f i
  | 0, h, _ => by omega
  | n + 1, h, k => by
    rw [cy_sm_s, cy_sm_s]
    rcases Nat.lt_or_ge i n with z | z
    · have a := cy_sm_up (f := f) (g := g) (n := n) z (fun j hj => k j (by omega))
      have b := k n (by omega) (by omega)
      omega
    · have e : i = n := by omega
      subst e
      have a := cy_sm_eq (f := f) (g := g) (n := i) (fun j hj => k j (by omega) (by omega))
      omega
theorem cy_sm_0 {f : Nat → Nat} : ∀ {n : Nat}, (∀ j, j < n → f j = 0) → cy_sm f n = 0
  | 0, _ => rfl
  | n + 1, h => by rw [cy_sm_s, cy_sm_0 (n := n) (fun j hj => h j (by omega)), h n (by omega)]
theorem cy_sm_ge {f : Nat → Nat} {i : Nat} : ∀ {n : Nat}, i < n → f i ≤ cy_sm f n
  | 0, h => by omega
  | n + 1, h => by
    rw [cy_sm_s]
    rcases Nat.lt_or_ge i n with z | z
    · have := cy_sm_ge (f := f) (n := n) z
      omega
    · have e : i = n := by omega
      subst e; omega
theorem cy_sm_ex {f : Nat → Nat} : ∀ {n : Nat}, cy_sm f n ≠ 0 → ∃ j, j < n ∧ f j ≠ 0
  | 0, h => absurd rfl h
  | n + 1, h => by
    rcases Nat.eq_zero_or_pos (f n) with z | z
    · rw [cy_sm_s, z] at h
      obtain ⟨j, hj, e⟩ := cy_sm_ex (f := f) (n := n) h
      exact ⟨j, by omega, e⟩
    · exact ⟨n, by omega, by omega⟩
theorem cy_sm_nz {f : Nat → Nat} {n i : Nat} (hi : i < n) (h : f i ≠ 0) : cy_sm f n ≠ 0 := by
  have := cy_sm_ge (f := f) hi
  omega
theorem cy_sm_z {f : Nat → Nat} {n i : Nat} (hi : i < n) (h : cy_sm f n = 0) : f i = 0 := by
  have := cy_sm_ge (f := f) hi
  omega
theorem cy_sm_mul {f : Nat → Nat} {c : Nat} : ∀ {n : Nat}, (∀ j, j < n → f j ≤ c) → cy_sm f n ≤ c * n
  | 0, _ => Nat.le_refl _
  | n + 1, h => by
    have a := cy_sm_mul (f := f) (c := c) (n := n) (fun j hj => h j (by omega))
    have b := h n (by omega)
    rw [cy_sm_s, Nat.mul_succ]; omega
theorem cy_sm_mono {f : Nat → Nat} {m : Nat} : ∀ {n : Nat}, m ≤ n → cy_sm f m ≤ cy_sm f n
  | 0, h => by have : m = 0 := by omega
               subst this; exact Nat.le_refl _
  | n + 1, h => by
    rcases Nat.lt_or_ge m (n + 1) with z | z
    · have := cy_sm_mono (f := f) (m := m) (n := n) (by omega)
      rw [cy_sm_s]; omega
    · have e : m = n + 1 := by omega
      rw [e]; exact Nat.le_refl _
theorem cy_sm_ad {f g : Nat → Nat} : ∀ {n : Nat}, cy_sm (fun j => f j + g j) n = cy_sm f n + cy_sm g n
  | 0 => rfl
  | n + 1 => by
    rw [cy_sm_s, cy_sm_s, cy_sm_s, cy_sm_ad (n := n)]; omega
/-- a sum of ints below n -/
def cy_si (f : Nat → Int32) : Nat → Int32
  | 0 => 0
  | n + 1 => cy_si f n + f n
theorem cy_si_s (f : Nat → Int32) (n : Nat) : cy_si f (n + 1) = cy_si f n + f n := rfl
theorem cy_si_eq {f g : Nat → Int32} : ∀ {n : Nat}, (∀ j, j < n → f j = g j) → cy_si f n = cy_si g n
  | 0, _ => rfl
  | n + 1, h => by
    rw [cy_si_s, cy_si_s, cy_si_eq (n := n) (fun j hj => h j (by omega)), h n (by omega)]
theorem cy_si_up {f g : Nat → Int32} {i : Nat} : ∀ {n : Nat}, i < n → (∀ j, j < n → j ≠ i → f j = g j) → cy_si f n + g i = cy_si g n + f i
  | 0, h, _ => by omega
  | n + 1, h, k => by
    rw [cy_si_s, cy_si_s]
    rcases Nat.lt_or_ge i n with z | z
    · have a := cy_si_up (f := f) (g := g) (n := n) z (fun j hj => k j (by omega))
      have b := k n (by omega) (by omega)
      rw [b]
      grind
    · have e : i = n := by omega
      subst e
      have a := cy_si_eq (f := f) (g := g) (n := i) (fun j hj => k j (by omega) (by omega))
      rw [a]
      grind
/-- how many numbers below n are in P -/
noncomputable def cy_n (P : Nat → Prop) (n : Nat) : Nat := cy_sm (fun x => cy_b (P x)) n
theorem cy_n_eq {P Q : Nat → Prop} {n : Nat} (h : ∀ x, x < n → (P x ↔ Q x)) : cy_n P n = cy_n Q n :=
  cy_sm_eq fun j hj => cy_be (h j hj)
theorem cy_n_le {P Q : Nat → Prop} {n : Nat} (h : ∀ x, x < n → P x → Q x) : cy_n P n ≤ cy_n Q n :=
  cy_sm_le fun j hj => cy_bm (h j hj)
theorem cy_n_add {P : Nat → Prop} {a n : Nat} (hp : ¬ P a) (ha : a < n) : cy_n (fun x => P x ∨ x = a) n = cy_n P n + 1 := by
  have h : cy_n (fun x => P x ∨ x = a) n + cy_b (P a) = cy_n P n + cy_b (P a ∨ a = a) := cy_sm_up (f := fun x => cy_b (P x ∨ x = a)) (g := fun x => cy_b (P x)) (i := a) (n := n) ha (fun j _ hj => cy_be ⟨fun z => z.elim id (fun e => absurd e hj), Or.inl⟩)
  have e1 : cy_b (P a ∨ a = a) = 1 := cy_bt (Or.inr rfl)
  have e2 : cy_b (P a) = 0 := cy_bf hp
  rw [e1, e2] at h
  exact h
theorem cy_n_sub {P : Nat → Prop} {a n : Nat} (hp : P a) (ha : a < n) : cy_n (fun x => P x ∧ x ≠ a) n + 1 = cy_n P n := by
  have h := cy_sm_up (f := fun x => cy_b (P x ∧ x ≠ a)) (g := fun x => cy_b (P x)) (i := a) (n := n) ha (fun j _ hj => cy_be ⟨fun z => z.1, fun z => ⟨z, hj⟩⟩)
  have e1 : cy_b (P a ∧ a ≠ a) = 0 := cy_bf (fun z => z.2 rfl)
  have e2 : cy_b (P a) = 1 := cy_bt hp
  simp only [e1, e2] at h
  exact h
theorem cy_n_bd (P : Nat → Prop) (n : Nat) : cy_n P n ≤ n := by
  have := cy_sm_mul (f := fun x => cy_b (P x)) (c := 1) (n := n) (fun j _ => cy_b1 _)
  rw [Nat.one_mul] at this
  exact this
theorem cy_n_z {P : Nat → Prop} {n : Nat} (h : cy_n P n = 0) : ∀ x, x < n → ¬ P x := by
  intro x hx z
  have := cy_sm_z (f := fun x => cy_b (P x)) hx h
  have e : cy_b (P x) = 1 := cy_bt z
  simp only [e] at this
  omega
theorem cy_n_0 {P : Nat → Prop} {n : Nat} (h : ∀ x, x < n → ¬ P x) : cy_n P n = 0 :=
  cy_sm_0 fun j hj => cy_bf (h j hj)
theorem cy_n_lt {P Q : Nat → Prop} {n a : Nat} (ha : a < n) (hp : ¬ P a) (hq : Q a) (h : ∀ x, x < n → P x → Q x) : cy_n P n < cy_n Q n := by
  have h1 := cy_n_add (P := P) hp ha
  have h2 := cy_n_le (P := fun x => P x ∨ x = a) (Q := Q) (n := n) (fun x hx z => z.elim (h x hx) (fun e => e ▸ hq))
  omega
theorem cy_n_fl {P : Nat → Prop} {n : Nat} (h : ∀ x, x < n → P x) : cy_n P n = n := by
  induction n with
  | zero => rfl
  | succ n ih =>
    have e : cy_n P (n + 1) = cy_n P n + cy_b (P n) := rfl
    rw [e, ih (fun x hx => h x (by omega)), cy_bt (h n (by omega))]
theorem cy_n_nf {P : Nat → Prop} {n a : Nat} (ha : a < n) (hp : ¬ P a) : cy_n P n < n := by
  have h1 := cy_n_add (P := P) hp ha
  have h2 := cy_n_bd (fun x => P x ∨ x = a) n
  omega
theorem cy_n_df {P Q : Nat → Prop} {n : Nat} (h : ∀ x, x < n → Q x → P x) : cy_n (fun x => P x ∧ ¬ Q x) n + cy_n Q n = cy_n P n := by
  have a := cy_sm_ad (f := fun x => cy_b (P x ∧ ¬ Q x)) (g := fun x => cy_b (Q x)) (n := n)
  have b : cy_sm (fun j => cy_b (P j ∧ ¬ Q j) + cy_b (Q j)) n = cy_sm (fun x => cy_b (P x)) n := by
    refine cy_sm_eq fun j hj => ?_
    rcases Classical.em (Q j) with z | z
    · rw [cy_bt z, cy_bf (fun y => y.2 z), cy_bt (h j hj z)]
    · rcases Classical.em (P j) with y | y
      · rw [cy_bf z, cy_bt ⟨y, z⟩, cy_bt y]
      · rw [cy_bf z, cy_bf (fun t => y t.1), cy_bf y]
  show cy_sm (fun x => cy_b (P x ∧ ¬ Q x)) n + cy_sm (fun x => cy_b (Q x)) n = cy_sm (fun x => cy_b (P x)) n
  omega
theorem cy_n_ext {P : Nat → Prop} {m n : Nat} (hmn : m ≤ n) (h : ∀ x, P x → x < m) : cy_n P n = cy_n P m := by
  induction n with
  | zero =>
    have : m = 0 := by omega
    rw [this]
  | succ n ih =>
    rcases Nat.lt_or_ge m (n + 1) with z | z
    · have e : cy_n P (n + 1) = cy_n P n + cy_b (P n) := rfl
      rw [e, ih (by omega), cy_bf (fun y => by have := h n y; omega)]
      rfl
    · have : m = n + 1 := by omega
      rw [this]
/-- the first m cells of f hold each number of P once, and nothing else -/
def cy_en (m : Nat) (f : Nat → Int32) (P : Nat → Prop) : Prop :=
  (∀ x, P x → x < 32 ∧ ∃ i, i < m ∧ f i = nI x) ∧ (∀ i, i < m → ∃ x, P x ∧ f i = nI x) ∧ (∀ i j, i < m → j < m → f i = f j → i = j)
theorem cy_en_0 {f : Nat → Int32} {P : Nat → Prop} (h : ∀ x, ¬ P x) : cy_en 0 f P :=
  ⟨fun x z => absurd z (h x), fun i z => absurd z (by omega), fun i j z => absurd z (by omega)⟩
theorem cy_en_c {m : Nat} {f : Nat → Int32} {P Q : Nat → Prop} (e : ∀ x, P x ↔ Q x) (h : cy_en m f P) : cy_en m f Q := by
  have : P = Q := funext fun x => propext (e x)
  rw [← this]; exact h
theorem cy_en_push {m x : Nat} {f : Nat → Int32} {P : Nat → Prop} (h : cy_en m f P) (hx : x < 32) (hn : ¬ P x) : cy_en (m + 1) (upd f m (nI x)) (fun y => P y ∨ y = x) := by
  refine ⟨fun y hy => ?_, fun i hi => ?_, fun i j hi hj e => ?_⟩
  · rcases hy with hy | rfl
    · obtain ⟨h32, i, hi, e⟩ := h.1 y hy
      exact ⟨h32, i, by omega, by rw [cy_un (by omega)]; exact e⟩
    · exact ⟨hx, m, by omega, cy_us⟩
  · rcases Nat.lt_or_ge i m with z | z
    · obtain ⟨y, hy, e⟩ := h.2.1 i z
      exact ⟨y, Or.inl hy, by rw [cy_un (by omega)]; exact e⟩
    · have : i = m := by omega
      subst this
      exact ⟨x, Or.inr rfl, cy_us⟩
  · rcases Nat.lt_or_ge i m with z | z
    · rcases Nat.lt_or_ge j m with z' | z'
      · rw [cy_un (by omega), cy_un (by omega)] at e
        exact h.2.2 i j z z' e
      · exfalso
        have ej : j = m := by omega
        subst ej
        rw [cy_un (by omega), cy_us] at e
        obtain ⟨y, hy, e'⟩ := h.2.1 i z
        rw [e'] at e
        exact hn ((cy_inj (h.1 y hy).1 hx e) ▸ hy)
    · rcases Nat.lt_or_ge j m with z' | z'
      · exfalso
        have ej : i = m := by omega
        subst ej
        rw [cy_us, cy_un (by omega)] at e
        obtain ⟨y, hy, e'⟩ := h.2.1 j z'
        rw [e'] at e
        exact hn ((cy_inj (h.1 y hy).1 hx e.symm) ▸ hy)
      · omega
theorem cy_en_pop {m : Nat} {f : Nat → Int32} {P : Nat → Prop} (h : cy_en (m + 1) f P) : ∃ x, P x ∧ f m = nI x ∧ cy_en m f (fun y => P y ∧ y ≠ x) := by
  obtain ⟨x, hx, e⟩ := h.2.1 m (by omega)
  refine ⟨x, hx, e, fun y hy => ?_, fun i hi => ?_, fun i j hi hj => h.2.2 i j (by omega) (by omega)⟩
  · obtain ⟨h32, i, hi, e'⟩ := h.1 y hy.1
    refine ⟨h32, i, ?_, e'⟩
    rcases Nat.lt_or_ge i m with z | z
    · exact z
    · exfalso
      have : i = m := by omega
      rw [this, e] at e'
      exact hy.2 (cy_inj h32 (h.1 x hx).1 e'.symm)
  · obtain ⟨y, hy, e'⟩ := h.2.1 i (by omega)
    refine ⟨y, ⟨hy, fun z => ?_⟩, e'⟩
    rw [z] at e'
    have := h.2.2 i m (by omega) (by omega) (e'.trans e.symm)
    omega
theorem cy_en_rm {m i x : Nat} {f : Nat → Int32} {P : Nat → Prop} (h : cy_en (m + 1) f P) (hi : i < m + 1) (e : f i = nI x) (hx : P x) : cy_en m (upd f i (f m)) (fun y => P y ∧ y ≠ x) := by
  refine ⟨fun y hy => ?_, fun j hj => ?_, fun j k hj hk => ?_⟩
  · obtain ⟨h32, j, hj, e'⟩ := h.1 y hy.1
    have hji : j ≠ i := by
      intro z
      rw [z, e] at e'
      exact hy.2 (cy_inj h32 (h.1 x hx).1 e'.symm)
    rcases Nat.lt_or_ge j m with z | z
    · exact ⟨h32, j, z, by rw [cy_un hji]; exact e'⟩
    · have : j = m := by omega
      subst this
      exact ⟨h32, i, by omega, by rw [cy_us]; exact e'⟩
  · rcases Nat.decEq j i with z | z
    · obtain ⟨y, hy, e'⟩ := h.2.1 j (by omega)
      refine ⟨y, ⟨hy, fun t => ?_⟩, by rw [cy_un z]; exact e'⟩
      rw [t] at e'
      exact z (h.2.2 j i (by omega) hi (e'.trans e.symm))
    · subst z
      obtain ⟨y, hy, e'⟩ := h.2.1 m (by omega)
      refine ⟨y, ⟨hy, fun t => ?_⟩, by rw [cy_us]; exact e'⟩
      rw [t] at e'
      have := h.2.2 m j (by omega) hi (e'.trans e.symm)
      omega
  · rcases Nat.decEq j i with z | z
    · rcases Nat.decEq k i with z' | z'
      · rw [cy_un z, cy_un z']
        exact h.2.2 j k (by omega) (by omega)
      · subst z'
        rw [cy_un z, cy_us]
        intro t
        have := h.2.2 j m (by omega) (by omega) t
        omega
    · subst z
      rcases Nat.decEq k j with z' | z'
      · rw [cy_un z', cy_us]
        intro t
        have := h.2.2 m k (by omega) (by omega) t
        omega
      · intro _; exact z'.symm
theorem cy_en_n {n : Nat} {f : Nat → Int32} : ∀ {m : Nat} {P : Nat → Prop}, cy_en m f P → (∀ x, P x → x < n) → m = cy_n P n
  | 0, P, h, _ => (cy_n_0 fun x _ z => by obtain ⟨_, i, hi, _⟩ := h.1 x z; omega).symm
  | m + 1, P, h, k => by
    obtain ⟨x, hx, _, h'⟩ := cy_en_pop h
    have a := cy_en_n (n := n) h' (fun y hy => k y hy.1)
    have b := cy_n_sub (P := P) hx (k x hx)
    omega
theorem cy_en_le {m : Nat} {f : Nat → Int32} {P : Nat → Prop} (h : cy_en m f P) : m ≤ 32 := by
  have a := cy_en_n (n := 32) h (fun x hx => (h.1 x hx).1)
  have b := cy_n_bd P 32
  omega
theorem cy_en_lt {m x : Nat} {f : Nat → Int32} {P : Nat → Prop} (h : cy_en m f P) (hx : x < 32) (hn : ¬ P x) : m < 32 := by
  have a := cy_en_n (n := 32) h (fun x hx => (h.1 x hx).1)
  have b := cy_n_nf (P := P) hx hn
  omega
theorem cy_en_z {f : Nat → Int32} {P : Nat → Prop} (h : cy_en 0 f P) : ∀ x, ¬ P x := by
  intro x z
  obtain ⟨_, i, hi, _⟩ := h.1 x z
  omega
/-- the least set that holds A and is closed under E -/
def cy_rc (E : Nat → Nat → Prop) (A : Nat → Prop) (x : Nat) : Prop := ∀ S : Nat → Prop, (∀ a, A a → S a) → (∀ a b, S a → E a b → S b) → S x
theorem cy_rc_0 {E : Nat → Nat → Prop} {A : Nat → Prop} {x : Nat} (h : A x) : cy_rc E A x := fun _ a _ => a x h
theorem cy_rc_s {E : Nat → Nat → Prop} {A : Nat → Prop} {x y : Nat} (h : cy_rc E A x) (e : E x y) : cy_rc E A y := fun S a b => b x y (h S a b) e
theorem cy_rc_m {E : Nat → Nat → Prop} {A B : Nat → Prop} {x : Nat} (h : cy_rc E A x) (k : ∀ a, A a → cy_rc E B a) : cy_rc E B x :=
  h (cy_rc E B) k fun _ _ s e => cy_rc_s s e
end
section
/-! The graph of the heap: rows, counts, survivors -/
/-- the value v names object x -/
def cy_is (v : Int32) (x : Nat) : Prop := x < 32 ∧ v = nI x
theorem cy_is_u {v : Int32} {x y : Nat} (h : cy_is v x) (k : cy_is v y) : x = y := cy_inj h.1 k.1 (h.2.symm.trans k.2)
theorem cy_is_m1 {x : Nat} (h : cy_is (-1) x) : False := cy_n1 h.1 h.2.symm
theorem cy_is_m2 {x : Nat} (h : cy_is (-2) x) : False := cy_n2 h.1 h.2.symm
/-- references from the first k fields of a to b -/
noncomputable def cy_pr (F : Nat → Int32) (a b k : Nat) : Nat := cy_sm (fun j => cy_b (cy_is (F (4 * a + j)) b)) k
noncomputable def cy_rw (F : Nat → Int32) (ar : Nat → Nat) (a b : Nat) : Nat := cy_pr F a b (ar a)
def cy_ed (F : Nat → Int32) (ar : Nat → Nat) (V : Nat → Prop) (a b : Nat) : Prop := V a ∧ cy_rw F ar a b ≠ 0
noncomputable def cy_rt (O : Nat → Int32) (R x : Nat) : Nat := cy_sm (fun r => cy_b (cy_is (O r) x)) R
noncomputable def cy_ins (F : Nat → Int32) (ar : Nat → Nat) (N : Nat) (V : Nat → Prop) (x : Nat) : Nat := cy_sm (fun y => cy_g (V y) (cy_rw F ar y x)) N
noncomputable def cy_ct (F : Nat → Int32) (ar : Nat → Nat) (O : Nat → Int32) (R N : Nat) (V : Nat → Prop) (x : Nat) : Nat := cy_rt O R x + cy_ins F ar N V x
def cy_vl (V : Nat → Prop) (v : Int32) : Prop := v = -1 ∨ ∃ y, V y ∧ y < 32 ∧ v = nI y
def cy_ok (F : Nat → Int32) (ar : Nat → Nat) (N : Nat) (V : Nat → Prop) : Prop := ∀ x, V x → x < N ∧ ar x ≤ 4 ∧ ∀ k, k < ar x → cy_vl V (F (4 * x + k))
def cy_ro (O : Nat → Int32) (R : Nat) (V : Nat → Prop) : Prop := ∀ r, r < R → cy_vl V (O r)
theorem cy_pr_s (F : Nat → Int32) (a b k : Nat) : cy_pr F a b (k + 1) = cy_pr F a b k + cy_b (cy_is (F (4 * a + k)) b) := rfl
theorem cy_pr_t {F : Nat → Int32} {a b k : Nat} (h : cy_is (F (4 * a + k)) b) : cy_pr F a b (k + 1) = cy_pr F a b k + 1 := by rw [cy_pr_s, cy_bt h]
theorem cy_pr_f {F : Nat → Int32} {a b k : Nat} (h : ¬ cy_is (F (4 * a + k)) b) : cy_pr F a b (k + 1) = cy_pr F a b k := by rw [cy_pr_s, cy_bf h]; rfl
theorem cy_pr_le {F : Nat → Int32} {ar : Nat → Nat} {a b k : Nat} (h : k ≤ ar a) : cy_pr F a b k ≤ cy_rw F ar a b := cy_sm_mono h
theorem cy_rw_nz {F : Nat → Int32} {ar : Nat → Nat} {a b k : Nat} (hk : k < ar a) (h : cy_is (F (4 * a + k)) b) : cy_rw F ar a b ≠ 0 :=
  cy_sm_nz (f := fun j => cy_b (cy_is (F (4 * a + j)) b)) hk (by rw [cy_bt h]; omega)
theorem cy_rw_ex {F : Nat → Int32} {ar : Nat → Nat} {a b : Nat} (h : cy_rw F ar a b ≠ 0) : ∃ k, k < ar a ∧ cy_is (F (4 * a + k)) b := by
  obtain ⟨k, hk, e⟩ := cy_sm_ex h
  exact ⟨k, hk, cy_bn e⟩
theorem cy_rw_4 {F : Nat → Int32} {ar : Nat → Nat} {a b : Nat} (h : ar a ≤ 4) : cy_rw F ar a b ≤ 4 := by
  have := cy_sm_mul (f := fun j => cy_b (cy_is (F (4 * a + j)) b)) (c := 1) (n := ar a) (fun j _ => cy_b1 _)
  have e : cy_rw F ar a b = cy_sm (fun j => cy_b (cy_is (F (4 * a + j)) b)) (ar a) := rfl
  omega
theorem cy_vl_is {V : Nat → Prop} {v : Int32} {x : Nat} (h : cy_vl V v) (k : cy_is v x) : V x := by
  rcases h with h | ⟨y, hy, h32, h⟩
  · rw [h] at k; exact (cy_is_m1 k).elim
  · rw [cy_is_u k ⟨h32, h⟩]; exact hy
theorem cy_ok_rw {F : Nat → Int32} {ar : Nat → Nat} {N : Nat} {V : Nat → Prop} {a b : Nat} (h : cy_ok F ar N V) (ha : V a) (e : cy_rw F ar a b ≠ 0) : V b := by
  obtain ⟨k, hk, e⟩ := cy_rw_ex e
  exact cy_vl_is ((h a ha).2.2 k hk) e
theorem cy_ro_rt {O : Nat → Int32} {R : Nat} {V : Nat → Prop} {x : Nat} (h : cy_ro O R V) (e : cy_rt O R x ≠ 0) : V x := by
  obtain ⟨k, hk, e⟩ := cy_sm_ex e
  exact cy_vl_is (h k hk) (cy_bn e)
theorem cy_rt_nz {O : Nat → Int32} {R r x : Nat} (hr : r < R) (h : cy_is (O r) x) : cy_rt O R x ≠ 0 :=
  cy_sm_nz (f := fun j => cy_b (cy_is (O j) x)) hr (by rw [cy_bt h]; omega)
section
variable {F : Nat → Int32} {ar : Nat → Nat} {O : Nat → Int32} {R N : Nat} {V : Nat → Prop}
theorem cy_ins_nz {x y : Nat} (hy : V y) (hN : y < N) (h : cy_rw F ar y x ≠ 0) : cy_ins F ar N V x ≠ 0 :=
  cy_sm_nz (f := fun y => cy_g (V y) (cy_rw F ar y x)) hN (by rw [cy_gt hy]; exact h)
theorem cy_ins_ex {x : Nat} (h : cy_ins F ar N V x ≠ 0) : ∃ y, V y ∧ cy_rw F ar y x ≠ 0 := by
  obtain ⟨y, _, e⟩ := cy_sm_ex h
  rcases Classical.em (V y) with z | z
  · rw [cy_gt z] at e; exact ⟨y, z, e⟩
  · rw [cy_gf z] at e; exact absurd rfl e
theorem cy_ins_eq {V' : Nat → Prop} {x : Nat} (h : ∀ y, y < N → (V y ↔ V' y)) : cy_ins F ar N V x = cy_ins F ar N V' x :=
  cy_sm_eq fun j hj => cy_ge (h j hj)
theorem cy_ct_nz {x : Nat} (h : cy_ct F ar O R N V x ≠ 0) : cy_rt O R x ≠ 0 ∨ ∃ y, V y ∧ cy_rw F ar y x ≠ 0 := by
  rcases Nat.eq_zero_or_pos (cy_rt O R x) with z | z
  · refine Or.inr (cy_ins_ex (F := F) (ar := ar) (N := N) (V := V) (x := x) ?_)
    intro y; apply h; show cy_rt O R x + cy_ins F ar N V x = 0; omega
  · exact Or.inl (by omega)
theorem cy_ct_0 {x : Nat} (hV : ∀ y, V y → y < N) (h : cy_ct F ar O R N V x = 0) : cy_rt O R x = 0 ∧ ∀ y, V y → cy_rw F ar y x = 0 := by
  have h' : cy_rt O R x + cy_ins F ar N V x = 0 := h
  refine ⟨by omega, fun y hy => ?_⟩
  rcases Nat.eq_zero_or_pos (cy_rw F ar y x) with z | z
  · exact z
  · have := cy_ins_nz (F := F) (ar := ar) (N := N) (x := x) hy (hV y hy) (by omega)
    omega
theorem cy_ins_rm {x d : Nat} (hd : V d) (hN : d < N) : cy_ins F ar N (fun y => V y ∧ y ≠ d) x + cy_rw F ar d x = cy_ins F ar N V x := by
  have h := cy_sm_up (f := fun y => cy_g (V y ∧ y ≠ d) (cy_rw F ar y x)) (g := fun y => cy_g (V y) (cy_rw F ar y x)) (i := d) (n := N) hN (fun j _ hj => cy_ge ⟨fun z => z.1, fun z => ⟨z, hj⟩⟩)
  have e1 : cy_g (V d ∧ d ≠ d) (cy_rw F ar d x) = 0 := cy_gf (fun z => z.2 rfl)
  have e2 : cy_g (V d) (cy_rw F ar d x) = cy_rw F ar d x := cy_gt hd
  simp only [e1, e2] at h
  exact h
theorem cy_ct_rm {x d : Nat} (hd : V d) (hN : d < N) : cy_ct F ar O R N (fun y => V y ∧ y ≠ d) x + cy_rw F ar d x = cy_ct F ar O R N V x := by
  have h := cy_ins_rm (F := F) (ar := ar) (x := x) hd hN
  show cy_rt O R x + cy_ins F ar N (fun y => V y ∧ y ≠ d) x + cy_rw F ar d x = cy_rt O R x + cy_ins F ar N V x
  omega
theorem cy_ins_df {D : Nat → Prop} {x : Nat} (h : ∀ y, D y → V y) : cy_ins F ar N (fun y => V y ∧ ¬ D y) x + cy_ins F ar N D x = cy_ins F ar N V x := by
  have a := cy_sm_ad (f := fun y => cy_g (V y ∧ ¬ D y) (cy_rw F ar y x)) (g := fun y => cy_g (D y) (cy_rw F ar y x)) (n := N)
  have b : cy_sm (fun y => cy_g (V y ∧ ¬ D y) (cy_rw F ar y x) + cy_g (D y) (cy_rw F ar y x)) N = cy_ins F ar N V x := by
    refine cy_sm_eq fun j hj => ?_
    rcases Classical.em (D j) with z | z
    · rw [cy_gt z, cy_gf (fun y => y.2 z), cy_gt (h j z)]; omega
    · rcases Classical.em (V j) with y | y
      · rw [cy_gf z, cy_gt ⟨y, z⟩, cy_gt y]; omega
      · rw [cy_gf z, cy_gf (fun t => y t.1), cy_gf y]
  show cy_sm (fun y => cy_g (V y ∧ ¬ D y) (cy_rw F ar y x)) N + cy_sm (fun y => cy_g (D y) (cy_rw F ar y x)) N = cy_ins F ar N V x
  omega
theorem cy_ct_bd (x : Nat) (h : cy_ok F ar N V) (hR : R ≤ 8) (hN : N ≤ 32) : cy_ct F ar O R N V x ≤ 136 := by
  have a := cy_sm_mul (f := fun r => cy_b (cy_is (O r) x)) (c := 1) (n := R) (fun j _ => cy_b1 _)
  have b := cy_sm_mul (f := fun y => cy_g (V y) (cy_rw F ar y x)) (c := 4) (n := N) (fun j _ => by
    rcases Classical.em (V j) with z | z
    · rw [cy_gt z]; exact cy_rw_4 (h j z).2.1
    · rw [cy_gf z]; omega)
  show cy_sm (fun r => cy_b (cy_is (O r) x)) R + cy_sm (fun y => cy_g (V y) (cy_rw F ar y x)) N ≤ 136
  omega
end
/-- T keeps itself alive -/
def cy_ss (F : Nat → Int32) (ar : Nat → Nat) (O : Nat → Int32) (R : Nat) (T : Nat → Prop) : Prop := ∀ x, T x → cy_rt O R x ≠ 0 ∨ ∃ y, T y ∧ cy_rw F ar y x ≠ 0
/-- every self-supporting part of L lies in V -/
def cy_gb (F : Nat → Int32) (ar : Nat → Nat) (O : Nat → Int32) (R : Nat) (L V : Nat → Prop) : Prop := ∀ T, cy_ss F ar O R T → (∀ x, T x → L x) → ∀ x, T x → V x
def cy_gs (F : Nat → Int32) (ar : Nat → Nat) (O : Nat → Int32) (R N : Nat) (L V : Nat → Prop) : Prop := (∀ x, V x → L x) ∧ (∀ x, V x → cy_ct F ar O R N V x ≠ 0) ∧ cy_gb F ar O R L V
theorem cy_gs_u {F : Nat → Int32} {ar : Nat → Nat} {O : Nat → Int32} {R N : Nat} {L V V' : Nat → Prop} (h : cy_gs F ar O R N L V) (k : cy_gs F ar O R N L V') : ∀ x, V x ↔ V' x :=
  fun x => ⟨k.2.2 V (fun y hy => cy_ct_nz (h.2.1 y hy)) h.1 x, h.2.2 V' (fun y hy => cy_ct_nz (k.2.1 y hy)) k.1 x⟩
theorem cy_gb_rm {F : Nat → Int32} {ar : Nat → Nat} {O : Nat → Int32} {R N d : Nat} {L V : Nat → Prop} (hV : ∀ y, V y → y < N) (h : cy_gb F ar O R L V) (e : cy_ct F ar O R N V d = 0) : cy_gb F ar O R L (fun x => V x ∧ x ≠ d) := by
  intro T hT hL x hx
  refine ⟨h T hT hL x hx, fun z => ?_⟩
  rw [z] at hx
  obtain ⟨e1, e2⟩ := cy_ct_0 hV e
  rcases hT d hx with t | ⟨y, hy, t⟩
  · exact t e1
  · exact t (e2 y (h T hT hL y hy))
/-- the state of counts while references are being dropped: V survives or waits in P, X is what is still to be dropped -/
def cx_S (F : Nat → Int32) (ar : Nat → Nat) (O : Nat → Int32) (R N : Nat) (V : Nat → Prop) (X : Nat → Nat) (P C : Nat → Prop) (rf : Nat → Int32) : Prop :=
  cy_ok F ar N V ∧ cy_ro O R V ∧ (∀ x, X x ≠ 0 → V x) ∧ (∀ x, V x → rf x = nI (cy_ct F ar O R N V x + X x)) ∧ (∀ x, P x ↔ V x ∧ cy_ct F ar O R N V x + X x = 0) ∧ (∀ x, V x → cy_rc (cy_ed F ar V) (fun a => cy_rt O R a ≠ 0 ∨ C a ∨ P a ∨ X a ≠ 0) x)
section
variable {F : Nat → Int32} {ar : Nat → Nat} {O : Nat → Int32} {R N : Nat} {V : Nat → Prop} {X : Nat → Nat} {P C : Nat → Prop} {rf : Nat → Int32}
theorem cx_S_dp {c : Nat} {X' : Nat → Nat} (hX' : ∀ x, X' x = X x - cy_b (x = c)) (h : cx_S F ar O R N V X P C rf) (hX : X c ≠ 0) (e : cy_ct F ar O R N V c + (X c - 1) = 0) : cx_S F ar O R N V X' (fun x => P x ∨ x = c) C (upd rf c (rf c - 1)) := by
  obtain ⟨h1, h2, h3, h4, h5, h6⟩ := h
  have hc := h3 c hX
  have ec : cy_b (c = c) = 1 := cy_bt rfl
  refine ⟨h1, h2, fun x hx => h3 x (fun z => ?_), fun x hx => ?_, fun x => ⟨fun z => ?_, fun z => ?_⟩, fun x hx => ?_⟩
  · rw [hX' x, z] at hx; omega
  · rcases Nat.decEq x c with z | z
    · rw [cy_un z, hX' x, cy_bf z]; exact h4 x hx
    · subst z
      rw [cy_us, h4 x hx, hX' x, cy_bt rfl]
      have t : cy_ct F ar O R N V x + X x = cy_ct F ar O R N V x + (X x - 1) + 1 := by omega
      rw [t, nI_pred]
  · rcases Nat.decEq x c with y | y
    · rw [hX' x, cy_bf y]
      exact (h5 x).mp (z.resolve_right y)
    · subst y
      rw [hX' x, ec]; exact ⟨hc, e⟩
  · rcases Nat.decEq x c with y | y
    · rw [hX' x, cy_bf y] at z
      exact Or.inl ((h5 x).mpr z)
    · exact Or.inr y
  · refine cy_rc_m (h6 x hx) (fun a ha => cy_rc_0 ?_)
    rcases ha with z | z | z | z
    · exact Or.inl z
    · exact Or.inr (Or.inl z)
    · exact Or.inr (Or.inr (Or.inl (Or.inl z)))
    · rcases Nat.decEq a c with y | y
      · exact Or.inr (Or.inr (Or.inr (by rw [hX' a, cy_bf y]; exact z)))
      · exact Or.inr (Or.inr (Or.inl (Or.inr y)))
theorem cx_S_dc {c : Nat} {X' : Nat → Nat} (hX' : ∀ x, X' x = X x - cy_b (x = c)) (h : cx_S F ar O R N V X P C rf) (hX : X c ≠ 0) (e : cy_ct F ar O R N V c + (X c - 1) ≠ 0) : cx_S F ar O R N V X' P (fun x => C x ∨ x = c) (upd rf c (rf c - 1)) := by
  obtain ⟨h1, h2, h3, h4, h5, h6⟩ := h
  have hc := h3 c hX
  have ec : cy_b (c = c) = 1 := cy_bt rfl
  refine ⟨h1, h2, fun x hx => h3 x (fun z => ?_), fun x hx => ?_, fun x => ⟨fun z => ?_, fun z => ?_⟩, fun x hx => ?_⟩
  · rw [hX' x, z] at hx; omega
  · rcases Nat.decEq x c with z | z
    · rw [cy_un z, hX' x, cy_bf z]; exact h4 x hx
    · subst z
      rw [cy_us, h4 x hx, hX' x, cy_bt rfl]
      have t : cy_ct F ar O R N V x + X x = cy_ct F ar O R N V x + (X x - 1) + 1 := by omega
      rw [t, nI_pred]
  · rcases Nat.decEq x c with y | y
    · rw [hX' x, cy_bf y]
      exact (h5 x).mp z
    · subst y
      have := ((h5 x).mp z).2
      omega
  · rcases Nat.decEq x c with y | y
    · rw [hX' x, cy_bf y] at z
      exact (h5 x).mpr z
    · subst y
      rw [hX' x, ec] at z; exact absurd z.2 e
  · refine cy_rc_m (h6 x hx) (fun a ha => cy_rc_0 ?_)
    rcases ha with z | z | z | z
    · exact Or.inl z
    · exact Or.inr (Or.inl (Or.inl z))
    · exact Or.inr (Or.inr (Or.inl z))
    · rcases Nat.decEq a c with y | y
      · exact Or.inr (Or.inr (Or.inr (by rw [hX' a, cy_bf y]; exact z)))
      · exact Or.inr (Or.inl (Or.inr y))
theorem cx_S_pop {d : Nat} (h : cx_S F ar O R N V (fun _ => 0) P C rf) (hd : P d) : cx_S F ar O R N (fun x => V x ∧ x ≠ d) (fun x => cy_rw F ar d x) (fun x => P x ∧ x ≠ d) C rf := by
  obtain ⟨h1, h2, h3, h4, h5, h6⟩ := h
  have hVd := ((h5 d).mp hd).1
  have e0 : cy_ct F ar O R N V d = 0 := ((h5 d).mp hd).2
  obtain ⟨e1, e2⟩ := cy_ct_0 (fun y hy => (h1 y hy).1) e0
  have hN := (h1 d hVd).1
  have er : ∀ x, cy_ct F ar O R N (fun y => V y ∧ y ≠ d) x + cy_rw F ar d x = cy_ct F ar O R N V x := fun x => cy_ct_rm hVd hN
  have vl : ∀ v, cy_vl V v → ¬ cy_is v d → cy_vl (fun y => V y ∧ y ≠ d) v := by
    intro v hv hn
    rcases hv with z | ⟨y, hy, h32, z⟩
    · exact Or.inl z
    · exact Or.inr ⟨y, ⟨hy, fun t => hn (t ▸ ⟨h32, z⟩)⟩, h32, z⟩
  have nd : ∀ x, V x → cy_rw F ar d x ≠ 0 → x ≠ d := by
    intro x hx hr z
    rw [z] at hr
    exact hr (e2 d hVd)
  refine ⟨fun x hx => ⟨(h1 x hx.1).1, (h1 x hx.1).2.1, fun k hk => vl _ ((h1 x hx.1).2.2 k hk) (fun t => ?_)⟩, fun r hr => vl _ (h2 r hr) (fun t => ?_), fun x hx => ?_, fun x hx => ?_, fun x => ⟨fun z => ?_, fun z => ?_⟩, fun x hx => ?_⟩
  · exact cy_rw_nz hk t (e2 x hx.1)
  · exact cy_rt_nz hr t e1
  · have hv := cy_ok_rw h1 hVd hx
    exact ⟨hv, nd x hv hx⟩
  · rw [er x]; exact h4 x hx.1
  · have := (h5 x).mp z.1
    refine ⟨⟨this.1, z.2⟩, ?_⟩
    rw [er x]; exact this.2
  · rw [er x] at z
    exact ⟨(h5 x).mpr ⟨z.1.1, z.2⟩, z.1.2⟩
  · have key := h6 x hx.1 (fun a => a = d ∨ cy_rc (cy_ed F ar (fun x => V x ∧ x ≠ d)) (fun a => cy_rt O R a ≠ 0 ∨ C a ∨ (P a ∧ a ≠ d) ∨ cy_rw F ar d a ≠ 0) a) ?_ ?_
    · exact key.resolve_left hx.2
    · intro a ha
      rcases Nat.decEq a d with y | y
      · refine Or.inr (cy_rc_0 ?_)
        rcases ha with z | z | z | z
        · exact Or.inl z
        · exact Or.inr (Or.inl z)
        · exact Or.inr (Or.inr (Or.inl ⟨z, y⟩))
        · exact absurd rfl z
      · exact Or.inl y
    · intro a b ha hab
      rcases Nat.decEq a d with y | y
      · exact Or.inr (cy_rc_s (ha.resolve_left y) ⟨⟨hab.1, y⟩, hab.2⟩)
      · rw [y] at hab
        exact Or.inr (cy_rc_0 (Or.inr (Or.inr (Or.inr hab.2))))
end
end
section
/-! The concrete cells against the set L of live objects; the candidate buffer -/
noncomputable def cy_fz (L : Nat → Prop) (v : Int32) : Int32 := @ite Int32 (∃ x, cy_is v x ∧ ¬ L x) (Classical.propDecidable _) (-2) v
theorem cy_fz_t {L : Nat → Prop} {v : Int32} {x : Nat} (h : cy_is v x) (hL : ¬ L x) : cy_fz L v = -2 := by unfold cy_fz; rw [if_pos ⟨x, h, hL⟩]
theorem cy_fz_f {L : Nat → Prop} {v : Int32} (h : ∀ x, cy_is v x → L x) : cy_fz L v = v := by
  unfold cy_fz; rw [if_neg (fun ⟨x, a, b⟩ => b (h x a))]
/-- a weak slot's value when object d goes -/
def cy_dd (d : Nat) (v : Int32) : Int32 := if v = nI d then -2 else v
theorem cy_fz_rm {L : Nat → Prop} {d : Nat} (hd : d < 32) (hL : L d) (v : Int32) : cy_fz (fun x => L x ∧ x ≠ d) v = cy_dd d (cy_fz L v) := by
  rcases Classical.em (∃ x, cy_is v x ∧ ¬ L x) with ⟨x, hx, hn⟩ | z
  · rw [cy_fz_t hx hn, cy_fz_t hx (fun t => hn t.1)]
    unfold cy_dd
    rw [if_neg]
    exact fun e => cy_n2 hd e.symm
  · have zz : ∀ x, cy_is v x → L x := fun x hx => Classical.byContradiction fun hn => z ⟨x, hx, hn⟩
    rw [cy_fz_f zz]
    unfold cy_dd
    rcases Classical.em (v = nI d) with e | e
    · rw [if_pos e, cy_fz_t (x := d) ⟨hd, e⟩ (fun t => t.2 rfl)]
    · rw [if_neg e, cy_fz_f]
      exact fun x hx => ⟨zz x hx, fun t => e (t ▸ hx.2)⟩
theorem cy_fz_e {L L' : Nat → Prop} (h : ∀ x, L x ↔ L' x) (v : Int32) : cy_fz L v = cy_fz L' v := by
  have : L = L' := funext fun x => propext (h x)
  rw [this]
/-- X's cells hold the live set L -/
def cx_B (N W : Nat) (ar : Nat → Nat) (tg wk : Nat → Int32) (k1 k2 : Int32) (L : Nat → Prop) (nL wd tT : Int32) (aL aA aT aW : Nat → Int32) : Prop :=
  (∀ x, L x → x < N) ∧ (∀ x, x < 32 → aL x = cy_gi (L x) 1) ∧ (∀ x, L x → aA x = nI (ar x) ∧ aT x = tg x) ∧ nL = nI (cy_n L N) ∧ wd + cy_si (fun x => cy_gi (L x) (nI (ar x))) N = k1 ∧ tT + cy_si (fun x => cy_gi (L x) (tg x)) N = k2 ∧ (∀ w, w < W → aW w = cy_fz L (wk w))
/-- Y's cells hold the live set L -/
def cw_B (N W : Nat) (ar : Nat → Nat) (tg wk : Nat → Int32) (k2 : Int32) (L : Nat → Prop) (uT : Int32) (bL bA bT bW : Nat → Int32) : Prop :=
  (∀ x, L x → x < N) ∧ (∀ x, x < 32 → bL x = cy_gi (L x) 1) ∧ (∀ x, L x → bA x = nI (ar x) ∧ bT x = tg x) ∧ uT + cy_si (fun x => cy_gi (L x) (tg x)) N = k2 ∧ (∀ w, w < W → bW w = cy_fz L (wk w))
theorem cy_si_rm {L : Nat → Prop} {g : Nat → Int32} {N d : Nat} (hd : L d) (hN : d < N) (t : Int32) : t + g d + cy_si (fun x => cy_gi (L x ∧ x ≠ d) (g x)) N = t + cy_si (fun x => cy_gi (L x) (g x)) N := by
  have h := cy_si_up (f := fun x => cy_gi (L x ∧ x ≠ d) (g x)) (g := fun x => cy_gi (L x) (g x)) (i := d) (n := N) hN (fun j _ hj => cy_gie ⟨fun z => z.1, fun z => ⟨z, hj⟩⟩)
  have e1 : cy_gi (L d ∧ d ≠ d) (g d) = 0 := cy_gif (fun z => z.2 rfl)
  have e2 : cy_gi (L d) (g d) = g d := cy_git hd
  simp only [e1, e2] at h
  grind
theorem cx_B_rm {N W d : Nat} {ar : Nat → Nat} {tg wk : Nat → Int32} {k1 k2 : Int32} {L : Nat → Prop} {nL wd tT : Int32} {aL aA aT aW aW' : Nat → Int32} (hN : N ≤ 32) (h : cx_B N W ar tg wk k1 k2 L nL wd tT aL aA aT aW) (hd : L d) (hw : ∀ w, w < W → aW' w = cy_dd d (aW w)) : cx_B N W ar tg wk k1 k2 (fun x => L x ∧ x ≠ d) (nL - 1) (wd + aA d) (tT + aT d) (upd aL d 0) (upd aA d 0) (upd aT d 0) aW' := by
  obtain ⟨h1, h2, h3, h4, h5, h6, h7⟩ := h
  have hdN := h1 d hd
  refine ⟨fun x hx => h1 x hx.1, fun x hx => ?_, fun x hx => ?_, ?_, ?_, ?_, fun w hw' => ?_⟩
  · rcases Nat.decEq x d with z | z
    · rw [cy_un z, h2 x hx]
      exact cy_gie ⟨fun t => ⟨t, z⟩, fun t => t.1⟩
    · subst z
      rw [cy_us, cy_gif (fun t => t.2 rfl)]
  · rw [cy_un hx.2, cy_un hx.2]
    exact h3 x hx.1
  · rw [h4, ← cy_n_sub hd hdN, nI_pred]
  · rw [(h3 d hd).1, ← h5]
    exact cy_si_rm (g := fun x => nI (ar x)) hd hdN wd
  · rw [(h3 d hd).2, ← h6]
    exact cy_si_rm (g := tg) hd hdN tT
  · rw [hw w hw', h7 w hw']
    exact (cy_fz_rm (by omega) hd _).symm
theorem cw_B_rm {N W d : Nat} {ar : Nat → Nat} {tg wk : Nat → Int32} {k2 : Int32} {L : Nat → Prop} {uT : Int32} {bL bA bT bW bW' : Nat → Int32} (hN : N ≤ 32) (h : cw_B N W ar tg wk k2 L uT bL bA bT bW) (hd : L d) (hw : ∀ w, w < W → bW' w = cy_dd d (bW w)) : cw_B N W ar tg wk k2 (fun x => L x ∧ x ≠ d) (uT + bT d) (upd bL d 0) bA bT bW' := by
  obtain ⟨h1, h2, h3, h6, h7⟩ := h
  have hdN := h1 d hd
  refine ⟨fun x hx => h1 x hx.1, fun x hx => ?_, fun x hx => h3 x hx.1, ?_, fun w hw' => ?_⟩
  · rcases Nat.decEq x d with z | z
    · rw [cy_un z, h2 x hx]
      exact cy_gie ⟨fun t => ⟨t, z⟩, fun t => t.1⟩
    · subst z
      rw [cy_us, cy_gif (fun t => t.2 rfl)]
  · rw [(h3 d hd).2, ← h6]
    exact cy_si_rm (g := tg) hd hdN uT
  · rw [hw w hw', h7 w hw']
    exact (cy_fz_rm (by omega) hd _).symm
/-- the candidate buffer holds the set C -/
def cx_C (C : Nat → Prop) (cC : Int32) (aC aI : Nat → Int32) : Prop :=
  ∃ m, cC = nI m ∧ cy_en m aC C ∧ (∀ i x, i < m → cy_is (aC i) x → aI x = nI i) ∧ (∀ x, x < 32 → ¬ C x → aI x = -1)
theorem cx_C_c {C D : Nat → Prop} {cC : Int32} {aC aI : Nat → Int32} (e : ∀ x, C x ↔ D x) (h : cx_C C cC aC aI) : cx_C D cC aC aI := by
  have : C = D := funext fun x => propext (e x)
  rw [← this]; exact h
theorem cx_C_add {C : Nat → Prop} {m c : Nat} {aC aI : Nat → Int32} (hc : c < 32) (hn : ¬ C c) (h1 : cy_en m aC C) (h2 : ∀ i x, i < m → cy_is (aC i) x → aI x = nI i) (h3 : ∀ x, x < 32 → ¬ C x → aI x = -1) : cx_C (fun x => C x ∨ x = c) (nI m + 1) (upd aC m (nI c)) (upd aI c (nI m)) := by
  refine ⟨m + 1, nI_1 m, cy_en_push h1 hc hn, fun i x hi hx => ?_, fun x hx hC => ?_⟩
  · rcases Nat.decEq i m with z | z
    · rw [cy_un z] at hx
      obtain ⟨y, hy, e⟩ := h1.2.1 i (by omega)
      have exy := cy_is_u hx ⟨(h1.1 y hy).1, e⟩
      have hxc : x ≠ c := fun t => hn (by rw [← t, exy]; exact hy)
      rw [cy_un hxc]
      exact h2 i x (by omega) hx
    · subst z
      rw [cy_us] at hx
      have := cy_is_u hx ⟨hc, rfl⟩
      rw [this, cy_us]
  · rw [cy_un (fun t => hC (Or.inr t))]
    exact h3 x hx (fun t => hC (Or.inl t))
theorem cx_C_rm {C : Nat → Prop} {m i c l : Nat} {aC aI : Nat → Int32} (hc : c < 32) (hC : C c) (h1 : cy_en (m + 1) aC C) (h2 : ∀ i x, i < m + 1 → cy_is (aC i) x → aI x = nI i) (h3 : ∀ x, x < 32 → ¬ C x → aI x = -1) (hi : i < m + 1) (ei : aC i = nI c) (hl : l < 32) (el : aC m = nI l) : cx_C (fun x => C x ∧ x ≠ c) (nI m) (upd aC i (aC m)) (upd (upd aI l (nI i)) c (-1)) := by
  have hCl : C l := by
    obtain ⟨y, hy, e⟩ := h1.2.1 m (by omega)
    have := cy_is_u (v := aC m) ⟨hl, el⟩ ⟨(h1.1 y hy).1, e⟩
    rw [this]; exact hy
  refine ⟨m, rfl, cy_en_rm h1 hi ei hC, fun j x hj hx => ?_, fun x hx hn => ?_⟩
  · rcases Nat.decEq j i with z | z
    · rw [cy_un z] at hx
      have hxc : x ≠ c := by
        intro t; rw [t] at hx
        exact z (h1.2.2 j i (by omega) hi (hx.2.trans ei.symm))
      have hxl : x ≠ l := by
        intro t; rw [t] at hx
        have := h1.2.2 j m (by omega) (by omega) (hx.2.trans el.symm)
        omega
      rw [cy_un hxc, cy_un hxl]
      exact h2 j x (by omega) hx
    · subst z
      rw [cy_us] at hx
      have exl : x = l := cy_is_u hx ⟨hl, el⟩
      have hxc : x ≠ c := by
        intro t; rw [t] at hx
        have := h1.2.2 m j (by omega) hi (hx.2.trans ei.symm)
        omega
      rw [cy_un hxc, exl, cy_us]
  · rcases Nat.decEq x c with z | z
    · have hxC : ¬ C x := fun t => hn ⟨t, z⟩
      have hxl : x ≠ l := fun t => hxC (by rw [t]; exact hCl)
      rw [cy_un z, cy_un hxl]
      exact h3 x hx hxC
    · rw [z, cy_us]
end
section
/-! X's small walks: the candidate buffer, closeCell, dropReference -/
section
variable {oL rL wL nL wd cC pC mC zH sC tS tC tT tF : Int32} {aL aA aT aR aF aO aW aC aI aP aM aK aE aH aS : Nat → Int32} {post : SX → Prop}
theorem cx_addC {C : Nat → Prop} {c : Nat} (hc : c < 32) (hC : cx_C C cC aC aI) (K : ∀ cC' aC' aI', cx_C (fun x => C x ∨ x = c) cC' aC' aI' → post (oL, rL, wL, nL, wd, cC', pC, mC, zH, sC, tS, tC, tT, tF, aL, aA, aT, aR, aF, aO, aW, aC', aI', aP, aM, aK, aE, aH, aS)) : wpX_addCandidate post (oL, rL, wL, nL, wd, cC, pC, mC, zH, sC, tS, tC, tT, tF, aL, aA, aT, aR, aF, aO, aW, aC, aI, aP, aM, aK, aE, aH, aS) (nI c) := by
  obtain ⟨m, em, h1, h2, h3⟩ := hC
  have ecl := cy_cl (n := c) (by omega)
  have hin : vp_in (nI c) 32 := vp_in_nI hc (by omega)
  refine br_f (nI_pos (by omega)) ⟨hin, ?_⟩
  rcases Classical.em (C c) with z | z
  · obtain ⟨_, i, hi, e⟩ := h1.1 c z
    have hi32 := cy_en_le h1
    refine br_t ?_ (K _ _ _ (cx_C_c (fun x => ⟨Or.inl, fun t => t.elim id (fun e => e ▸ z)⟩) ⟨m, em, h1, h2, h3⟩))
    rw [ecl, h2 i c hi ⟨hc, e⟩]
    exact nI_pos' (by omega)
  · have hm := cy_en_lt h1 hc z
    refine br_f ?_ (br_f ?_ ⟨?_, fun aC' eC => ⟨hin, fun aI' eI => fun cC' ec => ?_⟩⟩)
    · rw [ecl, h3 c hc z]; decide
    · rw [em]; exact nI_ge (b := 32) hm (by decide)
    · rw [em]; exact vp_in_nI hm (by omega)
    · rw [em, cy_cl (by omega)] at eC
      rw [em, ecl] at eI
      rw [em] at ec
      refine K cC' aC' aI' ?_
      rw [eC, eI, ec]
      exact cx_C_add hc z h1 h2 h3
theorem cx_addC1 (K : post (oL, rL, wL, nL, wd, cC, pC, mC, zH, sC, tS, tC, tT, tF, aL, aA, aT, aR, aF, aO, aW, aC, aI, aP, aM, aK, aE, aH, aS)) : wpX_addCandidate post (oL, rL, wL, nL, wd, cC, pC, mC, zH, sC, tS, tC, tT, tF, aL, aA, aT, aR, aF, aO, aW, aC, aI, aP, aM, aK, aE, aH, aS) (-1) := br_t (by decide) K
theorem cx_remC {C : Nat → Prop} {c : Nat} (hc : c < 32) (hC : cx_C C cC aC aI) (K : ∀ cC' aC' aI', cx_C (fun x => C x ∧ x ≠ c) cC' aC' aI' → post (oL, rL, wL, nL, wd, cC', pC, mC, zH, sC, tS, tC, tT, tF, aL, aA, aT, aR, aF, aO, aW, aC', aI', aP, aM, aK, aE, aH, aS)) : wpX_removeCandidate post (oL, rL, wL, nL, wd, cC, pC, mC, zH, sC, tS, tC, tT, tF, aL, aA, aT, aR, aF, aO, aW, aC, aI, aP, aM, aK, aE, aH, aS) (nI c) := by
  obtain ⟨m, em, h1, h2, h3⟩ := hC
  have ecl := cy_cl (n := c) (by omega)
  have hin : vp_in (nI c) 32 := vp_in_nI hc (by omega)
  refine ⟨hin, fun x2 e2 => ?_⟩
  rw [ecl] at e2
  rcases Classical.em (C c) with z | z
  · obtain ⟨_, i, hi, e⟩ := h1.1 c z
    have hi32 := cy_en_le h1
    rw [h2 i c hi ⟨hc, e⟩] at e2
    obtain ⟨m', rfl⟩ : ∃ m', m = m' + 1 := ⟨m - 1, by omega⟩
    obtain ⟨l, hl, el⟩ := h1.2.1 m' (by omega)
    have hl32 := (h1.1 l hl).1
    subst e2
    refine br_f (nI_pos (by omega)) (br_t ?_ (fun cC' ec => ?_))
    · rw [em]; exact nI_lt (a := 0) (by omega) (by omega)
    · rw [em, nI_pred] at ec
      subst ec
      refine ⟨vp_in_nI (by omega) (by omega), fun x3 e3 => ⟨vp_in_nI (by omega) (by omega), fun aC' eC => ?_⟩⟩
      rw [cy_cl (by omega)] at e3 eC
      have e3' := e3.trans el
      refine ⟨?_, fun aI' eI => ⟨hin, fun aI'' eI' => ?_⟩⟩
      · rw [e3']; exact vp_in_nI hl32 (by omega)
      · rw [e3', cy_cl (by omega)] at eI
        rw [ecl] at eI'
        refine K _ _ _ ?_
        rw [eC, eI', eI, e3]
        exact cx_C_rm hc z h1 h2 h3 hi e hl32 el
  · rw [h3 c hc z] at e2
    subst e2
    exact br_t (by decide) (K _ _ _ (cx_C_c (fun x => ⟨fun t => ⟨t, fun e => z (e ▸ t)⟩, fun t => t.1⟩) ⟨m, em, h1, h2, h3⟩))
theorem cx_cl7 {W d : Nat} (hW : W ≤ 8) (ew : wL = nI W) (hd : d < 32) (K : ∀ nL' wd' tT' aL' aA' aT' aR' aW', nL' = nL - 1 → wd' = wd + aA d → tT' = tT + aT d → aL' = upd aL d 0 → aA' = upd aA d 0 → aT' = upd aT d 0 → aR' = upd aR d 0 → (∀ w, w < W → aW' w = cy_dd d (aW w)) → post (oL, rL, wL, nL', wd', cC, pC, mC, zH, sC, tS, tC, tT', tF, aL', aA', aT', aR', aF, aO, aW', aC, aI, aP, aM, aK, aE, aH, aS)) : ∀ n i aW', W - i < n → i ≤ W → (∀ j, j < i → aW' j = cy_dd d (aW j)) → (∀ j, i ≤ j → aW' j = aW j) → wX_closeCell_7 post (nI d) oL rL wL nL wd cC pC mC zH sC tS tC tT tF n (nI i) aL aA aT aR aF aO aW' aC aI aP aM aK aE aH aS
  | 0, i, aW', h, _, _, _ => by omega
  | n + 1, i, aW', h, hi, h1, h2 => by
    have ecl := cy_cl (n := d) (by omega)
    have hin : vp_in (nI d) 32 := vp_in_nI hd (by omega)
    have eci := cy_cl (n := i) (by omega)
    rcases Nat.lt_or_ge i W with z | z
    · have hini : vp_in (nI i) 8 := vp_in_nI (by omega) (by omega)
      refine br_f (by rw [ew]; exact nI_ge z (by omega)) ⟨hini, br_c (fun t => ⟨hini, fun aW'' e => nm_r (nI_1 i) ?_⟩) (fun t => nm_r (nI_1 i) ?_)⟩
      · rw [eci, h2 i (by omega)] at t
        rw [eci] at e
        refine cx_cl7 hW ew hd K n (i + 1) aW'' (by omega) (by omega) (fun j hj => ?_) (fun j hj => ?_)
        · rw [e]
          rcases Nat.decEq j i with y | y
          · rw [cy_un y]; exact h1 j (by omega)
          · rw [y, cy_us]; unfold cy_dd; rw [if_pos t]
        · rw [e, cy_un (by omega)]; exact h2 j (by omega)
      · rw [eci, h2 i (by omega)] at t
        refine cx_cl7 hW ew hd K n (i + 1) aW' (by omega) (by omega) (fun j hj => ?_) (fun j hj => h2 j (by omega))
        rcases Nat.decEq j i with y | y
        · exact h1 j (by omega)
        · rw [y, h2 i (by omega)]; unfold cy_dd; rw [if_neg t]
    · have e : i = W := by omega
      refine br_t (by rw [ew, e]; exact nI_le (by omega) (by omega)) ⟨hin, fun tT' e1 => ⟨hin, fun wd' e2 => fun nL' e3 => ⟨hin, fun aL' e4 => ⟨hin, fun aA' e5 => ⟨hin, fun aT' e6 => ⟨hin, fun aR' e7 => ?_⟩⟩⟩⟩⟩⟩
      rw [ecl] at e1 e2 e4 e5 e6 e7
      exact K nL' wd' tT' aL' aA' aT' aR' aW' e3 e2 e1 e4 e5 e6 e7 (fun w hw => h1 w (by omega))
theorem cx_close {N W d : Nat} {ar : Nat → Nat} {tg wk : Nat → Int32} {k1 k2 : Int32} {L C : Nat → Prop} (hN : N ≤ 32) (hW : W ≤ 8) (ew : wL = nI W) (hB : cx_B N W ar tg wk k1 k2 L nL wd tT aL aA aT aW) (hC : cx_C C cC aC aI) (hd : L d)
    (K : ∀ nL' wd' cC' tT' aL' aA' aT' aR' aW' aC' aI', cx_B N W ar tg wk k1 k2 (fun x => L x ∧ x ≠ d) nL' wd' tT' aL' aA' aT' aW' → cx_C (fun x => C x ∧ x ≠ d) cC' aC' aI' → aR' = upd aR d 0 → post (oL, rL, wL, nL', wd', cC', pC, mC, zH, sC, tS, tC, tT', tF, aL', aA', aT', aR', aF, aO, aW', aC', aI', aP, aM, aK, aE, aH, aS)) : wpX_closeCell post (oL, rL, wL, nL, wd, cC, pC, mC, zH, sC, tS, tC, tT, tF, aL, aA, aT, aR, aF, aO, aW, aC, aI, aP, aM, aK, aE, aH, aS) (nI d) := by
  have hd32 : d < 32 := by have := hB.1 d hd; omega
  unfold wpX_closeCell
  refine cx_remC hd32 hC (fun cC' aC' aI' hC' => ?_)
  refine Exists.intro (W + 1) ?_
  refine cx_cl7 hW ew hd32 ?_ (W + 1) 0 aW (by omega) (by omega) (fun j hj => by omega) (fun j _ => rfl)
  intro nL' wd' tT' aL' aA' aT' aR' aW' e1 e2 e3 e4 e5 e6 e7 e8
  refine K nL' wd' cC' tT' aL' aA' aT' aR' aW' aC' aI' ?_ hC' e7
  rw [e1, e2, e3, e4, e5, e6]
  exact cx_B_rm hN hB hd e8
/-- one reference to v is dropped -/
theorem cx_drop {F O : Nat → Int32} {ar : Nat → Nat} {R N : Nat} {V : Nat → Prop} {X : Nat → Nat} {P C : Nat → Prop} {p c : Nat} (hN : N ≤ 32) (hR : R ≤ 8) (hS : cx_S F ar O R N V X P C aR) (hX4 : ∀ x, X x ≤ 4) (hX : X c ≠ 0) (hC : cx_C C cC aC aI) (ep : pC = nI p) (hP : cy_en p aP P)
    (K : ∀ P' C' p' cC' aR' aC' aI' aP', (∀ x, x ≠ c → aR' x = aR x) → cx_S F ar O R N V (fun x => X x - cy_b (x = c)) P' C' aR' → cx_C C' cC' aC' aI' → (∀ x, C' x → C x ∨ x = c) → cy_en p' aP' P' → post (oL, rL, wL, nL, wd, cC', (nI p'), mC, zH, sC, tS, tC, tT, tF, aL, aA, aT, aR', aF, aO, aW, aC', aI', aP', aM, aK, aE, aH, aS)) : wpX_dropReference post (oL, rL, wL, nL, wd, cC, pC, mC, zH, sC, tS, tC, tT, tF, aL, aA, aT, aR, aF, aO, aW, aC, aI, aP, aM, aK, aE, aH, aS) (nI c) := by
  have hVc := hS.2.2.1 c hX
  have hcN := (hS.1 c hVc).1
  have hc : c < 32 := by omega
  have ecl := cy_cl (n := c) (by omega)
  have hin : vp_in (nI c) 32 := vp_in_nI hc (by omega)
  have hbd := cy_ct_bd (F := F) (ar := ar) (O := O) (R := R) (N := N) (V := V) c hS.1 hR hN
  have h4 := hX4 c
  have eR : aR c - 1 = nI (cy_ct F ar O R N V c + (X c - 1)) := by
    rw [hS.2.2.2.1 c hVc]
    have t : cy_ct F ar O R N V c + X c = cy_ct F ar O R N V c + (X c - 1) + 1 := by omega
    rw [t, nI_pred]
  refine br_t (nI_pos' (by omega)) ⟨hin, hin, fun aR' e1 => ⟨hin, ?_⟩⟩
  rw [ecl] at e1
  have eR' : aR' (nI c).toNatClampNeg = nI (cy_ct F ar O R N V c + (X c - 1)) := by rw [ecl, e1, cy_us, eR]
  have ho : ∀ x, x ≠ c → aR' x = aR x := fun x hx => by rw [e1, cy_un hx]
  rcases Nat.eq_zero_or_pos (cy_ct F ar O R N V c + (X c - 1)) with z | z
  · have hPc : ¬ P c := fun t => by have := ((hS.2.2.2.2.1 c).mp t).2; omega
    have hp := cy_en_lt hP hc hPc
    refine br_t (by rw [eR', z]; decide) (br_f ?_ ⟨?_, fun aP' e2 => fun pC' e3 => ?_⟩)
    · rw [ep]; exact nI_ge (b := 32) hp (by decide)
    · rw [ep]; exact vp_in_nI hp (by omega)
    · rw [ep, cy_cl (by omega)] at e2
      rw [ep, nI_1] at e3
      subst e3
      refine K (fun x => P x ∨ x = c) C (p + 1) cC aR' aC aI aP' ho ?_ hC (fun x hx => Or.inl hx) ?_
      · rw [e1]; exact cx_S_dp (fun _ => rfl) hS hX z
      · rw [e2]; exact cy_en_push hP hc hPc
  · refine br_f (by rw [eR']; exact nI_nle z (by omega)) ?_
    refine cx_addC hc hC (fun cC' aC' aI' hC' => ?_)
    subst ep
    refine K P (fun x => C x ∨ x = c) p cC' aR' aC' aI' aP ho ?_ hC' (fun x hx => hx) hP
    rw [e1]; exact cx_S_dc (fun _ => rfl) hS hX (by omega)
theorem cx_drop1 (K : post (oL, rL, wL, nL, wd, cC, pC, mC, zH, sC, tS, tC, tT, tF, aL, aA, aT, aR, aF, aO, aW, aC, aI, aP, aM, aK, aE, aH, aS)) : wpX_dropReference post (oL, rL, wL, nL, wd, cC, pC, mC, zH, sC, tS, tC, tT, tF, aL, aA, aT, aR, aF, aO, aW, aC, aI, aP, aM, aK, aE, aH, aS) (-1) := br_f (by decide) K
end
end
section
/-! X's settle -/
theorem cy_m4 (d : Nat) : nI d * 4 = nI (4 * d) := by
  rw [Nat.mul_comm]; exact (Int32.ofNat_mul d 4).symm
theorem cy_sub {a b : Nat} (h : b ≤ a) : nI a - nI b = nI (a - b) := by
  obtain ⟨c, rfl⟩ : ∃ c, a = c + b := ⟨a - b, by omega⟩
  rw [← nI_add, Int32.add_sub_cancel, Nat.add_sub_cancel]
/-- the place of field k of object d -/
theorem cy_at {d k : Nat} (hd : d < 32) (hk : k < 4) : vp_in (nI (4 * d) + nI k) 128 ∧ (nI (4 * d) + nI k).toNatClampNeg = 4 * d + k := by
  rw [nI_add]
  exact ⟨vp_in_nI (by omega) (by omega), cy_cl (by omega)⟩
section
variable {oL rL wL nL wd cC pC mC zH sC tS tC tT tF : Int32} {aL aA aT aR aF aO aW aC aI aP aM aK aE aH aS : Nat → Int32} {post : Int32 → SX → Prop}
theorem cx_set53 {J : Int32 → Int32 → Int32 → Int32 → Int32 → Int32 → Int32 → Int32 → Int32 → Int32 → Int32 → Int32 → Int32 → Int32 → Int32 → Int32 → (Nat → Int32) → (Nat → Int32) → (Nat → Int32) → (Nat → Int32) → (Nat → Int32) → (Nat → Int32) → (Nat → Int32) → (Nat → Int32) → (Nat → Int32) → (Nat → Int32) → (Nat → Int32) → (Nat → Int32) → (Nat → Int32) → (Nat → Int32) → (Nat → Int32) → Prop}
    {ar : Nat → Nat} {R N W d f s : Nat} {tg wk : Nat → Int32} {k1 k2 : Int32} {V L : Nat → Prop} (hN : N ≤ 32) (hR : R ≤ 8) (hW : W ≤ 8) (ew : wL = nI W) (hd : d < N) (hVd : ¬ V d) (hL : ∀ x, L x ↔ V x ∨ x = d) (ha : ar d ≤ 4) (hch : ∀ k, k < ar d → cy_vl V (aF (4 * d + k)))
    (hB : cx_B N W ar tg wk k1 k2 L nL wd tT aL aA aT aW)
    (K : ∀ nL' wd' cC' p' tT' aL' aA' aT' aR' aW' aC' aI' aP' P' C', cx_B N W ar tg wk k1 k2 V nL' wd' tT' aL' aA' aT' aW' → cx_C C' cC' aC' aI' → cx_S aF ar aO R N V (fun _ => 0) P' C' aR' → (∀ x, C' x → V x) → cy_en p' aP' P' → J (nI (f + 1)) (nI (s + 1)) oL rL wL nL' wd' cC' (nI p') mC zH sC tS tC tT' tF aL' aA' aT' aR' aF aO aW' aC' aI' aP' aM aK aE aH aS) :
    ∀ (n k p : Nat) (X : Nat → Nat) (P C : Nat → Prop) (cC : Int32) (aR aC aI aP : Nat → Int32), ar d - k < n → k ≤ ar d → cx_S aF ar aO R N V X P C aR → (∀ x, X x + cy_pr aF d x k = cy_rw aF ar d x) → cx_C C cC aC aI → cy_en p aP P → (∀ x, C x → L x) → wX_settle_53 post J (nI f) (nI s) (nI d) (nI (4 * d)) (nI (ar d)) n (nI k) oL rL wL nL wd cC (nI p) mC zH sC tS tC tT tF aL aA aT aR aF aO aW aC aI aP aM aK aE aH aS := by
  intro n
  induction n with
  | zero => intro k p X P C cC aR aC aI aP h; omega
  | succ n ih =>
    intro k p X P C cC aR aC aI aP h hk hS hX hC hP hCL
    have hX4 : ∀ x, X x ≤ 4 := fun x => by
      have a := hX x
      have b := cy_rw_4 (F := aF) (b := x) ha
      omega
    rcases Nat.lt_or_ge k (ar d) with z | z
    · obtain ⟨hin, ea⟩ := cy_at (d := d) (k := k) (by omega) (by omega)
      refine br_f (nI_ge z (by omega)) ⟨hin, ?_⟩
      rw [ea]
      rcases hch k z with ev | ⟨c, hVc, hc, ev⟩
      · rw [ev]
        refine cx_drop1 (nm_r (nI_1 k) ?_)
        refine ih (k + 1) p X P C cC aR aC aI aP (by omega) (by omega) hS (fun x => ?_) hC hP hCL
        rw [cy_pr_f (fun t => by rw [ev] at t; exact cy_is_m1 t)]
        exact hX x
      · rw [ev]
        have hXc : X c ≠ 0 := by
          have a := hX c
          have b := cy_pr_t (F := aF) (a := d) (b := c) (k := k) ⟨hc, ev⟩
          have e := cy_pr_le (F := aF) (ar := ar) (a := d) (b := c) (k := k + 1) (by omega)
          omega
        refine cx_drop hN hR hS hX4 hXc hC rfl hP (fun P' C' p' cC' aR' aC' aI' aP' ho hS' hC' hCC hP' => nm_r (nI_1 k) ?_)
        refine ih (k + 1) p' _ P' C' cC' aR' aC' aI' aP' (by omega) (by omega) hS' (fun x => ?_) hC' hP' (fun x hx => (hCC x hx).elim (hCL x) (fun e => (hL x).mpr (Or.inl (e ▸ hVc))))
        have a := hX x
        rcases Nat.decEq x c with y | y
        · rw [cy_bf y, cy_pr_f (fun t => y (cy_is_u t ⟨hc, ev⟩))]
          exact a
        · rw [y] at a ⊢
          rw [cy_bt rfl, cy_pr_t ⟨hc, ev⟩]
          omega
    · have e : k = ar d := by omega
      refine br_t (by rw [e]; exact nI_le (by omega) (by omega)) ?_
      refine cx_close hN hW ew hB hC ((hL d).mpr (Or.inr rfl)) (fun nL' wd' cC' tT' aL' aA' aT' aR' aW' aC' aI' hB' hC' eR => nm_r (nI_1 f) (nm_r (nI_1 s) ?_))
      have eX : X = fun _ => 0 := funext fun x => by
        have a := hX x
        rw [e] at a
        have b : cy_rw aF ar d x = cy_pr aF d x (ar d) := rfl
        show X x = 0
        omega
      have eV : ∀ x, (L x ∧ x ≠ d) ↔ V x := fun x => ⟨fun t => ((hL x).mp t.1).resolve_right t.2, fun t => ⟨(hL x).mpr (Or.inl t), fun y => hVd (y ▸ t)⟩⟩
      have eV' : (fun x => L x ∧ x ≠ d) = V := funext fun x => propext (eV x)
      refine K nL' wd' cC' p tT' aL' aA' aT' aR' aW' aC' aI' aP P (fun x => C x ∧ x ≠ d) ?_ hC' ?_ (fun x hx => (eV x).mp ⟨hCL x hx.1, hx.2⟩) hP
      · rw [← eV']; exact hB'
      · obtain ⟨h1, h2, h3, h4, h5, h6⟩ := hS
        rw [eX] at h3 h4 h5 h6
        refine ⟨h1, h2, h3, fun x hx => ?_, h5, fun x hx => ?_⟩
        · rw [eR, cy_un (j := x) (k := d) (fun t => hVd (t ▸ hx))]; exact h4 x hx
        · refine (h6 x hx (fun a => a = d ∨ cy_rc (cy_ed aF ar V) (fun a => cy_rt aO R a ≠ 0 ∨ (C a ∧ a ≠ d) ∨ P a ∨ (0 : Nat) ≠ 0) a) (fun a ha => ?_) (fun a b s' e' => ?_)).resolve_left (fun t => hVd (t ▸ hx))
          · rcases Nat.decEq a d with y | y
            · refine Or.inr (cy_rc_0 ?_)
              rcases ha with t | t | t | t
              · exact Or.inl t
              · exact Or.inr (Or.inl ⟨t, y⟩)
              · exact Or.inr (Or.inr (Or.inl t))
              · exact Or.inr (Or.inr (Or.inr t))
            · exact Or.inl y
          · exact Or.inr (cy_rc_s (s'.resolve_left (fun t => hVd (t ▸ e'.1))) e')
theorem cx_set4 {ar : Nat → Nat} {R N W g : Nat} {tg wk : Nat → Int32} {k1 k2 : Int32} {L : Nat → Prop} (hN : N ≤ 32) (hR : R ≤ 8) (hW : W ≤ 8) (ew : wL = nI W)
    (K : ∀ f V C nL' wd' cC' tT' aL' aA' aT' aR' aW' aC' aI' aP', cy_gs aF ar aO R N L V → f + cy_n V N = g → cx_S aF ar aO R N V (fun _ => 0) (fun _ => False) C aR' → cx_B N W ar tg wk k1 k2 V nL' wd' tT' aL' aA' aT' aW' → cx_C C cC' aC' aI' → (∀ x, C x → V x) → post (nI f) (oL, rL, wL, nL', wd', cC', 0, mC, zH, sC, (tS + nI f), tC, tT', tF, aL', aA', aT', aR', aF, aO, aW', aC', aI', aP', aM, aK, aE, aH, aS)) :
    ∀ (n s f p : Nat) (V P C : Nat → Prop) (nL wd cC pC tT : Int32) (aL aA aT aR aW aC aI aP : Nat → Int32), 32 - s < n → s + cy_n V N ≤ 32 → f + cy_n V N = g → (∀ x, V x → L x) → cy_gb aF ar aO R L V → cx_S aF ar aO R N V (fun _ => 0) P C aR → cx_B N W ar tg wk k1 k2 V nL wd tT aL aA aT aW → cx_C C cC aC aI → (∀ x, C x → V x) → pC = nI p → cy_en p aP P → wX_settle_4 post n (nI f) (nI s) oL rL wL nL wd cC pC mC zH sC tS tC tT tF aL aA aT aR aF aO aW aC aI aP aM aK aE aH aS := by
  intro n
  induction n with
  | zero => intro s f p V P C nL wd cC pC tT aL aA aT aR aW aC aI aP h; omega
  | succ n ih =>
    intro s f p V P C nL wd cC pC tT aL aA aT aR aW aC aI aP h hs hf hVL hgb hS hB hC hCV ep hP
    have hVN : ∀ x, V x → x < N := fun x hx => (hS.1 x hx).1
    have hPV : ∀ x, P x → V x := fun x hx => ((hS.2.2.2.2.1 x).mp hx).1
    have fin : (∀ x, ¬ P x) → wX_settle_94 post (nI f) oL rL wL nL wd cC pC mC zH sC tS tC tT tF aL aA aT aR aF aO aW aC aI aP aM aK aE aH aS := by
      intro hn
      have e0 : P = fun _ => False := funext fun x => propext ⟨hn x, False.elim⟩
      have p0 : p = 0 := by
        have a := cy_en_n (n := 32) hP (fun x hx => (hP.1 x hx).1)
        have b := cy_n_0 (P := P) (n := 32) (fun x _ => hn x)
        omega
      rw [p0, nI_0] at ep
      subst ep
      rw [e0] at hS
      refine nm_e (K f V C nL wd cC tT aL aA aT aR aW aC aI aP ⟨hVL, fun x hx e => ?_, hgb⟩ hf hS hB hC hCV)
      exact (hS.2.2.2.2.1 x).mpr ⟨hx, e⟩
    rcases Nat.lt_or_ge s 32 with z | z
    · refine br_f (nI_ge (b := 32) z (by decide)) ?_
      rcases Nat.eq_zero_or_pos p with y | y
      · refine br_t (by rw [ep, y]; decide) (fin ?_)
        rw [y] at hP
        exact cy_en_z hP
      · have hp32 := cy_en_le hP
        obtain ⟨q, rfl⟩ : ∃ q, p = q + 1 := ⟨p - 1, by omega⟩
        obtain ⟨d, hPd, ed, hP'⟩ := cy_en_pop hP
        have hVd := hPV d hPd
        have hdN := hVN d hVd
        have hok := hS.1 d hVd
        have hS' := cx_S_pop hS hPd
        have e0 : cy_ct aF ar aO R N V d = 0 := ((hS.2.2.2.2.1 d).mp hPd).2
        have hn := cy_n_sub (P := V) hVd hdN
        have hin : vp_in (nI d) 32 := vp_in_nI (by omega) (by omega)
        refine br_f (by rw [ep]; exact nI_nle (by omega) (by omega)) (fun pC' e1 => ?_)
        rw [ep, nI_pred] at e1
        subst e1
        refine ⟨vp_in_nI (by omega) (by omega), fun x3 e3 => ?_⟩
        rw [cy_cl (by omega), ed] at e3
        subst e3
        refine nm_r (cy_m4 d) ⟨hin, nm_r (e' := nI (ar d)) ?_ (Exists.intro (ar d + 1) ?_)⟩
        · rw [cy_cl (by omega)]; exact (hB.2.2.1 d hVd).1
        · refine cx_set53 (V := fun x => V x ∧ x ≠ d) (L := V) hN hR hW ew hdN (fun t => t.2 rfl) (fun x => ⟨fun t => ?_, fun t => t.elim (fun y => y.1) (fun e => e ▸ hVd)⟩) hok.2.1 ?_ hB ?_ (ar d + 1) 0 q (fun x => cy_rw aF ar d x) (fun x => P x ∧ x ≠ d) C cC aR aC aI aP (by omega) (by omega) hS' (fun x => rfl) hC hP' hCV
          · rcases Nat.decEq x d with y | y
            · exact Or.inl ⟨t, y⟩
            · exact Or.inr y
          · intro k hk
            rcases hok.2.2 k hk with ev | ⟨c, hc, h32, ev⟩
            · exact Or.inl ev
            · exact Or.inr ⟨c, hS'.2.2.1 c (cy_rw_nz hk ⟨h32, ev⟩), h32, ev⟩
          · intro nL' wd' cC' p' tT' aL' aA' aT' aR' aW' aC' aI' aP' P' C' hB' hC' hS'' hCV' hP''
            exact ih (s + 1) (f + 1) p' (fun x => V x ∧ x ≠ d) P' C' nL' wd' cC' (nI p') tT' aL' aA' aT' aR' aW' aC' aI' aP' (by omega) (by omega) (by omega) (fun x hx => hVL x hx.1) (cy_gb_rm hVN hgb e0) hS'' hB' hC' hCV' rfl hP''
    · refine br_t (nI_le (a := 32) z (by omega)) (fin ?_)
      intro x hx
      exact cy_n_z (P := V) (n := N) (by omega) x (hVN x (hPV x hx)) (hPV x hx)
theorem cx_settle {ar : Nat → Nat} {R N W p : Nat} {tg wk : Nat → Int32} {k1 k2 : Int32} {L P C : Nat → Prop} (hN : N ≤ 32) (hR : R ≤ 8) (hW : W ≤ 8) (ew : wL = nI W) (hS : cx_S aF ar aO R N L (fun _ => 0) P C aR) (hB : cx_B N W ar tg wk k1 k2 L nL wd tT aL aA aT aW) (hC : cx_C C cC aC aI) (hCL : ∀ x, C x → L x) (ep : pC = nI p) (hP : cy_en p aP P)
    (K : ∀ f V C nL' wd' cC' tT' aL' aA' aT' aR' aW' aC' aI' aP', cy_gs aF ar aO R N L V → f + cy_n V N = cy_n L N → cx_S aF ar aO R N V (fun _ => 0) (fun _ => False) C aR' → cx_B N W ar tg wk k1 k2 V nL' wd' tT' aL' aA' aT' aW' → cx_C C cC' aC' aI' → (∀ x, C x → V x) → post (nI f) (oL, rL, wL, nL', wd', cC', 0, mC, zH, sC, (tS + nI f), tC, tT', tF, aL', aA', aT', aR', aF, aO, aW', aC', aI', aP', aM, aK, aE, aH, aS)) : wpX_settle post (oL, rL, wL, nL, wd, cC, pC, mC, zH, sC, tS, tC, tT, tF, aL, aA, aT, aR, aF, aO, aW, aC, aI, aP, aM, aK, aE, aH, aS) := by
  refine Exists.intro 33 ?_
  have hb := cy_n_bd L N
  exact cx_set4 hN hR hW ew K 33 0 0 p L P C nL wd cC pC tT aL aA aT aR aW aC aI aP (by omega) (by omega) (by omega) (fun x hx => hx) (fun T _ h => h) hS hB hC hCL ep hP
end
end
section
/-! A root or a field is written: the counts; X's addReference, writeRoot -/
section
variable {F : Nat → Int32} {ar : Nat → Nat} {O : Nat → Int32} {R N : Nat} {L C : Nat → Prop} {rf rf' : Nat → Int32} {v : Int32}
theorem cy_rt_up {r : Nat} (hr : r < R) (x : Nat) : cy_rt (upd O r v) R x + cy_b (cy_is (O r) x) = cy_rt O R x + cy_b (cy_is v x) := by
  have h := cy_sm_up (f := fun j => cy_b (cy_is (upd O r v j) x)) (g := fun j => cy_b (cy_is (O j) x)) (i := r) (n := R) hr (fun j _ hj => by rw [cy_un hj])
  simp only [cy_us] at h
  exact h
theorem cy_vl_m {V V' : Nat → Prop} {w : Int32} (h : ∀ x, V x → V' x) (k : cy_vl V w) : cy_vl V' w := by
  rcases k with k | ⟨y, hy, h32, e⟩
  · exact Or.inl k
  · exact Or.inr ⟨y, h y hy, h32, e⟩
theorem cx_S_root {r : Nat} (hr : r < R) (hok : cy_ok F ar N L) (hro : cy_ro O R L) (hv : cy_vl L v) (hct : ∀ x, L x → rf x = nI (cy_ct F ar O R N L x)) (hpos : ∀ x, L x → cy_ct F ar O R N L x ≠ 0 ∨ cy_is v x) (hrc : ∀ x, L x → cy_rc (cy_ed F ar L) (fun a => cy_rt O R a ≠ 0 ∨ C a) x ∨ cy_is v x) (hrf : ∀ x, L x → rf' x = rf x + nI (cy_b (cy_is v x))) :
    cx_S F ar (upd O r v) R N L (fun x => cy_b (cy_is (O r) x)) (fun _ => False) C rf' := by
  have up : ∀ x, cy_rt (upd O r v) R x + cy_b (cy_is (O r) x) = cy_rt O R x + cy_b (cy_is v x) := fun x => cy_rt_up hr x
  have cu : ∀ x, cy_ct F ar (upd O r v) R N L x + cy_b (cy_is (O r) x) = cy_ct F ar O R N L x + cy_b (cy_is v x) := fun x => by
    have := up x
    show cy_rt (upd O r v) R x + cy_ins F ar N L x + cy_b (cy_is (O r) x) = cy_rt O R x + cy_ins F ar N L x + cy_b (cy_is v x)
    omega
  refine ⟨hok, fun j hj => ?_, fun x hx => cy_vl_is (hro r hr) (cy_bn hx), fun x hx => ?_, fun x => ⟨False.elim, fun z => ?_⟩, fun x hx => ?_⟩
  · rcases Nat.decEq j r with z | z
    · rw [cy_un z]; exact hro j hj
    · rw [z, cy_us]; exact hv
  · rw [cu x, hrf x hx, hct x hx, nI_add]
  · have e := cu x
    have z2 : cy_ct F ar (upd O r v) R N L x + cy_b (cy_is (O r) x) = 0 := z.2
    rcases hpos x z.1 with t | t
    · omega
    · rw [cy_bt t] at e; omega
  · rcases hrc x hx with t | t
    · refine cy_rc_m t (fun a ha => cy_rc_0 ?_)
      rcases ha with y | y
      · have e := up a
        rcases Nat.eq_zero_or_pos (cy_rt (upd O r v) R a) with q | q
        · exact Or.inr (Or.inr (Or.inr (by show cy_b (cy_is (O r) a) ≠ 0; omega)))
        · exact Or.inl (by omega)
      · exact Or.inr (Or.inl y)
    · exact cy_rc_0 (Or.inl (cy_rt_nz hr (by rw [cy_us]; exact t)))
theorem cy_rw_ne {o k a x : Nat} (ha : ar a ≤ 4) (hk : k < 4) (hao : a ≠ o) : cy_rw (upd F (4 * o + k) v) ar a x = cy_rw F ar a x :=
  cy_sm_eq fun j hj => by rw [cy_un (by omega)]
theorem cy_rw_up {o k : Nat} (hk : k < ar o) (x : Nat) : cy_rw (upd F (4 * o + k) v) ar o x + cy_b (cy_is (F (4 * o + k)) x) = cy_rw F ar o x + cy_b (cy_is v x) := by
  have h := cy_sm_up (f := fun j => cy_b (cy_is (upd F (4 * o + k) v (4 * o + j)) x)) (g := fun j => cy_b (cy_is (F (4 * o + j)) x)) (i := k) (n := ar o) hk (fun j _ hj => by rw [cy_un (by omega)])
  simp only [cy_us] at h
  exact h
theorem cy_ins_up {o k : Nat} (hk : k < ar o) (ho : L o) (hok : cy_ok F ar N L) (x : Nat) : cy_ins (upd F (4 * o + k) v) ar N L x + cy_b (cy_is (F (4 * o + k)) x) = cy_ins F ar N L x + cy_b (cy_is v x) := by
  have hko := (hok o ho).2.1
  have h := cy_sm_up (f := fun y => cy_g (L y) (cy_rw (upd F (4 * o + k) v) ar y x)) (g := fun y => cy_g (L y) (cy_rw F ar y x)) (i := o) (n := N) (hok o ho).1 (fun j _ hj => by
    rcases Classical.em (L j) with z | z
    · rw [cy_gt z, cy_gt z, cy_rw_ne (hok j z).2.1 (by omega) hj]
    · rw [cy_gf z, cy_gf z])
  have e1 : cy_g (L o) (cy_rw (upd F (4 * o + k) v) ar o x) = cy_rw (upd F (4 * o + k) v) ar o x := cy_gt ho
  have e2 : cy_g (L o) (cy_rw F ar o x) = cy_rw F ar o x := cy_gt ho
  simp only [e1, e2] at h
  have h2 := cy_rw_up (F := F) (v := v) hk x
  show cy_sm (fun y => cy_g (L y) (cy_rw (upd F (4 * o + k) v) ar y x)) N + cy_b (cy_is (F (4 * o + k)) x) = cy_sm (fun y => cy_g (L y) (cy_rw F ar y x)) N + cy_b (cy_is v x)
  omega
theorem cy_ok_up {o k : Nat} (hk : k < 4) (hok : cy_ok F ar N L) (hv : cy_vl L v) : cy_ok (upd F (4 * o + k) v) ar N L := by
  intro x hx
  refine ⟨(hok x hx).1, (hok x hx).2.1, fun j hj => ?_⟩
  rcases Nat.decEq (4 * x + j) (4 * o + k) with z | z
  · rw [cy_un z]; exact (hok x hx).2.2 j hj
  · rw [z, cy_us]; exact hv
theorem cx_S_field {o k : Nat} (hk : k < ar o) (ho : L o) (hok : cy_ok F ar N L) (hro : cy_ro O R L) (hv : cy_vl L v) (hct : ∀ x, L x → rf x = nI (cy_ct F ar O R N L x)) (hpos : ∀ x, L x → cy_ct F ar O R N L x ≠ 0) (hrc : ∀ x, L x → cy_rc (cy_ed F ar L) (fun a => cy_rt O R a ≠ 0 ∨ C a) x) (hrf : ∀ x, L x → rf' x = rf x + nI (cy_b (cy_is v x))) :
    cx_S (upd F (4 * o + k) v) ar O R N L (fun x => cy_b (cy_is (F (4 * o + k)) x)) (fun _ => False) C rf' := by
  have hko := (hok o ho).2.1
  have cu : ∀ x, cy_ct (upd F (4 * o + k) v) ar O R N L x + cy_b (cy_is (F (4 * o + k)) x) = cy_ct F ar O R N L x + cy_b (cy_is v x) := fun x => by
    have := cy_ins_up (v := v) hk ho hok x
    show cy_rt O R x + cy_ins (upd F (4 * o + k) v) ar N L x + cy_b (cy_is (F (4 * o + k)) x) = cy_rt O R x + cy_ins F ar N L x + cy_b (cy_is v x)
    omega
  refine ⟨cy_ok_up (by omega) hok hv, hro, fun x hx => cy_vl_is ((hok o ho).2.2 k hk) (cy_bn hx), fun x hx => ?_, fun x => ⟨False.elim, fun z => ?_⟩, fun x hx => ?_⟩
  · rw [cu x, hrf x hx, hct x hx, nI_add]
  · have e := cu x
    have t := hpos x z.1
    have z2 : cy_ct (upd F (4 * o + k) v) ar O R N L x + cy_b (cy_is (F (4 * o + k)) x) = 0 := z.2
    omega
  · refine hrc x hx (cy_rc (cy_ed (upd F (4 * o + k) v) ar L) _) (fun a ha => cy_rc_0 (ha.elim Or.inl (fun y => Or.inr (Or.inl y)))) (fun a b s e => ?_)
    rcases Nat.decEq a o with z | z
    · refine cy_rc_s s ⟨e.1, ?_⟩
      rw [cy_rw_ne (hok a e.1).2.1 (by omega) z]; exact e.2
    · subst z
      have h2 := cy_rw_up (F := F) (v := v) hk b
      have h3 := e.2
      rcases Nat.eq_zero_or_pos (cy_rw (upd F (4 * a + k) v) ar a b) with q | q
      · exact cy_rc_0 (Or.inr (Or.inr (Or.inr (by show cy_b (cy_is (F (4 * a + k)) b) ≠ 0; omega))))
      · exact cy_rc_s s ⟨e.1, by omega⟩
end
section
variable {oL rL wL nL wd cC pC mC zH sC tS tC tT tF : Int32} {aL aA aT aR aF aO aW aC aI aP aM aK aE aH aS : Nat → Int32}
theorem cx_addR {post : SX → Prop} {L : Nat → Prop} {v : Int32} (hv : cy_vl L v) (K : ∀ aR', (∀ x, aR' x = aR x + nI (cy_b (cy_is v x))) → post (oL, rL, wL, nL, wd, cC, pC, mC, zH, sC, tS, tC, tT, tF, aL, aA, aT, aR', aF, aO, aW, aC, aI, aP, aM, aK, aE, aH, aS)) : wpX_addReference post (oL, rL, wL, nL, wd, cC, pC, mC, zH, sC, tS, tC, tT, tF, aL, aA, aT, aR, aF, aO, aW, aC, aI, aP, aM, aK, aE, aH, aS) v := by
  rcases hv with ev | ⟨c, _, hc, ev⟩
  · refine br_t (by rw [ev]; decide) (K aR (fun x => ?_))
    rw [cy_bf (fun t => by rw [ev] at t; exact cy_is_m1 t), nI_0, Int32.add_zero]
  · have ecl := cy_cl (n := c) (by omega)
    have hin : vp_in v 32 := by rw [ev]; exact vp_in_nI hc (by omega)
    refine br_f (by rw [ev]; exact nI_pos (by omega)) ⟨hin, hin, fun aR' e => K aR' (fun x => ?_)⟩
    rw [ev, ecl] at e
    rcases Nat.decEq x c with z | z
    · rw [e, cy_un z, cy_bf (fun t => z (cy_is_u t ⟨hc, ev⟩)), nI_0, Int32.add_zero]
    · rw [e, z, cy_us, cy_bt ⟨hc, ev⟩]
      rfl
/-- the drop that ends a write, and the settling behind it -/
theorem cx_dropSettle {post : Int32 → SX → Prop} {ar : Nat → Nat} {R N W : Nat} {tg wk : Nat → Int32} {k1 k2 : Int32} {L C : Nat → Prop} {old : Int32} (hN : N ≤ 32) (hR : R ≤ 8) (hW : W ≤ 8) (ew : wL = nI W) (hS : cx_S aF ar aO R N L (fun x => cy_b (cy_is old x)) (fun _ => False) C aR) (ho : cy_vl L old) (hB : cx_B N W ar tg wk k1 k2 L nL wd tT aL aA aT aW) (hC : cx_C C cC aC aI) (hCL : ∀ x, C x → L x) (ep : pC = 0)
    (K : ∀ f V C nL' wd' cC' tT' aL' aA' aT' aR' aW' aC' aI' aP', cy_gs aF ar aO R N L V → f + cy_n V N = cy_n L N → cx_S aF ar aO R N V (fun _ => 0) (fun _ => False) C aR' → cx_B N W ar tg wk k1 k2 V nL' wd' tT' aL' aA' aT' aW' → cx_C C cC' aC' aI' → (∀ x, C x → V x) → post (nI f) (oL, rL, wL, nL', wd', cC', 0, mC, zH, sC, (tS + nI f), tC, tT', tF, aL', aA', aT', aR', aF, aO, aW', aC', aI', aP', aM, aK, aE, aH, aS)) :
    wpX_dropReference (fun u => match u with | (oL, rL, wL, nL, wd, cC, pC, mC, zH, sC, tS, tC, tT, tF, aL, aA, aT, aR, aF, aO, aW, aC, aI, aP, aM, aK, aE, aH, aS) => wpX_settle (fun r u => match u with | (oL, rL, wL, nL, wd, cC, pC, mC, zH, sC, tS, tC, tT, tF, aL, aA, aT, aR, aF, aO, aW, aC, aI, aP, aM, aK, aE, aH, aS) => post r (oL, rL, wL, nL, wd, cC, pC, mC, zH, sC, tS, tC, tT, tF, aL, aA, aT, aR, aF, aO, aW, aC, aI, aP, aM, aK, aE, aH, aS)) (oL, rL, wL, nL, wd, cC, pC, mC, zH, sC, tS, tC, tT, tF, aL, aA, aT, aR, aF, aO, aW, aC, aI, aP, aM, aK, aE, aH, aS)) (oL, rL, wL, nL, wd, cC, pC, mC, zH, sC, tS, tC, tT, tF, aL, aA, aT, aR, aF, aO, aW, aC, aI, aP, aM, aK, aE, aH, aS) old := by
  subst ep
  rcases ho with ev | ⟨c, hLc, hc, ev⟩
  · subst ev
    have e0 : (fun x => cy_b (cy_is (-1) x)) = fun _ => 0 := funext fun x => cy_bf cy_is_m1
    rw [e0] at hS
    refine cx_drop1 ?_
    exact cx_settle hN hR hW ew hS hB hC hCL nI_0.symm (cy_en_0 fun _ => id) K
  · subst ev
    have e1 : cy_b (cy_is (nI c) c) = 1 := cy_bt ⟨hc, rfl⟩
    refine cx_drop (p := 0) hN hR hS (fun x => Nat.le_trans (cy_b1 _) (by omega)) (by rw [e1]; omega) hC nI_0.symm (cy_en_0 fun _ => id) ?_
    intro P' C' p' cC' aR' aC' aI' aP' ho hS' hC' hCC hP'
    have e0 : (fun x => cy_b (cy_is (nI c) x) - cy_b (x = c)) = fun _ => 0 := funext fun x => by
      rcases Nat.decEq x c with z | z
      · rw [cy_bf (fun t => z (cy_is_u t ⟨hc, rfl⟩))]; omega
      · rw [z, e1, cy_bt rfl]
    rw [e0] at hS'
    exact cx_settle hN hR hW ew hS' hB hC' (fun x hx => (hCC x hx).elim (hCL x) (fun e => e ▸ hLc)) rfl hP' K
theorem cx_write {post : Int32 → SX → Prop} {ar : Nat → Nat} {R N W r : Nat} {tg wk : Nat → Int32} {k1 k2 : Int32} {L C : Nat → Prop} {v : Int32} (hN : N ≤ 32) (hR : R ≤ 8) (hW : W ≤ 8) (ew : wL = nI W) (hr : r < R) (hok : cy_ok aF ar N L) (hro : cy_ro aO R L) (hv : cy_vl L v) (hct : ∀ x, L x → aR x = nI (cy_ct aF ar aO R N L x)) (hpos : ∀ x, L x → cy_ct aF ar aO R N L x ≠ 0 ∨ cy_is v x) (hrc : ∀ x, L x → cy_rc (cy_ed aF ar L) (fun a => cy_rt aO R a ≠ 0 ∨ C a) x ∨ cy_is v x) (hB : cx_B N W ar tg wk k1 k2 L nL wd tT aL aA aT aW) (hC : cx_C C cC aC aI) (hCL : ∀ x, C x → L x) (ep : pC = 0)
    (K : ∀ f V C nL' wd' cC' tT' aL' aA' aT' aR' aW' aC' aI' aP', cy_gs aF ar (upd aO r v) R N L V → f + cy_n V N = cy_n L N → cx_S aF ar (upd aO r v) R N V (fun _ => 0) (fun _ => False) C aR' → cx_B N W ar tg wk k1 k2 V nL' wd' tT' aL' aA' aT' aW' → cx_C C cC' aC' aI' → (∀ x, C x → V x) → post (nI f) (oL, rL, wL, nL', wd', cC', 0, mC, zH, sC, (tS + nI f), tC, tT', tF, aL', aA', aT', aR', aF, (upd aO r v), aW', aC', aI', aP', aM, aK, aE, aH, aS)) : wpX_writeRoot post (oL, rL, wL, nL, wd, cC, pC, mC, zH, sC, tS, tC, tT, tF, aL, aA, aT, aR, aF, aO, aW, aC, aI, aP, aM, aK, aE, aH, aS) (nI r) v := by
  subst ep
  have hin : vp_in (nI r) 8 := vp_in_nI (by omega) (by omega)
  have ecl := cy_cl (n := r) (by omega)
  refine ⟨hin, fun old eo => br_c (fun e => ?_) (fun e => ?_)⟩
  · rw [ecl] at eo
    rw [eo] at e
    have eO : upd aO r v = aO := funext fun j => by
      rcases Nat.decEq j r with z | z
      · rw [cy_un z]
      · rw [z, cy_us, e]
    have hp : ∀ x, L x → cy_ct aF ar aO R N L x ≠ 0 := by
      intro x hx
      rcases hpos x hx with t | t
      · exact t
      · have := cy_rt_nz (O := aO) hr (x := x) (by rw [e]; exact t)
        intro q
        have q' : cy_rt aO R x + cy_ins aF ar N L x = 0 := q
        omega
    have hS : cx_S aF ar aO R N L (fun _ => 0) (fun _ => False) C aR := by
      refine ⟨hok, hro, fun x hx => absurd rfl hx, fun x hx => hct x hx, fun x => ⟨False.elim, fun z => hp x z.1 z.2⟩, fun x hx => ?_⟩
      rcases hrc x hx with t | t
      · exact cy_rc_m t (fun a ha => cy_rc_0 (ha.elim Or.inl (fun y => Or.inr (Or.inl y))))
      · exact cy_rc_0 (Or.inl (cy_rt_nz hr (by rw [e]; exact t)))
    have k := K 0 L C nL wd cC tT aL aA aT aR aW aC aI aP
    rw [eO, nI_0, Int32.add_zero] at k
    exact k ⟨fun x hx => hx, hp, fun T _ h => h⟩ (by omega) hS hB hC hCL
  · refine cx_addR hv (fun aR' eR => ⟨hin, fun aO' eO => ?_⟩)
    rw [ecl] at eo eO
    subst eO
    rw [eo]
    exact cx_dropSettle hN hR hW ew (cx_S_root hr hok hro hv hct hpos hrc (fun x _ => eR x)) (hro r hr) hB hC hCL rfl K
end
end
section
/-! Y's references, free, findUnreferenced, settle -/
theorem cy_at' {d k : Nat} (hd : d < 32) (hk : k < 4) : vp_in (nI d * 4 + nI k) 128 ∧ (nI d * 4 + nI k).toNatClampNeg = 4 * d + k := by
  rw [cy_m4]
  exact cy_at hd hk
theorem cy_gi0 {p : Prop} : cy_gi p 1 = 0 ↔ ¬ p := by
  rcases Classical.em p with z | z
  · rw [cy_git z]; exact ⟨fun h => absurd h (by decide), fun h => absurd z h⟩
  · rw [cy_gif z]; exact ⟨fun _ => z, fun _ => rfl⟩
theorem cy_n0 {a : Nat} (h : a < 2 ^ 31) : nI a = 0 ↔ a = 0 := by
  rw [← nI_0]; exact nI_eq h (by omega)
section
variable {oL yW rL wL uA uC uT uN : Int32} {bL bA bT aF aO bW bK bS bD : Nat → Int32}
theorem cw_ref44 {post : Int32 → Prop} {J : Int32 → Int32 → Prop} {ar : Nat → Nat} {N W x y a0 : Nat} {tg wk : Nat → Int32} {k2 : Int32} {L : Nat → Prop} (hN : N ≤ 32) (hok : cy_ok aF ar N L) (hB : cw_B N W ar tg wk k2 L uT bL bA bT bW) (hx : x < 32) (hy : y < N) (K : J (nI (a0 + cy_g (L y) (cy_rw aF ar y x))) (nI (y + 1))) :
    ∀ n k, 4 - k < n → k ≤ 4 → wY_references_44 post J (nI x) (nI y) oL yW rL wL uA uC uT uN bL bA bT aF aO bW bK bS bD n (nI (a0 + cy_g (L y) (cy_pr aF y x (min k (ar y))))) (nI k) := by
  intro n
  induction n with
  | zero => intro k h; omega
  | succ n ih =>
    intro k h hk
    have hin : vp_in (nI y) 32 := vp_in_nI (by omega) (by omega)
    have ecl := cy_cl (n := y) (by omega)
    rcases Nat.lt_or_ge k 4 with z | z
    · refine br_f (nI_ge (b := 4) z (by decide)) ⟨hin, ?_⟩
      rw [ecl, hB.2.1 y (by omega)]
      rcases Classical.em (L y) with hL | hL
      · have h4 := (hok y hL).2.1
        refine br_f (fun t => cy_gi0.mp t hL) ⟨hin, ?_⟩
        rw [(hB.2.2.1 y hL).1]
        rcases Nat.lt_or_ge k (ar y) with q | q
        · obtain ⟨hi, ea⟩ := cy_at' (d := y) (k := k) (by omega) z
          have m1 : min k (ar y) = k := by omega
          have m2 : min (k + 1) (ar y) = k + 1 := by omega
          have e := ih (k + 1) (by omega) (by omega)
          rw [cy_gt hL, m2] at e
          refine br_f (nI_ge q (by omega)) ⟨hi, ?_⟩
          rw [ea, cy_gt hL, m1]
          refine br_c (fun t => nm_r (nI_1 _) (nm_r (nI_1 k) ?_)) (fun t => nm_r (nI_1 k) ?_)
          · rw [cy_pr_t ⟨hx, t⟩] at e
            exact e
          · rw [cy_pr_f (fun s => t s.2)] at e
            exact e
        · have e := ih (k + 1) (by omega) (by omega)
          have m1 : min (k + 1) (ar y) = min k (ar y) := by omega
          rw [m1] at e
          exact br_t (nI_le q (by omega)) (nm_r (nI_1 k) e)
      · refine br_t (cy_gi0.mpr hL) (nm_r (nI_1 k) ?_)
        have e := ih (k + 1) (by omega) (by omega)
        rw [cy_gf hL] at e ⊢
        exact e
    · have e : k = 4 := by omega
      refine br_t (by rw [e]; decide) (nm_r (nI_1 y) ?_)
      rcases Classical.em (L y) with hL | hL
      · have h4 := (hok y hL).2.1
        have m : min k (ar y) = ar y := by omega
        rw [m]
        exact K
      · rw [cy_gf hL] at K ⊢
        exact K
theorem cw_ref33 {post : Int32 → Prop} {ar : Nat → Nat} {N W x a0 : Nat} {tg wk : Nat → Int32} {k2 : Int32} {L : Nat → Prop} (hN : N ≤ 32) (eo : oL = nI N) (hok : cy_ok aF ar N L) (hB : cw_B N W ar tg wk k2 L uT bL bA bT bW) (hx : x < 32) (K : post (nI (a0 + cy_ins aF ar N L x))) :
    ∀ n y, N - y < n → y ≤ N → wY_references_33 post (nI x) oL yW rL wL uA uC uT uN bL bA bT aF aO bW bK bS bD n (nI (a0 + cy_sm (fun y => cy_g (L y) (cy_rw aF ar y x)) y)) (nI y) := by
  intro n
  induction n with
  | zero => intro y h; omega
  | succ n ih =>
    intro y h hy
    rcases Nat.lt_or_ge y N with z | z
    · refine br_f (by rw [eo]; exact nI_ge z (by omega)) (Exists.intro 5 ?_)
      have g0 : cy_g (L y) (cy_pr aF y x (min 0 (ar y))) = 0 := by
        rw [Nat.zero_min]
        rcases Classical.em (L y) with q | q
        · exact cy_gt q
        · exact cy_gf q
      have e0 : nI (a0 + cy_sm (fun y => cy_g (L y) (cy_rw aF ar y x)) y) = nI (a0 + cy_sm (fun y => cy_g (L y) (cy_rw aF ar y x)) y + cy_g (L y) (cy_pr aF y x (min 0 (ar y)))) := by rw [g0, Nat.add_zero]
      rw [e0]
      refine cw_ref44 hN hok hB hx z ?_ 5 0 (by omega) (by omega)
      have e := ih (y + 1) (by omega) (by omega)
      rw [cy_sm_s, ← Nat.add_assoc] at e
      exact e
    · have e : y = N := by omega
      subst e
      exact br_t (by rw [eo]; exact nI_le (by omega) (by omega)) K
theorem cw_ref4 {post : Int32 → Prop} {ar : Nat → Nat} {N W R x : Nat} {tg wk : Nat → Int32} {k2 : Int32} {L : Nat → Prop} (hN : N ≤ 32) (hR : R ≤ 8) (eo : oL = nI N) (er : rL = nI R) (hok : cy_ok aF ar N L) (hB : cw_B N W ar tg wk k2 L uT bL bA bT bW) (hx : x < 32) (K : post (nI (cy_ct aF ar aO R N L x))) :
    ∀ n i, R - i < n → i ≤ R → wY_references_4 post (nI x) oL yW rL wL uA uC uT uN bL bA bT aF aO bW bK bS bD n (nI (cy_sm (fun r => cy_b (cy_is (aO r) x)) i)) (nI i) := by
  intro n
  induction n with
  | zero => intro i h; omega
  | succ n ih =>
    intro i h hi
    have ecl := cy_cl (n := i) (by omega)
    rcases Nat.lt_or_ge i R with z | z
    · refine br_f (by rw [er]; exact nI_ge z (by omega)) ⟨vp_in_nI (by omega) (by omega), ?_⟩
      rw [ecl]
      have e := ih (i + 1) (by omega) (by omega)
      rw [cy_sm_s] at e
      refine br_c (fun t => nm_r (nI_1 _) (nm_r (nI_1 i) ?_)) (fun t => nm_r (nI_1 i) ?_)
      · rw [cy_bt ⟨hx, t⟩] at e
        exact e
      · rw [cy_bf (fun s => t s.2)] at e
        exact e
    · have e : i = R := by omega
      subst e
      exact br_t (by rw [er]; exact nI_le (by omega) (by omega)) (Exists.intro (N + 1) (cw_ref33 hN eo hok hB hx K (N + 1) 0 (by omega) (by omega)))
theorem cw_ref {post : Int32 → Prop} {ar : Nat → Nat} {N W R x : Nat} {tg wk : Nat → Int32} {k2 : Int32} {L : Nat → Prop} (hN : N ≤ 32) (hR : R ≤ 8) (eo : oL = nI N) (er : rL = nI R) (hok : cy_ok aF ar N L) (hB : cw_B N W ar tg wk k2 L uT bL bA bT bW) (hx : x < 32) (K : post (nI (cy_ct aF ar aO R N L x))) : wpY_references post (oL, yW, rL, wL, uA, uC, uT, uN, bL, bA, bT, aF, aO, bW, bK, bS, bD) (nI x) :=
  Exists.intro (R + 1) (cw_ref4 hN hR eo er hok hB hx K (R + 1) 0 (by omega) (by omega))
theorem cw_fr9 {post : SY → Prop} {W d : Nat} (hW : W ≤ 8) (ew : wL = nI W) (hd : d < 32) (K : ∀ uT' bW', uT' = uT + bT d → (∀ w, w < W → bW' w = cy_dd d (bW w)) → post (oL, yW, rL, wL, uA, uC, uT', uN, bL, bA, bT, aF, aO, bW', bK, bS, bD)) : ∀ n i bW', W - i < n → i ≤ W → (∀ j, j < i → bW' j = cy_dd d (bW j)) → (∀ j, i ≤ j → bW' j = bW j) → wY_free_9 post (nI d) oL yW rL wL uA uC uT uN n (nI i) bL bA bT aF aO bW' bK bS bD := by
  intro n
  induction n with
  | zero => intro i bW' h; omega
  | succ n ih =>
    intro i bW' h hi h1 h2
    have ecl := cy_cl (n := d) (by omega)
    have hin : vp_in (nI d) 32 := vp_in_nI hd (by omega)
    have eci := cy_cl (n := i) (by omega)
    rcases Nat.lt_or_ge i W with z | z
    · have hini : vp_in (nI i) 8 := vp_in_nI (by omega) (by omega)
      refine br_f (by rw [ew]; exact nI_ge z (by omega)) ⟨hini, br_c (fun t => ⟨hini, fun bW'' e => nm_r (nI_1 i) ?_⟩) (fun t => nm_r (nI_1 i) ?_)⟩
      · rw [eci, h2 i (by omega)] at t
        rw [eci] at e
        refine ih (i + 1) bW'' (by omega) (by omega) (fun j hj => ?_) (fun j hj => ?_)
        · rw [e]
          rcases Nat.decEq j i with y | y
          · rw [cy_un y]; exact h1 j (by omega)
          · rw [y, cy_us]; unfold cy_dd; rw [if_pos t]
        · rw [e, cy_un (by omega)]; exact h2 j (by omega)
      · rw [eci, h2 i (by omega)] at t
        refine ih (i + 1) bW' (by omega) (by omega) (fun j hj => ?_) (fun j hj => h2 j (by omega))
        rcases Nat.decEq j i with y | y
        · exact h1 j (by omega)
        · rw [y, h2 i (by omega)]; unfold cy_dd; rw [if_neg t]
    · have e : i = W := by omega
      refine br_t (by rw [ew, e]; exact nI_le (by omega) (by omega)) ⟨hin, fun uT' e1 => ?_⟩
      rw [ecl] at e1
      exact K uT' bW' e1 (fun w hw => h1 w (by omega))
theorem cw_free {post : SY → Prop} {N W d : Nat} {ar : Nat → Nat} {tg wk : Nat → Int32} {k2 : Int32} {L : Nat → Prop} (hN : N ≤ 32) (hW : W ≤ 8) (ew : wL = nI W) (hB : cw_B N W ar tg wk k2 L uT bL bA bT bW) (hd : L d)
    (K : ∀ uT' bL' bW', cw_B N W ar tg wk k2 (fun x => L x ∧ x ≠ d) uT' bL' bA bT bW' → post (oL, yW, rL, wL, uA, uC, uT', uN, bL', bA, bT, aF, aO, bW', bK, bS, bD)) : wpY_free post (oL, yW, rL, wL, uA, uC, uT, uN, bL, bA, bT, aF, aO, bW, bK, bS, bD) (nI d) := by
  have hd32 : d < 32 := by have := hB.1 d hd; omega
  refine ⟨vp_in_nI hd32 (by omega), fun bL' e1 => Exists.intro (W + 1) ?_⟩
  rw [cy_cl (by omega)] at e1
  refine cw_fr9 hW ew hd32 (fun uT' bW' e2 e3 => ?_) (W + 1) 0 bW (by omega) (by omega) (fun j hj => by omega) (fun j _ => rfl)
  refine K uT' bL' bW' ?_
  rw [e1, e2]
  exact cw_B_rm hN hB hd e3
theorem cw_find {post : Int32 → Prop} {ar : Nat → Nat} {N W R : Nat} {tg wk : Nat → Int32} {k2 : Int32} {L : Nat → Prop} (hN : N ≤ 32) (hR : R ≤ 8) (eo : oL = nI N) (er : rL = nI R) (hok : cy_ok aF ar N L) (hB : cw_B N W ar tg wk k2 L uT bL bA bT bW) (K1 : ∀ x, L x → cy_ct aF ar aO R N L x = 0 → post (nI x)) (K2 : (∀ x, L x → cy_ct aF ar aO R N L x ≠ 0) → post (-1)) :
    ∀ n i, N - i < n → i ≤ N → (∀ x, x < i → L x → cy_ct aF ar aO R N L x ≠ 0) → wY_findUnreferenced_2 post oL yW rL wL uA uC uT uN bL bA bT aF aO bW bK bS bD n (nI i) := by
  intro n
  induction n with
  | zero => intro i h; omega
  | succ n ih =>
    intro i h hi hl
    have ecl := cy_cl (n := i) (by omega)
    rcases Nat.lt_or_ge i N with z | z
    · refine br_f (by rw [eo]; exact nI_ge z (by omega)) ⟨vp_in_nI (by omega) (by omega), ?_⟩
      rw [ecl, hB.2.1 i (by omega)]
      rcases Classical.em (L i) with hL | hL
      · refine br_f (fun t => cy_gi0.mp t hL) ?_
        have hbd := cy_ct_bd (F := aF) (ar := ar) (O := aO) (R := R) (N := N) (V := L) i hok hR hN
        refine cw_ref hN hR eo er hok hB (by omega) (br_c (fun t => K1 i hL ?_) (fun t => nm_r (nI_1 i) (ih (i + 1) (by omega) (by omega) (fun x hx hLx => ?_))))
        · exact (cy_n0 (by omega)).mp t
        · rcases Nat.lt_or_ge x i with q | q
          · exact hl x q hLx
          · have e : x = i := by omega
            rw [e]; exact fun s => t ((cy_n0 (by omega)).mpr s)
      · refine br_t (cy_gi0.mpr hL) (nm_r (nI_1 i) (ih (i + 1) (by omega) (by omega) (fun x hx hLx => ?_)))
        rcases Nat.lt_or_ge x i with q | q
        · exact hl x q hLx
        · have e : x = i := by omega
          exact absurd (e ▸ hLx) hL
    · have e : i = N := by omega
      refine br_t (by rw [eo, e]; exact nI_le (by omega) (by omega)) (K2 (fun x hx => hl x ?_ hx))
      have := (hok x hx).1
      omega
theorem cy_ok_rm {F : Nat → Int32} {ar : Nat → Nat} {O : Nat → Int32} {R N d : Nat} {V : Nat → Prop} (h1 : cy_ok F ar N V) (e : cy_ct F ar O R N V d = 0) : cy_ok F ar N (fun x => V x ∧ x ≠ d) := by
  obtain ⟨e1, e2⟩ := cy_ct_0 (fun y hy => (h1 y hy).1) e
  intro x hx
  refine ⟨(h1 x hx.1).1, (h1 x hx.1).2.1, fun k hk => ?_⟩
  rcases (h1 x hx.1).2.2 k hk with z | ⟨y, hy, h32, z⟩
  · exact Or.inl z
  · exact Or.inr ⟨y, ⟨hy, fun t => cy_rw_nz hk (t ▸ ⟨h32, z⟩) (e2 x hx.1)⟩, h32, z⟩
theorem cw_set4 {post : Int32 → SY → Prop} {ar : Nat → Nat} {N W R g : Nat} {tg wk : Nat → Int32} {k2 : Int32} {L : Nat → Prop} (hN : N ≤ 32) (hR : R ≤ 8) (hW : W ≤ 8) (eo : oL = nI N) (er : rL = nI R) (ew : wL = nI W)
    (K : ∀ f V uT' bL' bW', cy_gs aF ar aO R N L V → f + cy_n V N = g → cw_B N W ar tg wk k2 V uT' bL' bA bT bW' → post (nI f) (oL, yW, rL, wL, (uA + nI f), uC, uT', uN, bL', bA, bT, aF, aO, bW', bK, bS, bD)) :
    ∀ (n s f : Nat) (V : Nat → Prop) (uT : Int32) (bL bW : Nat → Int32), N - s < n → s ≤ N → ((∀ x, V x → cy_ct aF ar aO R N V x ≠ 0) ∨ s + cy_n V N ≤ N) → f + cy_n V N = g → (∀ x, V x → L x) → cy_gb aF ar aO R L V → cy_ok aF ar N V → cw_B N W ar tg wk k2 V uT bL bA bT bW → wY_settle_4 post n (nI f) (nI s) oL yW rL wL (uA + nI f) uC uT uN bL bA bT aF aO bW bK bS bD := by
  intro n
  induction n with
  | zero => intro s f V uT bL bW h; omega
  | succ n ih =>
    intro s f V uT bL bW h hs hst hf hVL hgb hok hB
    have hVN : ∀ x, V x → x < N := fun x hx => (hok x hx).1
    rcases Nat.lt_or_ge s N with z | z
    · refine br_f (by rw [eo]; exact nI_ge z (by omega)) ?_
      refine Exists.intro (N + 1) ?_
      refine cw_find hN hR eo er hok hB (fun x hx e => ?_) (fun hno => ?_) (N + 1) 0 (by omega) (by omega) (fun x hx => by omega)
      · have hxN := hVN x hx
        have hn := cy_n_sub (P := V) hx hxN
        refine br_f (cy_n1 (by omega)) ?_
        refine cw_free hN hW ew hB hx (fun uT' bL' bW' hB' => ?_)
        refine nm_r (e' := uA + nI (f + 1)) (by rw [← nI_1, Int32.add_assoc]) (nm_r (nI_1 f) (nm_r (nI_1 s) ?_))
        refine ih (s + 1) (f + 1) (fun y => V y ∧ y ≠ x) uT' bL' bW' (by omega) (by omega) (Or.inr ?_) (by omega) (fun y hy => hVL y hy.1) (cy_gb_rm hVN hgb e) (cy_ok_rm hok e) hB'
        rcases hst with t | t
        · exact absurd e (t x hx)
        · omega
      · exact br_t rfl (nm_r (nI_1 s) (ih (s + 1) f V uT bL bW (by omega) (by omega) (Or.inl hno) hf hVL hgb hok hB))
    · have e : s = N := by omega
      refine br_t (by rw [eo, e]; exact nI_le (by omega) (by omega)) (K f V uT bL bW ⟨hVL, ?_, hgb⟩ hf hB)
      rcases hst with t | t
      · exact t
      · intro x hx
        exact absurd hx (cy_n_z (P := V) (n := N) (by omega) x (hVN x hx))
theorem cw_settle {post : Int32 → SY → Prop} {ar : Nat → Nat} {N W R : Nat} {tg wk : Nat → Int32} {k2 : Int32} {L : Nat → Prop} (hN : N ≤ 32) (hR : R ≤ 8) (hW : W ≤ 8) (eo : oL = nI N) (er : rL = nI R) (ew : wL = nI W) (hok : cy_ok aF ar N L) (hB : cw_B N W ar tg wk k2 L uT bL bA bT bW)
    (K : ∀ f V uT' bL' bW', cy_gs aF ar aO R N L V → f + cy_n V N = cy_n L N → cw_B N W ar tg wk k2 V uT' bL' bA bT bW' → post (nI f) (oL, yW, rL, wL, (uA + nI f), uC, uT', uN, bL', bA, bT, aF, aO, bW', bK, bS, bD)) : wpY_settle post (oL, yW, rL, wL, uA, uC, uT, uN, bL, bA, bT, aF, aO, bW, bK, bS, bD) := by
  refine Exists.intro (N + 1) ?_
  have hb := cy_n_bd L N
  have e := cw_set4 hN hR hW eo er ew K (N + 1) 0 0 L uT bL bW (by omega) (by omega) (Or.inr (by omega)) (by omega) (fun x hx => hx) (fun T _ h => h) hok hB
  rw [nI_0, Int32.add_zero] at e
  exact e
end
end
section
/-! X's trial: the members -/
theorem cy_en_pre {m : Nat} {f g : Nat → Int32} {P : Nat → Prop} (e : ∀ i, i < m → g i = f i) (h : cy_en m f P) : cy_en m g P := by
  refine ⟨fun x hx => ?_, fun i hi => ?_, fun i j hi hj => ?_⟩
  · obtain ⟨h32, i, hi, z⟩ := h.1 x hx
    exact ⟨h32, i, hi, (e i hi).trans z⟩
  · rw [e i hi]; exact h.2.1 i hi
  · rw [e i hi, e j hj]; exact h.2.2 i j hi hj
theorem cy_en_nx {i m : Nat} {f : Nat → Int32} {P Q : Nat → Prop} (hQ : cy_en i f Q) (hP : cy_en m f P) (hi : i < m) : ∃ d, P d ∧ d < 32 ∧ ¬ Q d ∧ f i = nI d ∧ cy_en (i + 1) f (fun x => Q x ∨ x = d) := by
  obtain ⟨d, hd, e⟩ := hP.2.1 i hi
  have h32 := (hP.1 d hd).1
  have hn : ¬ Q d := by
    intro t
    obtain ⟨_, j, hj, z⟩ := hQ.1 d t
    have := hP.2.2 j i (by omega) hi (z.trans e.symm)
    omega
  refine ⟨d, hd, h32, hn, e, cy_en_pre (fun j hj => ?_) (cy_en_push hQ h32 hn)⟩
  rcases Nat.decEq j i with z | z
  · rw [cy_un z]
  · rw [z, cy_us]; exact e
theorem cy_en_uq {m : Nat} {f : Nat → Int32} {P Q : Nat → Prop} (hP : cy_en m f P) (hQ : cy_en m f Q) : ∀ x, P x → Q x := by
  intro x hx
  obtain ⟨h32, i, hi, e⟩ := hP.1 x hx
  obtain ⟨y, hy, e'⟩ := hQ.2.1 i hi
  rw [cy_inj h32 (hQ.1 y hy).1 (e.symm.trans e')]
  exact hy
theorem cy_en_ss {i m : Nat} {f : Nat → Int32} {P Q : Nat → Prop} (hQ : cy_en i f Q) (hP : cy_en m f P) (hi : i ≤ m) : ∀ x, Q x → P x := by
  intro x hx
  obtain ⟨h32, j, hj, e⟩ := hQ.1 x hx
  obtain ⟨y, hy, e'⟩ := hP.2.1 j (by omega)
  rw [cy_inj h32 (hP.1 y hy).1 (e.symm.trans e')]
  exact hy
/-- the trial's members are the set M -/
def cx_M (M : Nat → Prop) (m : Nat) (mC : Int32) (aM aK aH : Nat → Int32) : Prop := mC = nI m ∧ cy_en m aM M ∧ (∀ x, x < 32 → aK x = cy_gi (M x) 1) ∧ (∀ x, M x → aH x = 0)
theorem cy_vn1 : vp_nar .boolean 1 = 1 := rfl
theorem cy_vn0 : vp_nar .boolean 0 = 0 := rfl
section
variable {oL rL wL nL wd cC pC mC zH sC tS tC tT tF : Int32} {aL aA aT aR aF aO aW aC aI aP aM aK aE aH aS : Nat → Int32} {post : SX → Prop}
theorem cx_addM {M : Nat → Prop} {m c : Nat} {tk : Nat → Nat} (hc : c < 32) (hM : cx_M M m mC aM aK aH) (hE : ∀ x, M x → aE x = aR x - nI (tk x)) (h0 : ¬ M c → tk c = 0)
    (K : ∀ m' mC' aM' aK' aE' aH', cx_M (fun x => M x ∨ x = c) m' mC' aM' aK' aH' → (∀ x, M x ∨ x = c → aE' x = aR x - nI (tk x)) → (∀ i, i < m → aM' i = aM i) → m ≤ m' → post (oL, rL, wL, nL, wd, cC, pC, mC', zH, sC, tS, tC, tT, tF, aL, aA, aT, aR, aF, aO, aW, aC, aI, aP, aM', aK', aE', aH', aS)) : wpX_addMember post (oL, rL, wL, nL, wd, cC, pC, mC, zH, sC, tS, tC, tT, tF, aL, aA, aT, aR, aF, aO, aW, aC, aI, aP, aM, aK, aE, aH, aS) (nI c) := by
  obtain ⟨em, h1, h2, h3⟩ := hM
  have ecl := cy_cl (n := c) (by omega)
  have hin : vp_in (nI c) 32 := vp_in_nI hc (by omega)
  refine ⟨hin, ?_⟩
  rw [ecl, h2 c hc]
  rcases Classical.em (M c) with z | z
  · refine br_f (fun t => cy_gi0.mp t z) (K m mC aM aK aE aH ?_ (fun x hx => hE x (hx.elim id (fun e => e ▸ z))) (fun i _ => rfl) (by omega))
    have e : (fun x => M x ∨ x = c) = M := funext fun x => propext ⟨fun t => t.elim id (fun e => e ▸ z), Or.inl⟩
    rw [e]
    exact ⟨em, h1, h2, h3⟩
  · have hm := cy_en_lt h1 hc z
    refine br_t (cy_gi0.mpr z) (br_f ?_ ⟨hin, fun aK' eK => ⟨hin, fun aH' eH => ⟨hin, hin, fun aE' eE => ⟨?_, fun aM' eM => fun mC' e => ?_⟩⟩⟩⟩)
    · rw [em]; exact nI_ge (b := 32) hm (by decide)
    · rw [em]; exact vp_in_nI hm (by omega)
    · rw [em, cy_cl (by omega)] at eM
      rw [em, nI_1] at e
      rw [cy_vn1] at eK
      rw [cy_vn0] at eH
      refine K (m + 1) mC' aM' aK' aE' aH' ⟨e, ?_, fun x hx => ?_, fun x hx => ?_⟩ (fun x hx => ?_) (fun i hi => ?_) (by omega)
      · rw [eM]; exact cy_en_push h1 hc z
      · rcases Nat.decEq x c with y | y
        · rw [eK, cy_un y, h2 x hx]
          exact cy_gie ⟨Or.inl, fun t => t.resolve_right y⟩
        · rw [eK, y, cy_us, cy_git (Or.inr rfl)]
      · rcases Nat.decEq x c with y | y
        · rw [eH, cy_un y]; exact h3 x (hx.resolve_right y)
        · rw [eH, y, cy_us]
      · rcases Nat.decEq x c with y | y
        · rw [eE, cy_un y]; exact hE x (hx.resolve_right y)
        · rw [eE, y, cy_us, h0 z, nI_0, Int32.sub_zero]
      · rw [eM, cy_un (by omega)]
theorem cx_mk30 {J : Int32 → Int32 → Int32 → Int32 → Int32 → Int32 → Int32 → Int32 → Int32 → Int32 → Int32 → Int32 → Int32 → Int32 → Int32 → (Nat → Int32) → (Nat → Int32) → (Nat → Int32) → (Nat → Int32) → (Nat → Int32) → (Nat → Int32) → (Nat → Int32) → (Nat → Int32) → (Nat → Int32) → (Nat → Int32) → (Nat → Int32) → (Nat → Int32) → (Nat → Int32) → (Nat → Int32) → (Nat → Int32) → Prop} {ar : Nat → Nat} {N d i : Nat} {L Q A : Nat → Prop} (hN : N ≤ 32) (hok : cy_ok aF ar N L) (hd : L d) (hA : aA d = nI (ar d))
    (K : ∀ M m mC' aM' aK' aE' aH', cx_M M m mC' aM' aK' aH' → i < m → cy_en i aM' Q → (∀ x, M x → L x ∧ cy_rc (cy_ed aF ar L) A x) → (∀ x, A x → M x) → M d → aM' i = nI d → (∀ x, M x → aE' x = aR x - nI (cy_ins aF ar N Q x + cy_rw aF ar d x)) → (∀ x, cy_ins aF ar N Q x + cy_rw aF ar d x ≠ 0 → M x) → J (nI (i + 1)) oL rL wL nL wd cC pC mC' zH sC tS tC tT tF aL aA aT aR aF aO aW aC aI aP aM' aK' aE' aH' aS) :
    ∀ (n k m : Nat) (M : Nat → Prop) (mC : Int32) (aM aK aE aH : Nat → Int32), ar d - k < n → k ≤ ar d → cx_M M m mC aM aK aH → i < m → cy_en i aM Q → (∀ x, M x → L x ∧ cy_rc (cy_ed aF ar L) A x) → (∀ x, A x → M x) → M d → aM i = nI d → (∀ x, M x → aE x = aR x - nI (cy_ins aF ar N Q x + cy_pr aF d x k)) → (∀ x, cy_ins aF ar N Q x + cy_pr aF d x k ≠ 0 → M x) → wX_markMembers_30 post J (nI i) (nI d) (nI (4 * d)) n (nI k) oL rL wL nL wd cC pC mC zH sC tS tC tT tF aL aA aT aR aF aO aW aC aI aP aM aK aE aH aS := by
  have h4 := (hok d hd).2.1
  have hdN := (hok d hd).1
  have hin : vp_in (nI d) 32 := vp_in_nI (by omega) (by omega)
  have ecl := cy_cl (n := d) (by omega)
  intro n
  induction n with
  | zero => intro k m M mC aM aK aE aH h; omega
  | succ n ih =>
    intro k m M mC aM aK aE aH h hk hM him hQ hML hAM hMd hi hE hT
    refine ⟨hin, ?_⟩
    rw [ecl, hA]
    rcases Nat.lt_or_ge k (ar d) with z | z
    · obtain ⟨hini, ea⟩ := cy_at (d := d) (k := k) (by omega) (by omega)
      refine br_f (nI_ge z (by omega)) ⟨hini, fun x5 e5 => ?_⟩
      rw [ea] at e5
      rcases (hok d hd).2.2 k z with ev | ⟨c, hLc, hc, ev⟩
      · rw [ev] at e5
        subst e5
        have ep : ∀ x, cy_pr aF d x (k + 1) = cy_pr aF d x k := fun x => cy_pr_f (fun t => by rw [ev] at t; exact cy_is_m1 t)
        refine br_t (by decide) (nm_r (nI_1 k) (ih (k + 1) m M mC aM aK aE aH (by omega) (by omega) hM him hQ hML hAM hMd hi (fun x hx => ?_) (fun x hx => ?_)))
        · rw [ep]; exact hE x hx
        · rw [ep] at hx; exact hT x hx
      · rw [ev] at e5
        subst e5
        have eclc := cy_cl (n := c) (by omega)
        have hinc : vp_in (nI c) 32 := vp_in_nI hc (by omega)
        refine br_f (nI_pos (by omega)) ?_
        refine cx_addM hc hM hE (fun t => Classical.byContradiction fun y => t (hT c y)) ?_
        intro m' mC' aM' aK' aE' aH' hM' hE' hpre hmm
        refine ⟨hinc, hinc, fun aE'' eE => nm_r (nI_1 k) ?_⟩
        rw [eclc] at eE
        refine ih (k + 1) m' (fun x => M x ∨ x = c) mC' aM' aK' aE'' aH' (by omega) (by omega) hM' (by omega) (cy_en_pre (fun j hj => hpre j (by omega)) hQ) (fun x hx => ?_) (fun x hx => Or.inl (hAM x hx)) (Or.inl hMd) ((hpre i him).trans hi) (fun x hx => ?_) (fun x hx => ?_)
        · rcases hx with t | t
          · exact hML x t
          · rw [t]
            exact ⟨hLc, cy_rc_s (hML d hMd).2 ⟨hd, cy_rw_nz z ⟨hc, ev⟩⟩⟩
        · rcases Nat.decEq x c with y | y
          · rw [eE, cy_un y, cy_pr_f (fun t => y (cy_is_u t ⟨hc, ev⟩))]
            exact hE' x hx
          · rw [eE, y, cy_us, cy_pr_t ⟨hc, ev⟩, hE' c (Or.inr rfl), ← Nat.add_assoc, ← nI_1]
            grind
        · rcases Nat.decEq x c with y | y
          · rw [cy_pr_f (fun t => y (cy_is_u t ⟨hc, ev⟩))] at hx
            exact Or.inl (hT x hx)
          · exact Or.inr y
    · have e : k = ar d := by omega
      subst e
      exact br_t (nI_le (by omega) (by omega)) (nm_r (nI_1 i) (K M m mC aM aK aE aH hM him hQ hML hAM hMd hi hE hT))
theorem cx_mk2 {ar : Nat → Nat} {N : Nat} {L A : Nat → Prop} (hN : N ≤ 32) (hok : cy_ok aF ar N L) (hA : ∀ x, L x → aA x = nI (ar x))
    (K : ∀ M m mC' aM' aK' aE' aH', cx_M M m mC' aM' aK' aH' → (∀ x, M x → L x) → (∀ x, M x ↔ cy_rc (cy_ed aF ar L) A x) → (∀ x, M x → aE' x = aR x - nI (cy_ins aF ar N M x)) → post (oL, rL, wL, nL, wd, cC, pC, mC', zH, sC, tS, tC, tT, tF, aL, aA, aT, aR, aF, aO, aW, aC, aI, aP, aM', aK', aE', aH', aS)) :
    ∀ (n i m : Nat) (M Q : Nat → Prop) (mC : Int32) (aM aK aE aH : Nat → Int32), 32 - i < n → i ≤ m → cx_M M m mC aM aK aH → cy_en i aM Q → (∀ x, M x → L x ∧ cy_rc (cy_ed aF ar L) A x) → (∀ x, A x → M x) → (∀ x, M x → aE x = aR x - nI (cy_ins aF ar N Q x)) → (∀ x, cy_ins aF ar N Q x ≠ 0 → M x) → wX_markMembers_2 post n (nI i) oL rL wL nL wd cC pC mC zH sC tS tC tT tF aL aA aT aR aF aO aW aC aI aP aM aK aE aH aS := by
  intro n
  induction n with
  | zero => intro i m M Q mC aM aK aE aH h; omega
  | succ n ih =>
    intro i m M Q mC aM aK aE aH h him hM hQ hML hAM hE hT
    have hm32 := cy_en_le hM.2.1
    rcases Nat.lt_or_ge i m with z | z
    · obtain ⟨d, hMd, hd32, hnQ, ei, hQ'⟩ := cy_en_nx hQ hM.2.1 z
      have hLd := (hML d hMd).1
      have hdN := (hok d hLd).1
      refine br_f (nI_ge (b := 32) (by omega) (by decide)) (br_f (by rw [hM.1]; exact nI_ge z (by omega)) ⟨vp_in_nI (by omega) (by omega), fun x2 e2 => ?_⟩)
      rw [cy_cl (by omega), ei] at e2
      subst e2
      refine nm_r (cy_m4 d) (Exists.intro (ar d + 1) ?_)
      have p0 : ∀ x, cy_pr aF d x 0 = 0 := fun x => rfl
      refine cx_mk30 (L := L) (Q := Q) (A := A) hN hok hLd (hA d hLd) ?_ (ar d + 1) 0 m M mC aM aK aE aH (by omega) (by omega) hM z hQ hML hAM hMd ei (fun x hx => ?_) (fun x hx => ?_)
      · intro M' m' mC' aM' aK' aE' aH' hM' him' hQ1 hML' hAM' hMd' ei' hE' hT'
        have eq : ∀ x, cy_ins aF ar N Q x + cy_rw aF ar d x = cy_ins aF ar N (fun x => Q x ∨ x = d) x := fun x => by
          have a := cy_ins_rm (F := aF) (ar := ar) (N := N) (V := fun x => Q x ∨ x = d) (x := x) (Or.inr rfl) hdN
          have b := cy_ins_eq (F := aF) (ar := ar) (N := N) (V := fun y => (Q y ∨ y = d) ∧ y ≠ d) (V' := Q) (x := x) (fun y _ => ⟨fun t => t.1.resolve_right t.2, fun t => ⟨Or.inl t, fun e => hnQ (e ▸ t)⟩⟩)
          omega
        have hQ2 : cy_en (i + 1) aM' (fun x => Q x ∨ x = d) := by
          refine cy_en_pre (f := upd aM' i (nI d)) (fun j hj => ?_) (cy_en_push hQ1 hd32 hnQ)
          rcases Nat.decEq j i with y | y
          · rw [cy_un y]
          · rw [y, cy_us]; exact ei'
        refine ih (i + 1) m' M' (fun x => Q x ∨ x = d) mC' aM' aK' aE' aH' (by omega) (by omega) hM' hQ2 hML' hAM' (fun x hx => ?_) (fun x hx => ?_)
        · rw [← eq x]; exact hE' x hx
        · rw [← eq x] at hx; exact hT' x hx
      · rw [p0 x]; exact hE x hx
      · rw [p0 x] at hx; exact hT x hx
    · have e : i = m := by omega
      subst e
      have hQM : Q = M := funext fun x => propext ⟨cy_en_uq hQ hM.2.1 x, cy_en_uq hM.2.1 hQ x⟩
      subst hQM
      have fin : post (oL, rL, wL, nL, wd, cC, pC, mC, zH, sC, tS, tC, tT, tF, aL, aA, aT, aR, aF, aO, aW, aC, aI, aP, aM, aK, aE, aH, aS) := by
        refine K Q i mC aM aK aE aH hM (fun x hx => (hML x hx).1) (fun x => ⟨fun hx => (hML x hx).2, fun hx => hx Q hAM (fun a b ha hab => ?_)⟩) hE
        exact hT b (cy_ins_nz ha (hok a (hML a ha).1).1 hab.2)
      rcases Nat.lt_or_ge i 32 with y | y
      · exact br_f (nI_ge (b := 32) y (by decide)) (br_t (by rw [hM.1]; exact nI_le (by omega) (by omega)) fin)
      · exact br_t (nI_le (a := 32) y (by omega)) fin
end
end
section
/-! X's trial: held members; the trial as a whole; its end -/
def cx_H (M H Rs : Nat → Prop) (s : Nat) (zH sC : Int32) (aH aS : Nat → Int32) : Prop :=
  zH = nI (cy_n H 32) ∧ sC = nI s ∧ cy_en s aS Rs ∧ (∀ x, M x → aH x = cy_gi (H x) 1) ∧ (∀ x, Rs x → H x) ∧ (∀ x, H x → M x)
/-- members with a reference from outside -/
def cy_ex (F : Nat → Int32) (ar : Nat → Nat) (O : Nat → Int32) (R N : Nat) (L M : Nat → Prop) (x : Nat) : Prop := M x ∧ cy_ct F ar O R N (fun y => L y ∧ ¬ M y) x ≠ 0
section
variable {oL rL wL nL wd cC pC mC zH sC tS tC tT tF : Int32} {aL aA aT aR aF aO aW aC aI aP aM aK aE aH aS : Nat → Int32} {post : SX → Prop}
theorem cx_hold1 (K : post (oL, rL, wL, nL, wd, cC, pC, mC, zH, sC, tS, tC, tT, tF, aL, aA, aT, aR, aF, aO, aW, aC, aI, aP, aM, aK, aE, aH, aS)) : wpX_hold post (oL, rL, wL, nL, wd, cC, pC, mC, zH, sC, tS, tC, tT, tF, aL, aA, aT, aR, aF, aO, aW, aC, aI, aP, aM, aK, aE, aH, aS) (-1) := br_t (by decide) K
theorem cx_hold {M H Rs : Nat → Prop} {s c : Nat} (hc : c < 32) (hMc : M c) (hH : cx_H M H Rs s zH sC aH aS)
    (K : ∀ H' Rs' s' zH' sC' aH' aS', cx_H M H' Rs' s' zH' sC' aH' aS' → (∀ x, H' x ↔ H x ∨ x = c) → (∀ x, H' x → ¬ Rs' x → H x ∧ ¬ Rs x) → cy_n H' 32 + s = cy_n H 32 + s' → post (oL, rL, wL, nL, wd, cC, pC, mC, zH', sC', tS, tC, tT, tF, aL, aA, aT, aR, aF, aO, aW, aC, aI, aP, aM, aK, aE, aH', aS')) : wpX_hold post (oL, rL, wL, nL, wd, cC, pC, mC, zH, sC, tS, tC, tT, tF, aL, aA, aT, aR, aF, aO, aW, aC, aI, aP, aM, aK, aE, aH, aS) (nI c) := by
  obtain ⟨h1, h2, h3, h4, h5, h6⟩ := hH
  have ecl := cy_cl (n := c) (by omega)
  have hin : vp_in (nI c) 32 := vp_in_nI hc (by omega)
  refine br_f (nI_pos (by omega)) ⟨hin, ?_⟩
  rw [ecl, h4 c hMc]
  rcases Classical.em (H c) with z | z
  · refine br_f (fun t => cy_gi0.mp t z) (K H Rs s zH sC aH aS ⟨h1, h2, h3, h4, h5, h6⟩ (fun x => ⟨Or.inl, fun t => t.elim id (fun e => e ▸ z)⟩) (fun x a b => ⟨a, b⟩) rfl)
  · have hs := cy_en_lt h3 hc (fun t => z (h5 c t))
    refine br_t (cy_gi0.mpr z) (br_f ?_ ⟨hin, fun aH' eH => fun zH' eh => ⟨?_, fun aS' eS => fun sC' es => ?_⟩⟩)
    · rw [h2]; exact nI_ge (b := 32) hs (by decide)
    · rw [h2]; exact vp_in_nI hs (by omega)
    · rw [cy_vn1] at eH
      rw [h1, nI_1] at eh
      rw [h2, cy_cl (by omega)] at eS
      rw [h2, nI_1] at es
      have hn := cy_n_add (P := H) z hc
      refine K (fun x => H x ∨ x = c) (fun x => Rs x ∨ x = c) (s + 1) zH' sC' aH' aS' ⟨?_, es, ?_, fun x hx => ?_, fun x hx => hx.elim (fun t => Or.inl (h5 x t)) Or.inr, fun x hx => hx.elim (h6 x) (fun e => e ▸ hMc)⟩ (fun x => Iff.rfl) (fun x a b => ?_) (by omega)
      · rw [eh, hn]
      · rw [eS]; exact cy_en_push h3 hc (fun t => z (h5 c t))
      · rcases Nat.decEq x c with y | y
        · rw [eH, cy_un y, h4 x hx]
          exact cy_gie ⟨Or.inl, fun t => t.resolve_right y⟩
        · rw [eH, y, cy_us, cy_git (Or.inr rfl)]
      · have bx : x ≠ c := fun t => b (Or.inr t)
        exact ⟨a.resolve_right bx, fun t => b (Or.inl t)⟩
theorem cx_scan {m : Nat} {M : Nat → Prop} {lf : Nat → Nat} (em : mC = nI m) (hM : cy_en m aM M) (hE : ∀ x, M x → aE x = nI (lf x) ∧ lf x < 2 ^ 31)
    (K : ∀ H Rs s zH' sC' aH' aS', cx_H M H Rs s zH' sC' aH' aS' → (∀ x, H x ↔ M x ∧ lf x ≠ 0) → (∀ x, H x → Rs x) → s = cy_n H 32 → post (oL, rL, wL, nL, wd, cC, pC, mC, zH', sC', tS, tC, tT, tF, aL, aA, aT, aR, aF, aO, aW, aC, aI, aP, aM, aK, aE, aH', aS')) :
    ∀ (n i s : Nat) (Q H Rs : Nat → Prop) (zH sC : Int32) (aH aS : Nat → Int32), 32 - i < n → i ≤ m → cy_en i aM Q → cx_H M H Rs s zH sC aH aS → (∀ x, H x ↔ Q x ∧ lf x ≠ 0) → (∀ x, H x → Rs x) → s = cy_n H 32 → wX_scanMembers_12 post n (nI i) oL rL wL nL wd cC pC mC zH sC tS tC tT tF aL aA aT aR aF aO aW aC aI aP aM aK aE aH aS := by
  have hm32 := cy_en_le hM
  intro n
  induction n with
  | zero => intro i s Q H Rs zH sC aH aS h; omega
  | succ n ih =>
    intro i s Q H Rs zH sC aH aS h him hQ hH hHQ hHR hs
    rcases Nat.lt_or_ge i m with z | z
    · obtain ⟨d, hMd, hd32, hnQ, ei, hQ'⟩ := cy_en_nx hQ hM z
      refine br_f (nI_ge (b := 32) (by omega) (by decide)) (br_f (by rw [em]; exact nI_ge z (by omega)) ⟨vp_in_nI (by omega) (by omega), fun x2 e2 => ?_⟩)
      rw [cy_cl (by omega), ei] at e2
      subst e2
      refine ⟨vp_in_nI hd32 (by omega), ?_⟩
      rw [cy_cl (by omega), (hE d hMd).1]
      have hlt := (hE d hMd).2
      rcases Nat.eq_zero_or_pos (lf d) with y | y
      · refine br_t (by rw [y]; decide) (nm_r (nI_1 i) (ih (i + 1) s (fun x => Q x ∨ x = d) H Rs zH sC aH aS (by omega) (by omega) hQ' hH (fun x => ?_) hHR hs))
        rw [hHQ x]
        exact ⟨fun t => ⟨Or.inl t.1, t.2⟩, fun t => ⟨t.1.resolve_right (fun e => t.2 (e ▸ y)), t.2⟩⟩
      · refine br_f (nI_nle y hlt) ?_
        refine cx_hold hd32 hMd hH (fun H' Rs' s' zH' sC' aH' aS' hH' hHH hRR hcnt => nm_r (nI_1 i) ?_)
        refine ih (i + 1) s' (fun x => Q x ∨ x = d) H' Rs' zH' sC' aH' aS' (by omega) (by omega) hQ' hH' (fun x => ?_) (fun x hx => Classical.byContradiction fun t => (hRR x hx t).2 (hHR x (hRR x hx t).1)) (by omega)
        rw [hHH x, hHQ x]
        exact ⟨fun t => t.elim (fun q => ⟨Or.inl q.1, q.2⟩) (fun e => ⟨Or.inr e, by rw [e]; omega⟩), fun t => t.1.elim (fun q => Or.inl ⟨q, t.2⟩) Or.inr⟩
    · have e : i = m := by omega
      subst e
      have hQM : Q = M := funext fun x => propext ⟨cy_en_uq hQ hM x, cy_en_uq hM hQ x⟩
      have fin : post (oL, rL, wL, nL, wd, cC, pC, mC, zH, sC, tS, tC, tT, tF, aL, aA, aT, aR, aF, aO, aW, aC, aI, aP, aM, aK, aE, aH, aS) := K H Rs s zH sC aH aS hH (fun x => by rw [hHQ x, hQM]) hHR hs
      rcases Nat.lt_or_ge i 32 with y | y
      · exact br_f (nI_ge (b := 32) y (by decide)) (br_t (by rw [em]; exact nI_le (by omega) (by omega)) fin)
      · exact br_t (nI_le (a := 32) y (by omega)) fin
theorem cx_res42 {J : Int32 → Int32 → Int32 → Int32 → Int32 → Int32 → Int32 → Int32 → Int32 → Int32 → Int32 → Int32 → Int32 → Int32 → Int32 → (Nat → Int32) → (Nat → Int32) → (Nat → Int32) → (Nat → Int32) → (Nat → Int32) → (Nat → Int32) → (Nat → Int32) → (Nat → Int32) → (Nat → Int32) → (Nat → Int32) → (Nat → Int32) → (Nat → Int32) → (Nat → Int32) → (Nat → Int32) → (Nat → Int32) → Prop} {ar : Nat → Nat} {N d t : Nat} {L M A : Nat → Prop} (hN : N ≤ 32) (hok : cy_ok aF ar N L) (hML : ∀ x, M x → L x) (hMc : ∀ a b, M a → cy_rw aF ar a b ≠ 0 → M b) (hd : M d) (hA : aA d = nI (ar d))
    (K : ∀ H Rs s zH' sC' aH' aS', cx_H M H Rs s zH' sC' aH' aS' → t + 1 + s = cy_n H 32 → (∀ a, H a → ¬ Rs a → ∀ b, cy_rw aF ar a b ≠ 0 → H b) → (∀ x, A x → H x) → (∀ x, H x → cy_rc (cy_ed aF ar L) A x) → J (nI (t + 1)) oL rL wL nL wd cC pC mC zH' sC' tS tC tT tF aL aA aT aR aF aO aW aC aI aP aM aK aE aH' aS') :
    ∀ (n k s : Nat) (H Rs : Nat → Prop) (zH sC : Int32) (aH aS : Nat → Int32), ar d - k < n → k ≤ ar d → cx_H M H Rs s zH sC aH aS → t + 1 + s = cy_n H 32 → H d → (∀ a, H a → ¬ Rs a → a ≠ d → ∀ b, cy_rw aF ar a b ≠ 0 → H b) → (∀ b, cy_pr aF d b k ≠ 0 → H b) → (∀ x, A x → H x) → (∀ x, H x → cy_rc (cy_ed aF ar L) A x) → wX_restoreHeld_42 post J (nI t) (nI d) (nI (4 * d)) n (nI k) oL rL wL nL wd cC pC mC zH sC tS tC tT tF aL aA aT aR aF aO aW aC aI aP aM aK aE aH aS := by
  have hLd := hML d hd
  have h4 := (hok d hLd).2.1
  have hdN := (hok d hLd).1
  have hin : vp_in (nI d) 32 := vp_in_nI (by omega) (by omega)
  have ecl := cy_cl (n := d) (by omega)
  intro n
  induction n with
  | zero => intro k s H Rs zH sC aH aS h; omega
  | succ n ih =>
    intro k s H Rs zH sC aH aS h hk hH hcnt hHd hcl hpr hAH hHr
    refine ⟨hin, ?_⟩
    rw [ecl, hA]
    rcases Nat.lt_or_ge k (ar d) with z | z
    · obtain ⟨hini, ea⟩ := cy_at (d := d) (k := k) (by omega) (by omega)
      refine br_f (nI_ge z (by omega)) ⟨hini, ?_⟩
      rw [ea]
      rcases (hok d hLd).2.2 k z with ev | ⟨c, hLc, hc, ev⟩
      · rw [ev]
        refine cx_hold1 (nm_r (nI_1 k) (ih (k + 1) s H Rs zH sC aH aS (by omega) (by omega) hH hcnt hHd hcl (fun b hb => ?_) hAH hHr))
        rw [cy_pr_f (fun t => by rw [ev] at t; exact cy_is_m1 t)] at hb
        exact hpr b hb
      · rw [ev]
        have hMcc : M c := hMc d c hd (cy_rw_nz z ⟨hc, ev⟩)
        refine cx_hold hc hMcc hH (fun H' Rs' s' zH' sC' aH' aS' hH' hHH hRR hcn => nm_r (nI_1 k) ?_)
        refine ih (k + 1) s' H' Rs' zH' sC' aH' aS' (by omega) (by omega) hH' (by omega) ((hHH d).mpr (Or.inl hHd)) (fun a ha hna hne b hb => (hHH b).mpr (Or.inl (hcl a (hRR a ha hna).1 (hRR a ha hna).2 hne b hb))) (fun b hb => (hHH b).mpr ?_) (fun x hx => (hHH x).mpr (Or.inl (hAH x hx))) (fun x hx => ?_)
        · rcases Nat.decEq b c with y | y
          · rw [cy_pr_f (fun t => y (cy_is_u t ⟨hc, ev⟩))] at hb
            exact Or.inl (hpr b hb)
          · exact Or.inr y
        · rcases (hHH x).mp hx with q | q
          · exact hHr x q
          · rw [q]
            exact cy_rc_s (hHr d hHd) ⟨hLd, cy_rw_nz z ⟨hc, ev⟩⟩
    · have e : k = ar d := by omega
      subst e
      refine br_t (nI_le (by omega) (by omega)) (nm_r (nI_1 t) (K H Rs s zH sC aH aS hH hcnt (fun a ha hna b hb => ?_) hAH hHr))
      rcases Nat.decEq a d with y | y
      · exact hcl a ha hna y b hb
      · rw [y] at hb
        exact hpr b hb
theorem cx_res2 {ar : Nat → Nat} {N : Nat} {L M A : Nat → Prop} (hN : N ≤ 32) (hok : cy_ok aF ar N L) (hML : ∀ x, M x → L x) (hMc : ∀ a b, M a → cy_rw aF ar a b ≠ 0 → M b) (hA : ∀ x, L x → aA x = nI (ar x))
    (K : ∀ H zH' sC' aH' aS', zH' = nI (cy_n H 32) → (∀ x, M x → aH' x = cy_gi (H x) 1) → (∀ x, H x → M x) → (∀ x, H x ↔ cy_rc (cy_ed aF ar L) A x) → post (oL, rL, wL, nL, wd, cC, pC, mC, zH', sC', tS, tC, tT, tF, aL, aA, aT, aR, aF, aO, aW, aC, aI, aP, aM, aK, aE, aH', aS')) :
    ∀ (n t s : Nat) (H Rs : Nat → Prop) (zH sC : Int32) (aH aS : Nat → Int32), 32 - t < n → cx_H M H Rs s zH sC aH aS → t + s = cy_n H 32 → (∀ a, H a → ¬ Rs a → ∀ b, cy_rw aF ar a b ≠ 0 → H b) → (∀ x, A x → H x) → (∀ x, H x → cy_rc (cy_ed aF ar L) A x) → wX_restoreHeld_2 post n (nI t) oL rL wL nL wd cC pC mC zH sC tS tC tT tF aL aA aT aR aF aO aW aC aI aP aM aK aE aH aS := by
  intro n
  induction n with
  | zero => intro t s H Rs zH sC aH aS h; omega
  | succ n ih =>
    intro t s H Rs zH sC aH aS h hH hcnt hcl hAH hHr
    have hb := cy_n_bd H 32
    have fin : s = 0 → post (oL, rL, wL, nL, wd, cC, pC, mC, zH, sC, tS, tC, tT, tF, aL, aA, aT, aR, aF, aO, aW, aC, aI, aP, aM, aK, aE, aH, aS) := by
      intro s0
      have hRs : ∀ x, ¬ Rs x := by
        have := hH.2.2.1
        rw [s0] at this
        exact cy_en_z this
      refine K H zH sC aH aS hH.1 hH.2.2.2.1 hH.2.2.2.2.2 (fun x => ⟨hHr x, fun hx => hx H hAH (fun a b ha hab => hcl a ha (hRs a) b hab.2)⟩)
    rcases Nat.lt_or_ge t 32 with z | z
    · refine br_f (nI_ge (b := 32) z (by decide)) ?_
      rcases Nat.eq_zero_or_pos s with y | y
      · exact br_t (by rw [hH.2.1, y]; decide) (fin y)
      · obtain ⟨q, rfl⟩ : ∃ q, s = q + 1 := ⟨s - 1, by omega⟩
        obtain ⟨h1, h2, h3, h4, h5, h6⟩ := hH
        obtain ⟨d, hRd, ed, h3'⟩ := cy_en_pop h3
        have hHd := h5 d hRd
        have hMd := h6 d hHd
        have hLd := hML d hMd
        refine br_f (by rw [h2]; exact nI_nle (by omega) (by omega)) (fun sC' es => ?_)
        rw [h2, nI_pred] at es
        refine ⟨by rw [es]; exact vp_in_nI (by omega) (by omega), fun x2 e2 => ?_⟩
        rw [es, cy_cl (by omega), ed] at e2
        subst e2
        refine nm_r (cy_m4 d) (Exists.intro (ar d + 1) ?_)
        refine cx_res42 (L := L) (M := M) (A := A) hN hok hML hMc hMd (hA d hLd) ?_ (ar d + 1) 0 q H (fun x => Rs x ∧ x ≠ d) zH sC' aH aS (by omega) (by omega) ⟨h1, es, h3', h4, fun x hx => h5 x hx.1, h6⟩ (by omega) hHd (fun a ha hna hne b hb => hcl a ha (fun t => hna ⟨t, hne⟩) b hb) (fun b hb => absurd rfl hb) hAH hHr
        intro H' Rs' s' zH' sC'' aH' aS' hH' hcnt' hcl' hAH' hHr'
        exact ih (t + 1) s' H' Rs' zH' sC'' aH' aS' (by omega) hH' hcnt' hcl' hAH' hHr'
    · exact br_t (nI_le (a := 32) z (by omega)) (fin (by omega))
theorem cx_trial {ar : Nat → Nat} {R N m : Nat} {L A : Nat → Prop} (hN : N ≤ 32) (hR : R ≤ 8) (hok : cy_ok aF ar N L) (hct : ∀ x, L x → aR x = nI (cy_ct aF ar aO R N L x)) (hA : ∀ x, L x → aA x = nI (ar x)) (hM0 : cx_M A m mC aM aK aH) (hAL : ∀ x, A x → L x) (hE0 : ∀ x, A x → aE x = aR x - nI 0)
    (K : ∀ M H m' mC' zH' sC' aM' aK' aE' aH' aS', mC' = nI m' → cy_en m' aM' M → (∀ x, x < 32 → aK' x = cy_gi (M x) 1) → zH' = nI (cy_n H 32) → (∀ x, M x → aH' x = cy_gi (H x) 1) → (∀ x, M x → L x) → (∀ x, H x → M x) → (∀ x, M x ↔ cy_rc (cy_ed aF ar L) A x) → (∀ x, H x ↔ cy_rc (cy_ed aF ar L) (cy_ex aF ar aO R N L M) x) → post (oL, rL, wL, nL, wd, cC, pC, mC', zH', sC', tS, tC, tT, tF, aL, aA, aT, aR, aF, aO, aW, aC, aI, aP, aM', aK', aE', aH', aS')) : wpX_runTrial post (oL, rL, wL, nL, wd, cC, pC, mC, zH, sC, tS, tC, tT, tF, aL, aA, aT, aR, aF, aO, aW, aC, aI, aP, aM, aK, aE, aH, aS) := by
  unfold wpX_runTrial
  refine Exists.intro 33 ?_
  have i0 : ∀ x, cy_ins aF ar N (fun _ => False) x = 0 := fun x => cy_sm_0 fun j _ => cy_gf id
  refine cx_mk2 (L := L) (A := A) hN hok hA ?_ 33 0 m A (fun _ => False) mC aM aK aE aH (by omega) (by omega) hM0 (cy_en_0 fun _ => id) (fun x hx => ⟨hAL x hx, cy_rc_0 hx⟩) (fun x hx => hx) (fun x hx => ?_) (fun x hx => absurd (i0 x) hx)
  · intro M m' mC' aM' aK' aE' aH' hM hML hMr hE
    obtain ⟨g1, g2, g3, g4⟩ := hM
    refine Exists.intro 33 ?_
    have lfe : ∀ x, cy_ct aF ar aO R N (fun y => L y ∧ ¬ M y) x + cy_ins aF ar N M x = cy_ct aF ar aO R N L x := fun x => by
      have := cy_ins_df (F := aF) (ar := ar) (N := N) (V := L) (D := M) (x := x) hML
      show cy_rt aO R x + cy_ins aF ar N (fun y => L y ∧ ¬ M y) x + cy_ins aF ar N M x = cy_rt aO R x + cy_ins aF ar N L x
      omega
    refine cx_scan (M := M) (lf := fun x => cy_ct aF ar aO R N (fun y => L y ∧ ¬ M y) x) g1 g2 (fun x hx => ?_) ?_ 33 0 0 (fun _ => False) (fun _ => False) (fun _ => False) 0 0 aH' aS (by omega) (by omega) (cy_en_0 fun _ => id) ⟨?_, nI_0.symm, cy_en_0 fun _ => id, fun x hx => ?_, fun x => id, fun x => False.elim⟩ (fun x => ⟨False.elim, fun t => t.1⟩) (fun x => id) ?_
    · have l := lfe x
      have b := cy_ct_bd (F := aF) (ar := ar) (O := aO) (R := R) (N := N) (V := L) x hok hR hN
      refine ⟨?_, by show cy_ct aF ar aO R N (fun y => L y ∧ ¬ M y) x < 2 ^ 31; omega⟩
      rw [hE x hx, hct x (hML x hx), cy_sub (by omega)]
      have : cy_ct aF ar aO R N L x - cy_ins aF ar N M x = cy_ct aF ar aO R N (fun y => L y ∧ ¬ M y) x := by omega
      rw [this]
    · intro H Rs s zH' sC' aH'' aS' hH hHM hHR hs
      refine Exists.intro 33 ?_
      refine cx_res2 (L := L) (M := M) (A := cy_ex aF ar aO R N L M) hN hok hML (fun a b ha hab => (hMr b).mpr (cy_rc_s ((hMr a).mp ha) ⟨hML a ha, hab⟩)) hA ?_ 33 0 s H Rs zH' sC' aH'' aS' (by omega) hH (by omega) (fun a ha hna => absurd (hHR a ha) hna) (fun x hx => (hHM x).mpr hx) (fun x hx => cy_rc_0 ((hHM x).mp hx))
      intro H' zH'' sC'' aH3 aS'' q1 q2 q3 q4
      exact K M H' m' mC' zH'' sC'' aM' aK' aE' aH3 aS'' g1 g2 g3 q1 q2 hML q3 hMr q4
    · have : cy_n (fun _ => False) 32 = 0 := cy_n_0 fun _ _ => id
      rw [this, nI_0]
    · rw [g4 x hx, cy_gif id]
    · exact (cy_n_0 fun _ _ => id).symm
  · rw [i0 x]; exact hE0 x hx
theorem cx_end2 {m : Nat} {M : Nat → Prop} (em : mC = nI m) (hM : cy_en m aM M) (K : ∀ aK' aH', (∀ x, x < 32 → aK' x = 0) → post (oL, rL, wL, nL, wd, cC, pC, 0, 0, 0, tS, tC, tT, tF, aL, aA, aT, aR, aF, aO, aW, aC, aI, aP, aM, aK', aE, aH', aS)) :
    ∀ (n i : Nat) (Q : Nat → Prop) (aK aH : Nat → Int32), 32 - i < n → i ≤ m → cy_en i aM Q → (∀ x, x < 32 → aK x = cy_gi (M x ∧ ¬ Q x) 1) → wX_endTrial_2 post oL rL wL nL wd cC pC mC zH sC tS tC tT tF n (nI i) aL aA aT aR aF aO aW aC aI aP aM aK aE aH aS := by
  have hm32 := cy_en_le hM
  intro n
  induction n with
  | zero => intro i Q aK aH h; omega
  | succ n ih =>
    intro i Q aK aH h him hQ hK
    rcases Nat.lt_or_ge i m with z | z
    · obtain ⟨d, hMd, hd32, hnQ, ei, hQ'⟩ := cy_en_nx hQ hM z
      have hin : vp_in (nI d) 32 := vp_in_nI hd32 (by omega)
      refine br_f (nI_ge (b := 32) (by omega) (by decide)) (br_f (by rw [em]; exact nI_ge z (by omega)) ⟨vp_in_nI (by omega) (by omega), fun x2 e2 => ?_⟩)
      rw [cy_cl (by omega), ei] at e2
      subst e2
      refine ⟨hin, fun aK' eK => ⟨hin, fun aH' eH => nm_r (nI_1 i) ?_⟩⟩
      rw [cy_cl (by omega), cy_vn0] at eK
      refine ih (i + 1) (fun x => Q x ∨ x = d) aK' aH' (by omega) (by omega) hQ' (fun x hx => ?_)
      rcases Nat.decEq x d with y | y
      · rw [eK, cy_un y, hK x hx]
        exact cy_gie ⟨fun t => ⟨t.1, fun q => q.elim t.2 y⟩, fun t => ⟨t.1, fun q => t.2 (Or.inl q)⟩⟩
      · rw [eK, y, cy_us, cy_gif (fun t => t.2 (Or.inr rfl))]
    · have e : i = m := by omega
      subst e
      have fin : wX_endTrial_43 post oL rL wL nL wd cC pC mC zH sC tS tC tT tF aL aA aT aR aF aO aW aC aI aP aM aK aE aH aS := by
        refine K aK aH (fun x hx => ?_)
        rw [hK x hx, cy_gif (fun t => t.2 (cy_en_uq hM hQ x t.1))]
      rcases Nat.lt_or_ge i 32 with y | y
      · exact br_f (nI_ge (b := 32) y (by decide)) (br_t (by rw [em]; exact nI_le (by omega) (by omega)) fin)
      · exact br_t (nI_le (a := 32) y (by omega)) fin
theorem cx_end {m : Nat} {M : Nat → Prop} (em : mC = nI m) (hM : cy_en m aM M) (hK : ∀ x, x < 32 → aK x = cy_gi (M x) 1) (K : ∀ aK' aH', (∀ x, x < 32 → aK' x = 0) → post (oL, rL, wL, nL, wd, cC, pC, 0, 0, 0, tS, tC, tT, tF, aL, aA, aT, aR, aF, aO, aW, aC, aI, aP, aM, aK', aE, aH', aS)) : wpX_endTrial post (oL, rL, wL, nL, wd, cC, pC, mC, zH, sC, tS, tC, tT, tF, aL, aA, aT, aR, aF, aO, aW, aC, aI, aP, aM, aK, aE, aH, aS) := by
  refine Exists.intro 33 (cx_end2 em hM K 33 0 (fun _ => False) aK aH (by omega) (by omega) (cy_en_0 fun _ => id) (fun x hx => ?_))
  rw [hK x hx]
  exact cy_gie ⟨fun t => ⟨t, id⟩, fun t => t.1⟩
end
end
section
/-! The doomed set: pure facts -/
section
variable {F : Nat → Int32} {ar : Nat → Nat} {O : Nat → Int32} {R N : Nat} {L M H V : Nat → Prop} {C : Nat → Prop} {rf : Nat → Int32}
theorem cy_rc_x {E : Nat → Nat → Prop} {A S : Nat → Prop} (h0 : ∀ a, A a → S a) (h1 : ∀ a b, S a → E a b → S b) : ∀ x, cy_rc E A x → S x := fun _ h => h S h0 h1
/-- what is known of a trial's members M and held ones H -/
def cy_tr (F : Nat → Int32) (ar : Nat → Nat) (O : Nat → Int32) (R N : Nat) (L M H : Nat → Prop) : Prop :=
  cy_ok F ar N L ∧ cy_ro O R L ∧ (∀ x, M x → L x) ∧ (∀ x, H x → M x) ∧ (∀ a b, M a → cy_rw F ar a b ≠ 0 → M b) ∧ (∀ x, H x ↔ cy_rc (cy_ed F ar L) (cy_ex F ar O R N L M) x)
theorem cy_tr_d1 (h : cy_tr F ar O R N L M H) {x y : Nat} (hy : L y) (hn : ¬ (M y ∧ ¬ H y)) (e : cy_rw F ar y x ≠ 0) : ¬ (M x ∧ ¬ H x) := by
  obtain ⟨h1, h2, h3, h4, h5, h6⟩ := h
  intro t
  rcases Classical.em (M y) with z | z
  · have hHy : H y := Classical.byContradiction fun q => hn ⟨z, q⟩
    exact t.2 ((h6 x).mpr (cy_rc_s ((h6 y).mp hHy) ⟨hy, e⟩))
  · refine t.2 ((h6 x).mpr (cy_rc_0 ⟨t.1, fun q => ?_⟩))
    exact e ((cy_ct_0 (fun w hw => (h1 w hw.1).1) q).2 y ⟨hy, z⟩)
theorem cy_tr_d2 (h : cy_tr F ar O R N L M H) {x : Nat} (e : cy_rt O R x ≠ 0) : ¬ (M x ∧ ¬ H x) := by
  obtain ⟨h1, h2, h3, h4, h5, h6⟩ := h
  intro t
  refine t.2 ((h6 x).mpr (cy_rc_0 ⟨t.1, fun q => ?_⟩))
  exact e ((cy_ct_0 (fun w hw => (h1 w hw.1).1) q).1)
theorem cy_tr_in (hok : cy_ok F ar N L) (hV : ∀ x, V x → L x) {x : Nat} (h : cy_rt O R x ≠ 0 ∨ ∃ y, V y ∧ cy_rw F ar y x ≠ 0) : cy_ct F ar O R N V x ≠ 0 := by
  intro q
  obtain ⟨e1, e2⟩ := cy_ct_0 (fun y hy => (hok y (hV y hy)).1) q
  rcases h with t | ⟨y, hy, t⟩
  · exact t e1
  · exact t (e2 y hy)
theorem cy_tr_d3 (h : cy_tr F ar O R N L M H) (hpos : ∀ x, L x → cy_ct F ar O R N L x ≠ 0) {x : Nat} (hx : L x) (hn : ¬ (M x ∧ ¬ H x)) : cy_ct F ar O R N (fun y => L y ∧ ¬ (M y ∧ ¬ H y)) x ≠ 0 := by
  obtain ⟨h1, h2, h3, h4, h5, h6⟩ := h
  rcases Classical.em (M x) with z | z
  · have hHx : H x := Classical.byContradiction fun q => hn ⟨z, q⟩
    have key : ∀ x, cy_rc (cy_ed F ar L) (cy_ex F ar O R N L M) x → H x ∧ cy_ct F ar O R N (fun y => L y ∧ ¬ (M y ∧ ¬ H y)) x ≠ 0 := by
      refine cy_rc_x (fun a ha => ⟨(h6 a).mpr (cy_rc_0 ha), ?_⟩) (fun a b ha hab => ⟨(h6 b).mpr (cy_rc_s ((h6 a).mp ha.1) hab), ?_⟩)
      · refine cy_tr_in h1 (fun y hy => hy.1) ?_
        rcases cy_ct_nz ha.2 with t | ⟨y, hy, t⟩
        · exact Or.inl t
        · exact Or.inr ⟨y, ⟨hy.1, fun q => hy.2 q.1⟩, t⟩
      · exact cy_tr_in h1 (fun y hy => hy.1) (Or.inr ⟨a, ⟨hab.1, fun q => q.2 ha.1⟩, hab.2⟩)
    exact (key x ((h6 x).mp hHx)).2
  · refine cy_tr_in h1 (fun y hy => hy.1) ?_
    rcases cy_ct_nz (hpos x hx) with t | ⟨y, hy, t⟩
    · exact Or.inl t
    · exact Or.inr ⟨y, ⟨hy, fun q => z (h5 y x q.1 t)⟩, t⟩
theorem cy_tr_ok (h : cy_tr F ar O R N L M H) : cy_ok F ar N (fun y => L y ∧ ¬ (M y ∧ ¬ H y)) := by
  intro x hx
  refine ⟨(h.1 x hx.1).1, (h.1 x hx.1).2.1, fun k hk => ?_⟩
  rcases (h.1 x hx.1).2.2 k hk with z | ⟨y, hy, h32, z⟩
  · exact Or.inl z
  · exact Or.inr ⟨y, ⟨hy, cy_tr_d1 h hx.1 hx.2 (cy_rw_nz hk ⟨h32, z⟩)⟩, h32, z⟩
theorem cy_tr_ro (h : cy_tr F ar O R N L M H) : cy_ro O R (fun y => L y ∧ ¬ (M y ∧ ¬ H y)) := by
  intro r hr
  rcases h.2.1 r hr with z | ⟨y, hy, h32, z⟩
  · exact Or.inl z
  · exact Or.inr ⟨y, ⟨hy, cy_tr_d2 h (cy_rt_nz hr ⟨h32, z⟩)⟩, h32, z⟩
theorem cx_S_doom (h : cy_tr F ar O R N L M H) (hS : cx_S F ar O R N L (fun _ => 0) (fun _ => False) C rf) :
    cx_S F ar O R N (fun y => L y ∧ ¬ (M y ∧ ¬ H y)) (fun x => cy_g (L x ∧ ¬ (M x ∧ ¬ H x)) (cy_ins F ar N (fun y => M y ∧ ¬ H y) x)) (fun _ => False) C rf := by
  obtain ⟨s1, s2, s3, s4, s5, s6⟩ := hS
  have hpos : ∀ x, L x → cy_ct F ar O R N L x ≠ 0 := fun x hx q => (s5 x).mpr ⟨hx, q⟩
  have ec : ∀ x, cy_ct F ar O R N (fun y => L y ∧ ¬ (M y ∧ ¬ H y)) x + cy_ins F ar N (fun y => M y ∧ ¬ H y) x = cy_ct F ar O R N L x := fun x => by
    have := cy_ins_df (F := F) (ar := ar) (N := N) (V := L) (D := fun y => M y ∧ ¬ H y) (x := x) (fun y hy => h.2.2.1 y hy.1)
    show cy_rt O R x + cy_ins F ar N (fun y => L y ∧ ¬ (M y ∧ ¬ H y)) x + cy_ins F ar N (fun y => M y ∧ ¬ H y) x = cy_rt O R x + cy_ins F ar N L x
    omega
  refine ⟨cy_tr_ok h, cy_tr_ro h, fun x hx => Classical.byContradiction fun q => hx (cy_gf q), fun x hx => ?_, fun x => ⟨False.elim, fun z => ?_⟩, fun x hx => ?_⟩
  · have e1 : cy_g (L x ∧ ¬ (M x ∧ ¬ H x)) (cy_ins F ar N (fun y => M y ∧ ¬ H y) x) = cy_ins F ar N (fun y => M y ∧ ¬ H y) x := cy_gt hx
    show rf x = nI (cy_ct F ar O R N (fun y => L y ∧ ¬ (M y ∧ ¬ H y)) x + cy_g (L x ∧ ¬ (M x ∧ ¬ H x)) (cy_ins F ar N (fun y => M y ∧ ¬ H y) x))
    rw [e1, ec x]
    exact s4 x hx.1
  · have a := cy_tr_d3 h hpos z.1.1 z.1.2
    have b := z.2
    omega
  · refine (s6 x hx.1 (fun a => (M a ∧ ¬ H a) ∨ cy_rc (cy_ed F ar (fun y => L y ∧ ¬ (M y ∧ ¬ H y))) (fun a => cy_rt O R a ≠ 0 ∨ C a ∨ False ∨ cy_g (L a ∧ ¬ (M a ∧ ¬ H a)) (cy_ins F ar N (fun y => M y ∧ ¬ H y) a) ≠ 0) a) (fun a ha => Or.inr (cy_rc_0 ?_)) (fun a b ha hab => ?_)).resolve_left hx.2
    · rcases ha with t | t | t | t
      · exact Or.inl t
      · exact Or.inr (Or.inl t)
      · exact t.elim
      · exact absurd rfl t
    · rcases Classical.em (M b ∧ ¬ H b) with q | q
      · exact Or.inl q
      · right
        have hb : L b := cy_ok_rw h.1 hab.1 hab.2
        rcases ha with t | t
        · refine cy_rc_0 (Or.inr (Or.inr (Or.inr ?_)))
          rw [cy_gt ⟨hb, q⟩]
          exact cy_ins_nz t (h.1 a hab.1).1 hab.2
        · rcases Classical.em (M a ∧ ¬ H a) with w | w
          · refine cy_rc_0 (Or.inr (Or.inr (Or.inr ?_)))
            rw [cy_gt ⟨hb, q⟩]
            exact cy_ins_nz w (h.1 a hab.1).1 hab.2
          · exact cy_rc_s t ⟨⟨hab.1, w⟩, hab.2⟩
/-- an object outside V is forgotten -/
theorem cx_S_forget {X : Nat → Nat} {P : Nat → Prop} {d : Nat} {rf' : Nat → Int32} (hS : cx_S F ar O R N V X P C rf) (hd : ¬ V d) (e : ∀ x, x ≠ d → rf' x = rf x) : cx_S F ar O R N V X P (fun x => C x ∧ x ≠ d) rf' := by
  obtain ⟨h1, h2, h3, h4, h5, h6⟩ := hS
  refine ⟨h1, h2, h3, fun x hx => ?_, h5, fun x hx => ?_⟩
  · rw [e x (fun t => hd (t ▸ hx))]; exact h4 x hx
  · refine (h6 x hx (fun a => a = d ∨ cy_rc (cy_ed F ar V) (fun a => cy_rt O R a ≠ 0 ∨ (C a ∧ a ≠ d) ∨ P a ∨ X a ≠ 0) a) (fun a ha => ?_) (fun a b s' e' => ?_)).resolve_left (fun t => hd (t ▸ hx))
    · rcases Nat.decEq a d with y | y
      · refine Or.inr (cy_rc_0 ?_)
        rcases ha with t | t | t | t
        · exact Or.inl t
        · exact Or.inr (Or.inl ⟨t, y⟩)
        · exact Or.inr (Or.inr (Or.inl t))
        · exact Or.inr (Or.inr (Or.inr t))
      · exact Or.inl y
    · exact Or.inr (cy_rc_s (s'.resolve_left (fun t => hd (t ▸ e'.1))) e')
/-- a trial from all candidates dooms exactly what no root reaches -/
theorem cy_tr_full (h : cy_tr F ar O R N L M H) (hM : ∀ x, M x ↔ cy_rc (cy_ed F ar L) C x) (hr : ∀ x, L x → cy_rc (cy_ed F ar L) (fun a => cy_rt O R a ≠ 0 ∨ C a) x) (x : Nat) (hx : L x) : ¬ (M x ∧ ¬ H x) ↔ cy_rc (cy_ed F ar L) (fun a => cy_rt O R a ≠ 0) x := by
  have TM : ∀ x, L x → cy_rc (cy_ed F ar L) (fun a => cy_rt O R a ≠ 0) x ∨ M x := by
    intro x hx
    refine hr x hx (fun a => cy_rc (cy_ed F ar L) (fun a => cy_rt O R a ≠ 0) a ∨ M a) (fun a ha => ?_) (fun a b ha hab => ?_)
    · rcases ha with t | t
      · exact Or.inl (cy_rc_0 t)
      · exact Or.inr ((hM a).mpr (cy_rc_0 t))
    · rcases ha with t | t
      · exact Or.inl (cy_rc_s t hab)
      · exact Or.inr (h.2.2.2.2.1 a b t hab.2)
  constructor
  · intro hn
    rcases TM x hx with t | t
    · exact t
    · have hH : H x := Classical.byContradiction fun q => hn ⟨t, q⟩
      refine cy_rc_x (S := cy_rc (cy_ed F ar L) (fun a => cy_rt O R a ≠ 0)) (fun a ha => ?_) (fun a b ha hab => cy_rc_s ha hab) x ((h.2.2.2.2.2 x).mp hH)
      rcases cy_ct_nz ha.2 with q | ⟨y, hy, q⟩
      · exact cy_rc_0 q
      · exact cy_rc_s ((TM y hy.1).resolve_right hy.2) ⟨hy.1, q⟩
  · exact cy_rc_x (S := fun a => ¬ (M a ∧ ¬ H a)) (fun a ha => cy_tr_d2 h ha) (fun a b ha hab => cy_tr_d1 h hab.1 ha hab.2) x
/-- behind a full collection no candidate is wanted -/
theorem cx_S_full {X : Nat → Nat} {P C' : Nat → Prop} (h : cy_tr F ar O R N L M H) (hM : ∀ x, M x ↔ cy_rc (cy_ed F ar L) C x) (hr : ∀ x, L x → cy_rc (cy_ed F ar L) (fun a => cy_rt O R a ≠ 0 ∨ C a) x) (hS : cx_S F ar O R N (fun y => L y ∧ ¬ (M y ∧ ¬ H y)) X P C' rf) : cx_S F ar O R N (fun y => L y ∧ ¬ (M y ∧ ¬ H y)) X P (fun _ => False) rf := by
  obtain ⟨s1, s2, s3, s4, s5, s6⟩ := hS
  refine ⟨s1, s2, s3, s4, s5, fun x hx => ?_⟩
  have t := (cy_tr_full h hM hr x hx.1).mp hx.2
  refine (cy_rc_x (S := fun a => ¬ (M a ∧ ¬ H a) ∧ cy_rc (cy_ed F ar (fun y => L y ∧ ¬ (M y ∧ ¬ H y))) (fun a => cy_rt O R a ≠ 0 ∨ False ∨ P a ∨ X a ≠ 0) a) (fun a ha => ⟨cy_tr_d2 h ha, cy_rc_0 (Or.inl ha)⟩) (fun a b ha hab => ⟨cy_tr_d1 h hab.1 ha.1 hab.2, cy_rc_s ha.2 ⟨⟨hab.1, ha.1⟩, hab.2⟩⟩) x t).2
end
end
section
/-! X's dropHeldChildren, reclaimDoomed, clearCandidates, fullCollection -/
section
variable {oL rL wL nL wd cC pC mC zH sC tS tC tT tF : Int32} {aL aA aT aR aF aO aW aC aI aP aM aK aE aH aS : Nat → Int32}
theorem cx_dhc6 {post : SX → Prop} {ar : Nat → Nat} {R N d : Nat} {L M H V Dr Lc : Nat → Prop} (hN : N ≤ 32) (htr : cy_tr aF ar aO R N L M H) (hV : ∀ x, V x ↔ L x ∧ ¬ (M x ∧ ¬ H x)) (hpos : ∀ x, V x → cy_ct aF ar aO R N V x ≠ 0) (hd : M d) (hDd : Dr d) (hA : aA d = nI (ar d)) (hH : ∀ x, M x → aH x = cy_gi (H x) 1) (hVc : ∀ x, V x → Lc x)
    (K : ∀ C' cC' aR' aC' aI', cx_S aF ar aO R N V (fun x => cy_g (V x) (cy_ins aF ar N (fun y => Dr y ∧ y ≠ d) x)) (fun _ => False) C' aR' → cx_C C' cC' aC' aI' → (∀ x, C' x → Lc x) → post (oL, rL, wL, nL, wd, cC', pC, mC, zH, sC, tS, tC, tT, tF, aL, aA, aT, aR', aF, aO, aW, aC', aI', aP, aM, aK, aE, aH, aS)) :
    ∀ (n k : Nat) (X : Nat → Nat) (C : Nat → Prop) (cC : Int32) (aR aC aI : Nat → Int32), ar d - k < n → k ≤ ar d → cx_S aF ar aO R N V X (fun _ => False) C aR → (∀ x, X x + cy_g (V x) (cy_pr aF d x k) = cy_g (V x) (cy_ins aF ar N Dr x)) → cx_C C cC aC aI → (∀ x, C x → Lc x) → wX_dropHeldChildren_6 post (nI d) (nI (4 * d)) n (nI k) oL rL wL nL wd cC pC mC zH sC tS tC tT tF aL aA aT aR aF aO aW aC aI aP aM aK aE aH aS := by
  obtain ⟨hok, hro, hML, hHM, hMc, hHr⟩ := htr
  have hLd := hML d hd
  have h4 := (hok d hLd).2.1
  have hdN := (hok d hLd).1
  have hin : vp_in (nI d) 32 := vp_in_nI (by omega) (by omega)
  have ecl := cy_cl (n := d) (by omega)
  have edr : ∀ x, cy_ins aF ar N (fun y => Dr y ∧ y ≠ d) x + cy_rw aF ar d x = cy_ins aF ar N Dr x := fun x => cy_ins_rm hDd hdN
  intro n
  induction n with
  | zero => intro k X C cC aR aC aI h; omega
  | succ n ih =>
    intro k X C cC aR aC aI h hk hS hX hC hCL
    refine ⟨hin, ?_⟩
    rw [ecl, hA]
    rcases Nat.lt_or_ge k (ar d) with z | z
    · obtain ⟨hini, ea⟩ := cy_at (d := d) (k := k) (by omega) (by omega)
      refine br_f (nI_ge z (by omega)) ⟨hini, fun x4 e4 => ?_⟩
      rw [ea] at e4
      rcases (hok d hLd).2.2 k z with ev | ⟨c, hLc, hc, ev⟩
      · rw [ev] at e4
        subst e4
        refine br_t (by decide) (nm_r (nI_1 k) (ih (k + 1) X C cC aR aC aI (by omega) (by omega) hS (fun x => ?_) hC hCL))
        rw [cy_pr_f (fun t => by rw [ev] at t; exact cy_is_m1 t)]
        exact hX x
      · rw [ev] at e4
        subst e4
        have eclc := cy_cl (n := c) (by omega)
        have hinc : vp_in (nI c) 32 := vp_in_nI hc (by omega)
        have hMcc : M c := hMc d c hd (cy_rw_nz z ⟨hc, ev⟩)
        refine br_f (nI_pos (by omega)) ⟨hinc, ?_⟩
        rw [eclc, hH c hMcc]
        rcases Classical.em (H c) with y | y
        · have hVcc : V c := (hV c).mpr ⟨hLc, fun t => t.2 y⟩
          have hXc : X c ≠ 0 := by
            have a := hX c
            rw [cy_gt hVcc, cy_gt hVcc] at a
            have b := cy_pr_t (F := aF) (a := d) (b := c) (k := k) ⟨hc, ev⟩
            have e := cy_pr_le (F := aF) (ar := ar) (a := d) (b := c) (k := k + 1) (by omega)
            have g := edr c
            omega
          refine br_f (fun t => cy_gi0.mp t y) ⟨hinc, hinc, fun aR' eR => ?_⟩
          refine cx_addC hc hC (fun cC' aC' aI' hC' => nm_r (nI_1 k) ?_)
          refine ih (k + 1) (fun x => X x - cy_b (x = c)) (fun x => C x ∨ x = c) cC' aR' aC' aI' (by omega) (by omega) ?_ (fun x => ?_) hC' (fun x hx => hx.elim (hCL x) (fun e => e ▸ hVc c hVcc))
          · rw [eR]
            refine cx_S_dc (fun _ => rfl) hS hXc ?_
            have := hpos c hVcc
            omega
          · have a := hX x
            rcases Nat.decEq x c with q | q
            · rw [cy_bf q, cy_pr_f (fun t => q (cy_is_u t ⟨hc, ev⟩))]
              exact a
            · rw [q] at a ⊢
              rw [cy_gt hVcc] at a ⊢
              rw [cy_bt rfl, cy_pr_t ⟨hc, ev⟩]
              omega
        · have hVn : ¬ V c := fun t => ((hV c).mp t).2 ⟨hMcc, y⟩
          refine br_t (cy_gi0.mpr y) (nm_r (nI_1 k) (ih (k + 1) X C cC aR aC aI (by omega) (by omega) hS (fun x => ?_) hC hCL))
          have a := hX x
          rcases Nat.decEq x c with q | q
          · rw [cy_pr_f (fun t => q (cy_is_u t ⟨hc, ev⟩))]
            exact a
          · rw [q] at a ⊢
            rw [cy_gf hVn] at a ⊢
            exact a
    · have e : k = ar d := by omega
      subst e
      refine br_t (nI_le (by omega) (by omega)) (K C cC aR aC aI ?_ hC hCL)
      have eX : X = fun x => cy_g (V x) (cy_ins aF ar N (fun y => Dr y ∧ y ≠ d) x) := funext fun x => by
        have a := hX x
        have b := edr x
        rcases Classical.em (V x) with q | q
        · rw [cy_gt q, cy_gt q] at a
          rw [cy_gt q]
          have c : cy_rw aF ar d x = cy_pr aF d x (ar d) := rfl
          omega
        · rw [cy_gf q, cy_gf q] at a
          rw [cy_gf q]
          omega
      rw [← eX]
      exact hS
theorem cx_rec4 {post : Int32 → SX → Prop} {ar : Nat → Nat} {R N W m : Nat} {tg wk : Nat → Int32} {k1 k2 : Int32} {L M H : Nat → Prop} (hN : N ≤ 32) (hW : W ≤ 8) (ew : wL = nI W) (htr : cy_tr aF ar aO R N L M H) (hpos : ∀ x, L x → cy_ct aF ar aO R N L x ≠ 0) (em : mC = nI m) (hM : cy_en m aM M) (hH : ∀ x, M x → aH x = cy_gi (H x) 1)
    (K : ∀ f C nL' wd' cC' tT' aL' aA' aT' aR' aW' aC' aI', f + cy_n (fun x => L x ∧ ¬ (M x ∧ ¬ H x)) N = cy_n L N → cx_S aF ar aO R N (fun x => L x ∧ ¬ (M x ∧ ¬ H x)) (fun _ => 0) (fun _ => False) C aR' → cx_B N W ar tg wk k1 k2 (fun x => L x ∧ ¬ (M x ∧ ¬ H x)) nL' wd' tT' aL' aA' aT' aW' → cx_C C cC' aC' aI' → (∀ x, C x → L x ∧ ¬ (M x ∧ ¬ H x)) → post (nI f) (oL, rL, wL, nL', wd', cC', pC, mC, zH, sC, tS, (tC + nI f), tT', tF, aL', aA', aT', aR', aF, aO, aW', aC', aI', aP, aM, aK, aE, aH, aS)) :
    ∀ (n i f : Nat) (Q C : Nat → Prop) (nL wd cC tT : Int32) (aL aA aT aR aW aC aI : Nat → Int32), 32 - i < n → i ≤ m → cy_en i aM Q → f + cy_n (fun x => L x ∧ ¬ ((M x ∧ ¬ H x) ∧ Q x)) N = cy_n L N → cx_S aF ar aO R N (fun x => L x ∧ ¬ (M x ∧ ¬ H x)) (fun x => cy_g (L x ∧ ¬ (M x ∧ ¬ H x)) (cy_ins aF ar N (fun y => (M y ∧ ¬ H y) ∧ ¬ Q y) x)) (fun _ => False) C aR → cx_B N W ar tg wk k1 k2 (fun x => L x ∧ ¬ ((M x ∧ ¬ H x) ∧ Q x)) nL wd tT aL aA aT aW → cx_C C cC aC aI → (∀ x, C x → L x ∧ ¬ ((M x ∧ ¬ H x) ∧ Q x)) → wX_reclaimDoomed_4 post n (nI f) (nI i) oL rL wL nL wd cC pC mC zH sC tS tC tT tF aL aA aT aR aF aO aW aC aI aP aM aK aE aH aS := by
  have hm32 := cy_en_le hM
  intro n
  induction n with
  | zero => intro i f Q C nL wd cC tT aL aA aT aR aW aC aI h; omega
  | succ n ih =>
    intro i f Q C nL wd cC tT aL aA aT aR aW aC aI h him hQ hf hS hB hC hCL
    rcases Nat.lt_or_ge i m with z | z
    · obtain ⟨d, hMd, hd32, hnQ, ei, hQ'⟩ := cy_en_nx hQ hM z
      have hin : vp_in (nI d) 32 := vp_in_nI hd32 (by omega)
      have hLd := htr.2.2.1 d hMd
      have hdN := (htr.1 d hLd).1
      refine br_f (nI_ge (b := 32) (by omega) (by decide)) (br_f (by rw [em]; exact nI_ge z (by omega)) ⟨vp_in_nI (by omega) (by omega), fun x3 e3 => ?_⟩)
      rw [cy_cl (by omega), ei] at e3
      subst e3
      refine ⟨hin, ?_⟩
      rw [cy_cl (by omega), hH d hMd]
      rcases Classical.em (H d) with y | y
      · have e1 : (fun x => L x ∧ ¬ ((M x ∧ ¬ H x) ∧ (Q x ∨ x = d))) = fun x => L x ∧ ¬ ((M x ∧ ¬ H x) ∧ Q x) := funext fun x => propext ⟨fun t => ⟨t.1, fun q => t.2 ⟨q.1, Or.inl q.2⟩⟩, fun t => ⟨t.1, fun q => t.2 ⟨q.1, q.2.resolve_right (fun e => q.1.2 (e ▸ y))⟩⟩⟩
        have e2 : (fun x => (M x ∧ ¬ H x) ∧ ¬ (Q x ∨ x = d)) = fun x => (M x ∧ ¬ H x) ∧ ¬ Q x := funext fun x => propext ⟨fun t => ⟨t.1, fun q => t.2 (Or.inl q)⟩, fun t => ⟨t.1, fun q => q.elim t.2 (fun e => t.1.2 (e ▸ y))⟩⟩
        refine br_f (fun t => cy_gi0.mp t y) (nm_r (nI_1 i) (ih (i + 1) f (fun x => Q x ∨ x = d) C nL wd cC tT aL aA aT aR aW aC aI (by omega) (by omega) hQ' ?_ ?_ ?_ hC (fun x hx => ?_)))
        · rw [e1]; exact hf
        · rw [e2]; exact hS
        · rw [e1]; exact hB
        · have t := hCL x hx
          exact ⟨t.1, fun q => t.2 ⟨q.1, q.2.resolve_right (fun e => q.1.2 (e ▸ y))⟩⟩
      · have hLc : L d ∧ ¬ ((M d ∧ ¬ H d) ∧ Q d) := ⟨hLd, fun t => hnQ t.2⟩
        have e1 : (fun x => L x ∧ ¬ ((M x ∧ ¬ H x) ∧ (Q x ∨ x = d))) = fun x => (L x ∧ ¬ ((M x ∧ ¬ H x) ∧ Q x)) ∧ x ≠ d := funext fun x => propext ⟨fun t => ⟨⟨t.1, fun q => t.2 ⟨q.1, Or.inl q.2⟩⟩, fun e => t.2 ⟨by rw [e]; exact ⟨hMd, y⟩, Or.inr e⟩⟩, fun t => ⟨t.1.1, fun q => t.1.2 ⟨q.1, q.2.resolve_right t.2⟩⟩⟩
        have e2 : (fun x => (M x ∧ ¬ H x) ∧ ¬ (Q x ∨ x = d)) = fun x => ((M x ∧ ¬ H x) ∧ ¬ Q x) ∧ x ≠ d := funext fun x => propext ⟨fun t => ⟨⟨t.1, fun q => t.2 (Or.inl q)⟩, fun e => t.2 (Or.inr e)⟩, fun t => ⟨t.1.1, fun q => q.elim t.1.2 t.2⟩⟩
        refine br_t (cy_gi0.mpr y) (nm_r (cy_m4 d) (Exists.intro (ar d + 1) ?_))
        refine cx_dhc6 (V := fun x => L x ∧ ¬ (M x ∧ ¬ H x)) (Dr := fun y => (M y ∧ ¬ H y) ∧ ¬ Q y) (Lc := fun x => L x ∧ ¬ ((M x ∧ ¬ H x) ∧ Q x)) hN htr (fun x => Iff.rfl) (fun x hx => cy_tr_d3 htr hpos hx.1 hx.2) hMd ⟨⟨hMd, y⟩, hnQ⟩ (hB.2.2.1 d hLc).1 hH (fun x hx => ⟨hx.1, fun t => hx.2 t.1⟩) ?_ (ar d + 1) 0 _ C cC aR aC aI (by omega) (by omega) hS (fun x => ?_) hC hCL
        · intro C' cC' aR' aC' aI' hS' hC' hCL'
          refine cx_close hN hW ew hB hC' hLc (fun nL' wd' cC'' tT' aL' aA' aT' aR'' aW' aC'' aI'' hB' hC'' eR => nm_r (nI_1 f) (nm_r (nI_1 i) ?_))
          have hn := cy_n_sub (P := fun x => L x ∧ ¬ ((M x ∧ ¬ H x) ∧ Q x)) hLc hdN
          refine ih (i + 1) (f + 1) (fun x => Q x ∨ x = d) (fun x => C' x ∧ x ≠ d) nL' wd' cC'' tT' aL' aA' aT' aR'' aW' aC'' aI'' (by omega) (by omega) hQ' ?_ ?_ ?_ hC'' (fun x hx => ?_)
          · rw [e1]; omega
          · rw [e2]
            exact cx_S_forget hS' (fun t => t.2 ⟨hMd, y⟩) (fun x hx => by rw [eR, cy_un hx])
          · rw [e1]; exact hB'
          · have t := hCL' x hx.1
            exact ⟨t.1, fun q => t.2 ⟨q.1, q.2.resolve_right hx.2⟩⟩
        · have p0 : cy_pr aF d x 0 = 0 := rfl
          have g0 : cy_g (L x ∧ ¬ (M x ∧ ¬ H x)) 0 = 0 := by
            rcases Classical.em (L x ∧ ¬ (M x ∧ ¬ H x)) with q | q
            · exact cy_gt q
            · exact cy_gf q
          rw [p0, g0]
          rfl
    · have e : i = m := by omega
      subst e
      have hQM : Q = M := funext fun x => propext ⟨cy_en_uq hQ hM x, cy_en_uq hM hQ x⟩
      subst hQM
      have e1 : (fun x => L x ∧ ¬ ((Q x ∧ ¬ H x) ∧ Q x)) = fun x => L x ∧ ¬ (Q x ∧ ¬ H x) := funext fun x => propext ⟨fun t => ⟨t.1, fun q => t.2 ⟨q, q.1⟩⟩, fun t => ⟨t.1, fun q => t.2 q.1⟩⟩
      have e2 : (fun x => cy_g (L x ∧ ¬ (Q x ∧ ¬ H x)) (cy_ins aF ar N (fun y => (Q y ∧ ¬ H y) ∧ ¬ Q y) x)) = fun _ => 0 := funext fun x => by
        have : cy_ins aF ar N (fun y => (Q y ∧ ¬ H y) ∧ ¬ Q y) x = 0 := cy_sm_0 fun j _ => cy_gf (fun t => t.2 t.1.1)
        rw [this]
        rcases Classical.em (L x ∧ ¬ (Q x ∧ ¬ H x)) with q | q
        · exact cy_gt q
        · exact cy_gf q
      rw [e1] at hf hB
      rw [e2] at hS
      have fin : wX_reclaimDoomed_53 post (nI f) oL rL wL nL wd cC pC mC zH sC tS tC tT tF aL aA aT aR aF aO aW aC aI aP aM aK aE aH aS := by
        refine nm_e (K f C nL wd cC tT aL aA aT aR aW aC aI hf hS hB hC (fun x hx => ?_))
        have t := hCL x hx
        exact ⟨t.1, fun q => t.2 ⟨q, q.1⟩⟩
      rcases Nat.lt_or_ge i 32 with y | y
      · exact br_f (nI_ge (b := 32) y (by decide)) (br_t (by rw [em]; exact nI_le (by omega) (by omega)) fin)
      · exact br_t (nI_le (a := 32) y (by omega)) fin
theorem cx_reclaim {post : Int32 → SX → Prop} {ar : Nat → Nat} {R N W m : Nat} {tg wk : Nat → Int32} {k1 k2 : Int32} {L M H C : Nat → Prop} (hN : N ≤ 32) (hW : W ≤ 8) (ew : wL = nI W) (htr : cy_tr aF ar aO R N L M H) (em : mC = nI m) (hM : cy_en m aM M) (hH : ∀ x, M x → aH x = cy_gi (H x) 1) (hS : cx_S aF ar aO R N L (fun _ => 0) (fun _ => False) C aR) (hB : cx_B N W ar tg wk k1 k2 L nL wd tT aL aA aT aW) (hC : cx_C C cC aC aI) (hCL : ∀ x, C x → L x)
    (K : ∀ f C nL' wd' cC' tT' aL' aA' aT' aR' aW' aC' aI', f + cy_n (fun x => L x ∧ ¬ (M x ∧ ¬ H x)) N = cy_n L N → cx_S aF ar aO R N (fun x => L x ∧ ¬ (M x ∧ ¬ H x)) (fun _ => 0) (fun _ => False) C aR' → cx_B N W ar tg wk k1 k2 (fun x => L x ∧ ¬ (M x ∧ ¬ H x)) nL' wd' tT' aL' aA' aT' aW' → cx_C C cC' aC' aI' → (∀ x, C x → L x ∧ ¬ (M x ∧ ¬ H x)) → post (nI f) (oL, rL, wL, nL', wd', cC', pC, mC, zH, sC, tS, (tC + nI f), tT', tF, aL', aA', aT', aR', aF, aO, aW', aC', aI', aP, aM, aK, aE, aH, aS)) : wpX_reclaimDoomed post (oL, rL, wL, nL, wd, cC, pC, mC, zH, sC, tS, tC, tT, tF, aL, aA, aT, aR, aF, aO, aW, aC, aI, aP, aM, aK, aE, aH, aS) := by
  have e1 : (fun x => L x ∧ ¬ ((M x ∧ ¬ H x) ∧ False)) = L := funext fun x => propext ⟨fun t => t.1, fun t => ⟨t, fun q => q.2⟩⟩
  have e2 : (fun y => (M y ∧ ¬ H y) ∧ ¬ False) = fun y => M y ∧ ¬ H y := funext fun x => propext ⟨fun t => t.1, fun t => ⟨t, id⟩⟩
  refine Exists.intro 33 (cx_rec4 hN hW ew htr (fun x hx q => (hS.2.2.2.2.1 x).mpr ⟨hx, q⟩) em hM hH K 33 0 0 (fun _ => False) C nL wd cC tT aL aA aT aR aW aC aI (by omega) (by omega) (cy_en_0 fun _ => id) ?_ ?_ ?_ hC (fun x hx => ⟨hCL x hx, fun q => q.2⟩))
  · rw [e1]; omega
  · rw [e2]; exact cx_S_doom htr hS
  · rw [e1]; exact hB
theorem cx_clr {post : SX → Prop} (K : ∀ aI', (∀ x, x < 32 → aI' x = -1) → post (oL, rL, wL, nL, wd, 0, pC, mC, zH, sC, tS, tC, tT, tF, aL, aA, aT, aR, aF, aO, aW, aC, aI', aP, aM, aK, aE, aH, aS)) : ∀ (n i : Nat) (aI : Nat → Int32), 32 - i < n → i ≤ 32 → (∀ x, x < i → aI x = -1) → wX_clearCandidates_2 post oL rL wL nL wd cC pC mC zH sC tS tC tT tF n (nI i) aL aA aT aR aF aO aW aC aI aP aM aK aE aH aS := by
  intro n
  induction n with
  | zero => intro i aI h; omega
  | succ n ih =>
    intro i aI h hi h1
    rcases Nat.lt_or_ge i 32 with z | z
    · refine br_f (nI_ge (b := 32) z (by decide)) ⟨vp_in_nI z (by omega), fun aI' e => nm_r (nI_1 i) (ih (i + 1) aI' (by omega) (by omega) (fun x hx => ?_))⟩
      rw [cy_cl (by omega)] at e
      rcases Nat.decEq x i with y | y
      · rw [e, cy_un y]; exact h1 x (by omega)
      · rw [e, y, cy_us]
    · exact br_t (nI_le (a := 32) z (by omega)) (K aI (fun x hx => h1 x (by omega)))
theorem cx_clear {post : SX → Prop} (K : ∀ aI', cx_C (fun _ => False) 0 aC aI' → post (oL, rL, wL, nL, wd, 0, pC, mC, zH, sC, tS, tC, tT, tF, aL, aA, aT, aR, aF, aO, aW, aC, aI', aP, aM, aK, aE, aH, aS)) : wpX_clearCandidates post (oL, rL, wL, nL, wd, cC, pC, mC, zH, sC, tS, tC, tT, tF, aL, aA, aT, aR, aF, aO, aW, aC, aI, aP, aM, aK, aE, aH, aS) :=
  Exists.intro 33 (cx_clr (fun aI' h => K aI' ⟨0, nI_0.symm, cy_en_0 fun _ => id, fun i x hi => absurd hi (by omega), fun x hx _ => h x hx⟩) 33 0 aI (by omega) (by omega) (fun x hx => by omega))
theorem cx_full2 {post : Int32 → SX → Prop} {ar : Nat → Nat} {R N W : Nat} {tg wk : Nat → Int32} {k1 k2 : Int32} {L C : Nat → Prop} (hN : N ≤ 32) (hR : R ≤ 8) (hW : W ≤ 8) (ew : wL = nI W) (hS : cx_S aF ar aO R N L (fun _ => 0) (fun _ => False) C aR) (hB : cx_B N W ar tg wk k1 k2 L nL wd tT aL aA aT aW) (hC : cx_C C cC aC aI) (hCL : ∀ x, C x → L x)
    (K : ∀ f V nL' wd' tT' aL' aA' aT' aR' aW' aC' aI' aM' aK' aE' aH' aS', (∀ x, V x ↔ L x ∧ cy_rc (cy_ed aF ar L) (fun a => cy_rt aO R a ≠ 0) x) → f + cy_n V N = cy_n L N → cx_S aF ar aO R N V (fun _ => 0) (fun _ => False) (fun _ => False) aR' → cx_B N W ar tg wk k1 k2 V nL' wd' tT' aL' aA' aT' aW' → cx_C (fun _ => False) 0 aC' aI' → (∀ x, x < 32 → aK' x = 0) → post (nI f) (oL, rL, wL, nL', wd', 0, pC, 0, 0, 0, tS, (tC + nI f), tT', (tF + 1), aL', aA', aT', aR', aF, aO, aW', aC', aI', aP, aM', aK', aE', aH', aS')) :
    ∀ (n i m : Nat) (Q : Nat → Prop) (mC : Int32) (aM aK aE aH : Nat → Int32), 32 - i < n → i ≤ cy_n C 32 → cy_en i aC Q → cx_M Q m mC aM aK aH → (∀ x, Q x → aE x = aR x - nI 0) → wX_fullCollection_2 post n (nI i) oL rL wL nL wd cC pC mC zH sC tS tC tT tF aL aA aT aR aF aO aW aC aI aP aM aK aE aH aS := by
  obtain ⟨c, ec, hc1, hc2, hc3⟩ := hC
  have hcn : c = cy_n C 32 := cy_en_n hc1 (fun x hx => (hc1.1 x hx).1)
  have hc32 := cy_en_le hc1
  intro n
  induction n with
  | zero => intro i m Q mC aM aK aE aH h; omega
  | succ n ih =>
    intro i m Q mC aM aK aE aH h hi hQ hM hE
    rw [← hcn] at hi
    rcases Nat.lt_or_ge i c with z | z
    · obtain ⟨d, hCd, hd32, hnQ, ei, hQ'⟩ := cy_en_nx hQ hc1 z
      refine br_f (nI_ge (b := 32) (by omega) (by decide)) (br_f (by rw [ec]; exact nI_ge z (by omega)) ⟨vp_in_nI (by omega) (by omega), ?_⟩)
      rw [cy_cl (by omega), ei]
      refine cx_addM (tk := fun _ => 0) hd32 hM hE (fun _ => rfl) (fun m' mC' aM' aK' aE' aH' hM' hE' _ _ => nm_r (nI_1 i) ?_)
      exact ih (i + 1) m' (fun x => Q x ∨ x = d) mC' aM' aK' aE' aH' (by omega) (by omega) hQ' hM' hE'
    · have e : i = c := by omega
      subst e
      have hQC : Q = C := funext fun x => propext ⟨cy_en_uq hQ hc1 x, cy_en_uq hc1 hQ x⟩
      subst hQC
      have fin : wX_fullCollection_32 post oL rL wL nL wd cC pC mC zH sC tS tC tT tF aL aA aT aR aF aO aW aC aI aP aM aK aE aH aS := by
        refine cx_trial (L := L) (A := Q) hN hR hS.1 (fun x hx => hS.2.2.2.1 x hx) (fun x hx => (hB.2.2.1 x hx).1) hM hCL hE ?_
        intro M H m' mC' hC' sC' aM' aK' aE' aH' aS' em hMe hK' eh hH' hML hHM hMr hHr
        have htr : cy_tr aF ar aO R N L M H := ⟨hS.1, hS.2.1, hML, hHM, fun a b ha hab => (hMr b).mpr (cy_rc_s ((hMr a).mp ha) ⟨hML a ha, hab⟩), hHr⟩
        have hr : ∀ x, L x → cy_rc (cy_ed aF ar L) (fun a => cy_rt aO R a ≠ 0 ∨ Q a) x := fun x hx => cy_rc_m (hS.2.2.2.2.2 x hx) (fun a ha => cy_rc_0 (by
          rcases ha with t | t | t | t
          · exact Or.inl t
          · exact Or.inr t
          · exact t.elim
          · exact absurd rfl t))
        refine cx_reclaim hN hW ew htr em hMe hH' hS hB ⟨i, ec, hc1, hc2, hc3⟩ hCL ?_
        intro f C' nL' wd' cC' tT' aL' aA' aT' aR' aW' aC' aI' hf hS' hB' hC'' hCL'
        refine cx_end em hMe hK' (fun aK'' aH'' hK'' => ?_)
        refine cx_clear (fun aI'' hC3 => nm_e ?_)
        exact K f _ nL' wd' tT' aL' aA' aT' aR' aW' aC' aI'' aM' aK'' aE' aH'' aS' (fun x => ⟨fun t => ⟨t.1, (cy_tr_full htr hMr hr x t.1).mp t.2⟩, fun t => ⟨t.1, (cy_tr_full htr hMr hr x t.1).mpr t.2⟩⟩) hf (cx_S_full htr hMr hr hS') hB' hC3 hK''
      rcases Nat.lt_or_ge i 32 with y | y
      · exact br_f (nI_ge (b := 32) y (by decide)) (br_t (by rw [ec]; exact nI_le (by omega) (by omega)) fin)
      · exact br_t (nI_le (a := 32) y (by omega)) fin
theorem cx_full {post : Int32 → SX → Prop} {ar : Nat → Nat} {R N W : Nat} {tg wk : Nat → Int32} {k1 k2 : Int32} {L C : Nat → Prop} (hN : N ≤ 32) (hR : R ≤ 8) (hW : W ≤ 8) (ew : wL = nI W) (hS : cx_S aF ar aO R N L (fun _ => 0) (fun _ => False) C aR) (hB : cx_B N W ar tg wk k1 k2 L nL wd tT aL aA aT aW) (hC : cx_C C cC aC aI) (hCL : ∀ x, C x → L x) (em : mC = 0) (hK : ∀ x, x < 32 → aK x = 0)
    (K : ∀ f V nL' wd' tT' aL' aA' aT' aR' aW' aC' aI' aM' aK' aE' aH' aS', (∀ x, V x ↔ L x ∧ cy_rc (cy_ed aF ar L) (fun a => cy_rt aO R a ≠ 0) x) → f + cy_n V N = cy_n L N → cx_S aF ar aO R N V (fun _ => 0) (fun _ => False) (fun _ => False) aR' → cx_B N W ar tg wk k1 k2 V nL' wd' tT' aL' aA' aT' aW' → cx_C (fun _ => False) 0 aC' aI' → (∀ x, x < 32 → aK' x = 0) → post (nI f) (oL, rL, wL, nL', wd', 0, pC, 0, 0, 0, tS, (tC + nI f), tT', (tF + 1), aL', aA', aT', aR', aF, aO, aW', aC', aI', aP, aM', aK', aE', aH', aS')) : wpX_fullCollection post (oL, rL, wL, nL, wd, cC, pC, mC, zH, sC, tS, tC, tT, tF, aL, aA, aT, aR, aF, aO, aW, aC, aI, aP, aM, aK, aE, aH, aS) := by
  refine Exists.intro 33 (cx_full2 hN hR hW ew hS hB hC hCL K 33 0 0 (fun _ => False) mC aM aK aE aH (by omega) (by omega) (cy_en_0 fun _ => id) ⟨em.trans nI_0.symm, cy_en_0 fun _ => id, fun x hx => ?_, fun x => False.elim⟩ (fun x => False.elim))
  rw [hK x hx, cy_gif id]
end
end
section
/-! Y's clearMarks, spread, freeDoomed -/
section
variable {oL yW rL wL uA uC uT uN : Int32} {bL bA bT aF aO bW bK bS bD : Nat → Int32}
theorem cw_clm {post : SY → Prop} (K : ∀ bK', (∀ x, x < 32 → bK' x = cy_gi False 1) → post (oL, yW, rL, wL, uA, uC, uT, uN, bL, bA, bT, aF, aO, bW, bK', bS, bD)) : ∀ (n i : Nat) (bK : Nat → Int32), 32 - i < n → i ≤ 32 → (∀ x, x < i → bK x = cy_gi False 1) → wY_clearMarks_2 post oL yW rL wL uA uC uT uN n (nI i) bL bA bT aF aO bW bK bS bD := by
  intro n
  induction n with
  | zero => intro i bK h; omega
  | succ n ih =>
    intro i bK h hi h1
    rcases Nat.lt_or_ge i 32 with z | z
    · refine br_f (nI_ge (b := 32) z (by decide)) ⟨vp_in_nI z (by omega), fun bK' e => nm_r (nI_1 i) (ih (i + 1) bK' (by omega) (by omega) (fun x hx => ?_))⟩
      rw [cy_cl (by omega), cy_vn0] at e
      rcases Nat.decEq x i with y | y
      · rw [e, cy_un y]; exact h1 x (by omega)
      · rw [e, y, cy_us, cy_gif id]
    · exact br_t (nI_le (a := 32) z (by omega)) (K bK (fun x hx => h1 x (by omega)))
theorem cw_clear {post : SY → Prop} (K : ∀ bK', (∀ x, x < 32 → bK' x = cy_gi False 1) → post (oL, yW, rL, wL, uA, uC, uT, uN, bL, bA, bT, aF, aO, bW, bK', bS, bD)) : wpY_clearMarks post (oL, yW, rL, wL, uA, uC, uT, uN, bL, bA, bT, aF, aO, bW, bK, bS, bD) :=
  Exists.intro 33 (cw_clm K 33 0 bK (by omega) (by omega) (fun x hx => by omega))
/-- a mark is set -/
theorem cy_mk {A : Nat → Prop} {bK bK' : Nat → Int32} {c : Nat} (h : ∀ x, x < 32 → bK x = cy_gi (A x) 1) (e : bK' = upd bK c 1) : ∀ x, x < 32 → bK' x = cy_gi (A x ∨ x = c) 1 := by
  intro x hx
  rcases Nat.decEq x c with y | y
  · rw [e, cy_un y, h x hx]
    exact cy_gie ⟨Or.inl, fun t => t.resolve_right y⟩
  · rw [e, y, cy_us, cy_git (Or.inr rfl)]
theorem cw_sp22 {post : SY → Prop} {J2 J12 : Int32 → (Nat → Int32) → (Nat → Int32) → (Nat → Int32) → (Nat → Int32) → (Nat → Int32) → (Nat → Int32) → (Nat → Int32) → (Nat → Int32) → (Nat → Int32) → Prop} {ar : Nat → Nat} {N W p x : Nat} {tg wk : Nat → Int32} {k2 : Int32} {L A A0 : Nat → Prop} (hN : N ≤ 32) (hok : cy_ok aF ar N L) (hB : cw_B N W ar tg wk k2 L uT bL bA bT bW) (hx : x < N)
    (K : ∀ (A' : Nat → Prop) (bK' : Nat → Int32), (∀ x, x < 32 → bK' x = cy_gi (A' x) 1) → (∀ a, A0 a → A' a) → (∀ a, A' a → cy_rc (cy_ed aF ar L) A a) → (∀ a, a < x + 1 → L a → A0 a → ∀ b, cy_rw aF ar a b ≠ 0 → A' b) → J12 (nI (x + 1)) bL bA bT aF aO bW bK' bS bD) :
    ∀ (n k : Nat) (A' : Nat → Prop) (bK : Nat → Int32), 4 - k < n → k ≤ 4 → (∀ x, x < 32 → bK x = cy_gi (A' x) 1) → (∀ a, A0 a → A' a) → (∀ a, A' a → cy_rc (cy_ed aF ar L) A a) → (∀ a, a < x → L a → A0 a → ∀ b, cy_rw aF ar a b ≠ 0 → A' b) → (L x → A0 x → ∀ b, cy_pr aF x b (min k (ar x)) ≠ 0 → A' b) → wY_spread_22 post J2 J12 (nI p) (nI x) oL yW rL wL uA uC uT uN n (nI k) bL bA bT aF aO bW bK bS bD := by
  have hin : vp_in (nI x) 32 := vp_in_nI (by omega) (by omega)
  have ecl := cy_cl (n := x) (by omega)
  intro n
  induction n with
  | zero => intro k A' bK h; omega
  | succ n ih =>
    intro k A' bK h hk hK h0 hr hp hq
    rcases Nat.lt_or_ge k 4 with z | z
    · refine br_f (nI_ge (b := 4) z (by decide)) ⟨hin, ?_⟩
      rw [ecl, hB.2.1 x (by omega)]
      rcases Classical.em (L x) with hL | hL
      · refine br_f (fun t => cy_gi0.mp t hL) ⟨hin, ?_⟩
        rw [hK x (by omega)]
        rcases Classical.em (A' x) with hA | hA
        · refine br_f (fun t => cy_gi0.mp t hA) ⟨hin, ?_⟩
          rw [(hB.2.2.1 x hL).1]
          have h4 := (hok x hL).2.1
          rcases Nat.lt_or_ge k (ar x) with q | q
          · obtain ⟨hi, ea⟩ := cy_at' (d := x) (k := k) (by omega) z
            have m1 : min k (ar x) = k := by omega
            have m2 : min (k + 1) (ar x) = k + 1 := by omega
            refine br_f (nI_ge q (by omega)) ⟨hi, fun x4 e4 => ?_⟩
            rw [ea] at e4
            rw [m1] at hq
            rcases (hok x hL).2.2 k q with ev | ⟨c, hLc, hc, ev⟩
            · rw [ev] at e4
              subst e4
              refine br_t (by decide) (nm_r (nI_1 k) (ih (k + 1) A' bK (by omega) (by omega) hK h0 hr hp (fun a1 a2 b hb => ?_)))
              rw [m2, cy_pr_f (fun t => by rw [ev] at t; exact cy_is_m1 t)] at hb
              exact hq a1 a2 b hb
            · rw [ev] at e4
              subst e4
              refine br_f (nI_pos (by omega)) ⟨vp_in_nI hc (by omega), fun bK' e => nm_r (nI_1 k) ?_⟩
              rw [cy_cl (by omega), cy_vn1] at e
              refine ih (k + 1) (fun y => A' y ∨ y = c) bK' (by omega) (by omega) (cy_mk hK e) (fun a ha => Or.inl (h0 a ha)) (fun a ha => ?_) (fun a a1 a2 a3 b hb => Or.inl (hp a a1 a2 a3 b hb)) (fun a1 a2 b hb => ?_)
              · rcases ha with t | t
                · exact hr a t
                · rw [t]; exact cy_rc_s (hr x hA) ⟨hL, cy_rw_nz q ⟨hc, ev⟩⟩
              · rcases Nat.decEq b c with y | y
                · rw [m2, cy_pr_f (fun t => y (cy_is_u t ⟨hc, ev⟩))] at hb
                  exact Or.inl (hq a1 a2 b hb)
                · exact Or.inr y
          · have m1 : min (k + 1) (ar x) = min k (ar x) := by omega
            refine br_t (nI_le q (by omega)) (nm_r (nI_1 k) (ih (k + 1) A' bK (by omega) (by omega) hK h0 hr hp ?_))
            rw [m1]; exact hq
        · exact br_t (cy_gi0.mpr hA) (nm_r (nI_1 k) (ih (k + 1) A' bK (by omega) (by omega) hK h0 hr hp (fun _ a2 => absurd (h0 x a2) hA)))
      · exact br_t (cy_gi0.mpr hL) (nm_r (nI_1 k) (ih (k + 1) A' bK (by omega) (by omega) hK h0 hr hp (fun a1 => absurd a1 hL)))
    · have e : k = 4 := by omega
      refine br_t (by rw [e]; decide) (nm_r (nI_1 x) (K A' bK hK h0 hr (fun a ha a1 a2 b hb => ?_)))
      rcases Nat.lt_or_ge a x with y | y
      · exact hp a y a1 a2 b hb
      · have ea : a = x := by omega
        subst ea
        have h4 := (hok a a1).2.1
        have m : min k (ar a) = ar a := by omega
        rw [m] at hq
        exact hq a1 a2 b hb
theorem cw_sp12 {post : SY → Prop} {J2 : Int32 → (Nat → Int32) → (Nat → Int32) → (Nat → Int32) → (Nat → Int32) → (Nat → Int32) → (Nat → Int32) → (Nat → Int32) → (Nat → Int32) → (Nat → Int32) → Prop} {ar : Nat → Nat} {N W p : Nat} {tg wk : Nat → Int32} {k2 : Int32} {L A A0 : Nat → Prop} (hN : N ≤ 32) (eo : oL = nI N) (hok : cy_ok aF ar N L) (hB : cw_B N W ar tg wk k2 L uT bL bA bT bW)
    (K : ∀ (A' : Nat → Prop) (bK' : Nat → Int32), (∀ x, x < 32 → bK' x = cy_gi (A' x) 1) → (∀ a, A0 a → A' a) → (∀ a, A' a → cy_rc (cy_ed aF ar L) A a) → (∀ a, L a → A0 a → ∀ b, cy_rw aF ar a b ≠ 0 → A' b) → J2 (nI (p + 1)) bL bA bT aF aO bW bK' bS bD) :
    ∀ (n x : Nat) (A' : Nat → Prop) (bK : Nat → Int32), N - x < n → x ≤ N → (∀ x, x < 32 → bK x = cy_gi (A' x) 1) → (∀ a, A0 a → A' a) → (∀ a, A' a → cy_rc (cy_ed aF ar L) A a) → (∀ a, a < x → L a → A0 a → ∀ b, cy_rw aF ar a b ≠ 0 → A' b) → wY_spread_12 post J2 (nI p) oL yW rL wL uA uC uT uN n (nI x) bL bA bT aF aO bW bK bS bD := by
  intro n
  induction n with
  | zero => intro x A' bK h; omega
  | succ n ih =>
    intro x A' bK h hx hK h0 hr hp
    rcases Nat.lt_or_ge x N with z | z
    · refine br_f (by rw [eo]; exact nI_ge z (by omega)) (Exists.intro 5 ?_)
      refine cw_sp22 (A := A) (A0 := A0) hN hok hB z ?_ 5 0 A' bK (by omega) (by omega) hK h0 hr hp (fun _ _ b hb => ?_)
      · intro A2 bK2 g1 g2 g3 g4
        exact ih (x + 1) A2 bK2 (by omega) (by omega) g1 g2 g3 g4
      · rw [Nat.zero_min] at hb
        exact absurd rfl hb
    · have e : x = N := by omega
      refine br_t (by rw [eo, e]; exact nI_le (by omega) (by omega)) (nm_r (nI_1 p) (K A' bK hK h0 hr (fun a a1 a2 b hb => hp a ?_ a1 a2 b hb)))
      have := (hok a a1).1
      omega
theorem cw_sp2 {post : SY → Prop} {ar : Nat → Nat} {N W : Nat} {tg wk : Nat → Int32} {k2 : Int32} {L A : Nat → Prop} (hN : N ≤ 32) (eo : oL = nI N) (hok : cy_ok aF ar N L) (hB : cw_B N W ar tg wk k2 L uT bL bA bT bW) (hAL : ∀ x, A x → L x)
    (K : ∀ bK', (∀ x, x < 32 → bK' x = cy_gi (cy_rc (cy_ed aF ar L) A x) 1) → post (oL, yW, rL, wL, uA, uC, uT, uN, bL, bA, bT, aF, aO, bW, bK', bS, bD)) :
    ∀ (n p : Nat) (A' : Nat → Prop) (bK : Nat → Int32), N - p < n → p ≤ N → (∀ x, x < 32 → bK x = cy_gi (A' x) 1) → (∀ a, A a → A' a) → (∀ a, A' a → cy_rc (cy_ed aF ar L) A a) → ((∀ a b, A' a → L a → cy_rw aF ar a b ≠ 0 → A' b) ∨ p + 1 ≤ cy_n A' N) → wY_spread_2 post oL yW rL wL uA uC uT uN n (nI p) bL bA bT aF aO bW bK bS bD := by
  have hrL : ∀ x, cy_rc (cy_ed aF ar L) A x → L x := cy_rc_x hAL (fun a b _ hab => cy_ok_rw hok hab.1 hab.2)
  intro n
  induction n with
  | zero => intro p A' bK h; omega
  | succ n ih =>
    intro p A' bK h hp hK h0 hr hst
    rcases Nat.lt_or_ge p N with z | z
    · refine br_f (by rw [eo]; exact nI_ge z (by omega)) (Exists.intro (N + 1) ?_)
      refine cw_sp12 (A := A) (A0 := A') hN eo hok hB ?_ (N + 1) 0 A' bK (by omega) (by omega) hK (fun a ha => ha) hr (fun a ha => by omega)
      intro A2 bK2 g1 g2 g3 g4
      refine ih (p + 1) A2 bK2 (by omega) (by omega) g1 (fun a ha => g2 a (h0 a ha)) g3 ?_
      rcases Classical.em (∀ a b, A' a → L a → cy_rw aF ar a b ≠ 0 → A' b) with c | c
      · left
        have hc : ∀ x, cy_rc (cy_ed aF ar L) A x → A' x := cy_rc_x h0 (fun a b ha hab => c a b ha hab.1 hab.2)
        intro a b ha hLa hab
        exact g4 a hLa (hc a (g3 a ha)) b hab
      · right
        obtain ⟨a, b, ha, hLa, hab, hb⟩ : ∃ a b, A' a ∧ L a ∧ cy_rw aF ar a b ≠ 0 ∧ ¬ A' b := by
          apply Classical.byContradiction
          intro q
          exact c (fun a b h1 h2 h3 => Classical.byContradiction fun h4 => q ⟨a, b, h1, h2, h3, h4⟩)
        have hb2 := g4 a hLa ha b hab
        have hbN := (hok b (hrL b (g3 b hb2))).1
        have l := cy_n_lt (P := A') (Q := A2) hbN hb hb2 (fun x _ => g2 x)
        have := hst.resolve_left c
        omega
    · have e : p = N := by omega
      have hcl : ∀ a b, A' a → L a → cy_rw aF ar a b ≠ 0 → A' b := by
        rcases hst with t | t
        · exact t
        · have := cy_n_bd A' N
          omega
      refine br_t (by rw [eo, e]; exact nI_le (by omega) (by omega)) (K bK (fun x hx => ?_))
      rw [hK x hx]
      exact cy_gie ⟨hr x, cy_rc_x h0 (fun a b ha hab => hcl a b ha hab.1 hab.2) x⟩
theorem cw_spread {post : SY → Prop} {ar : Nat → Nat} {N W : Nat} {tg wk : Nat → Int32} {k2 : Int32} {L A : Nat → Prop} (hN : N ≤ 32) (eo : oL = nI N) (hok : cy_ok aF ar N L) (hB : cw_B N W ar tg wk k2 L uT bL bA bT bW) (hAL : ∀ x, A x → L x) (hK : ∀ x, x < 32 → bK x = cy_gi (A x) 1)
    (K : ∀ bK', (∀ x, x < 32 → bK' x = cy_gi (cy_rc (cy_ed aF ar L) A x) 1) → post (oL, yW, rL, wL, uA, uC, uT, uN, bL, bA, bT, aF, aO, bW, bK', bS, bD)) : wpY_spread post (oL, yW, rL, wL, uA, uC, uT, uN, bL, bA, bT, aF, aO, bW, bK, bS, bD) := by
  refine Exists.intro (N + 1) (cw_sp2 hN eo hok hB hAL K (N + 1) 0 A bK (by omega) (by omega) hK (fun a ha => ha) (fun a ha => cy_rc_0 ha) ?_)
  rcases Classical.em (∃ a, A a) with ⟨a, ha⟩ | q
  · right
    have haN := (hok a (hAL a ha)).1
    have := cy_n_lt (P := fun _ => False) (Q := A) haN id ha (fun x _ => False.elim)
    omega
  · exact Or.inl (fun a b ha => absurd ⟨a, ha⟩ q)
theorem cw_fd4 {post : Int32 → SY → Prop} {ar : Nat → Nat} {N W : Nat} {tg wk : Nat → Int32} {k2 : Int32} {L D : Nat → Prop} (hN : N ≤ 32) (hW : W ≤ 8) (eo : oL = nI N) (ew : wL = nI W) (hDL : ∀ x, D x → L x) (hD : ∀ x, x < N → bD x = cy_gi (D x) 1)
    (K : ∀ f uT' bL' bW', f + cy_n (fun x => L x ∧ ¬ D x) N = cy_n L N → cw_B N W ar tg wk k2 (fun x => L x ∧ ¬ D x) uT' bL' bA bT bW' → post (nI f) (oL, yW, rL, wL, uA, (uC + nI f), uT', uN, bL', bA, bT, aF, aO, bW', bK, bS, bD)) :
    ∀ (n i f : Nat) (uT : Int32) (bL bW : Nat → Int32), N - i < n → i ≤ N → f + cy_n (fun x => L x ∧ ¬ (D x ∧ x < i)) N = cy_n L N → cw_B N W ar tg wk k2 (fun x => L x ∧ ¬ (D x ∧ x < i)) uT bL bA bT bW → wY_freeDoomed_4 post n (nI f) (nI i) oL yW rL wL uA (uC + nI f) uT uN bL bA bT aF aO bW bK bS bD := by
  intro n
  induction n with
  | zero => intro i f uT bL bW h; omega
  | succ n ih =>
    intro i f uT bL bW h hi hf hB
    rcases Nat.lt_or_ge i N with z | z
    · refine br_f (by rw [eo]; exact nI_ge z (by omega)) ⟨vp_in_nI (by omega) (by omega), ?_⟩
      rw [cy_cl (by omega), hD i z]
      rcases Classical.em (D i) with y | y
      · have hLc : L i ∧ ¬ (D i ∧ i < i) := ⟨hDL i y, fun t => by omega⟩
        have e1 : (fun x => L x ∧ ¬ (D x ∧ x < i + 1)) = fun x => (L x ∧ ¬ (D x ∧ x < i)) ∧ x ≠ i := funext fun x => propext ⟨fun t => ⟨⟨t.1, fun q => t.2 ⟨q.1, by omega⟩⟩, fun e => t.2 ⟨e ▸ y, by omega⟩⟩, fun t => ⟨t.1.1, fun q => t.1.2 ⟨q.1, by have := t.2; omega⟩⟩⟩
        have hn := cy_n_sub (P := fun x => L x ∧ ¬ (D x ∧ x < i)) hLc z
        refine br_f (fun t => cy_gi0.mp t y) ?_
        refine cw_free hN hW ew hB hLc (fun uT' bL' bW' hB' => ?_)
        refine nm_r (e' := uC + nI (f + 1)) (by rw [← nI_1, Int32.add_assoc]) (nm_r (nI_1 f) (nm_r (nI_1 i) ?_))
        refine ih (i + 1) (f + 1) uT' bL' bW' (by omega) (by omega) ?_ ?_
        · rw [e1]; omega
        · rw [e1]; exact hB'
      · have e1 : (fun x => L x ∧ ¬ (D x ∧ x < i + 1)) = fun x => L x ∧ ¬ (D x ∧ x < i) := funext fun x => propext ⟨fun t => ⟨t.1, fun q => t.2 ⟨q.1, by omega⟩⟩, fun t => ⟨t.1, fun q => t.2 ⟨q.1, by
          have : x ≠ i := fun e => y (e ▸ q.1)
          have := q.2
          omega⟩⟩⟩
        refine br_t (cy_gi0.mpr y) (nm_r (nI_1 i) (ih (i + 1) f uT bL bW (by omega) (by omega) ?_ ?_))
        · rw [e1]; exact hf
        · rw [e1]; exact hB
    · have e : i = N := by omega
      subst e
      have e1 : cy_n (fun x => L x ∧ ¬ (D x ∧ x < i)) i = cy_n (fun x => L x ∧ ¬ D x) i := cy_n_eq fun x hx => ⟨fun t => ⟨t.1, fun q => t.2 ⟨q, hx⟩⟩, fun t => ⟨t.1, fun q => t.2 q.1⟩⟩
      have e2 : (fun x => L x ∧ ¬ (D x ∧ x < i)) = fun x => L x ∧ ¬ D x := funext fun x => propext ⟨fun t => ⟨t.1, fun q => t.2 ⟨q, hB.1 x t⟩⟩, fun t => ⟨t.1, fun q => t.2 q.1⟩⟩
      rw [e2] at hf hB
      exact br_t (by rw [eo]; exact nI_le (by omega) (by omega)) (K f uT bL bW hf hB)
theorem cw_freeD {post : Int32 → SY → Prop} {ar : Nat → Nat} {N W : Nat} {tg wk : Nat → Int32} {k2 : Int32} {L D : Nat → Prop} (hN : N ≤ 32) (hW : W ≤ 8) (eo : oL = nI N) (ew : wL = nI W) (hDL : ∀ x, D x → L x) (hD : ∀ x, x < N → bD x = cy_gi (D x) 1) (hB : cw_B N W ar tg wk k2 L uT bL bA bT bW)
    (K : ∀ f uT' bL' bW', f + cy_n (fun x => L x ∧ ¬ D x) N = cy_n L N → cw_B N W ar tg wk k2 (fun x => L x ∧ ¬ D x) uT' bL' bA bT bW' → post (nI f) (oL, yW, rL, wL, uA, (uC + nI f), uT', uN, bL', bA, bT, aF, aO, bW', bK, bS, bD)) : wpY_freeDoomed post (oL, yW, rL, wL, uA, uC, uT, uN, bL, bA, bT, aF, aO, bW, bK, bS, bD) := by
  refine Exists.intro (N + 1) ?_
  have e1 : (fun x => L x ∧ ¬ (D x ∧ x < 0)) = L := funext fun x => propext ⟨fun t => t.1, fun t => ⟨t, fun q => by omega⟩⟩
  have e := cw_fd4 (L := L) (D := D) hN hW eo ew hDL hD K (N + 1) 0 0 uT bL bW (by omega) (by omega) (by rw [e1]; omega) (by rw [e1]; exact hB)
  rw [nI_0, Int32.add_zero] at e
  exact e
end
end
section
/-! Y's fullCollection, findDoomed -/
section
variable {oL yW rL wL uA uC uT uN : Int32} {bL bA bT aF aO bW bK bS bD : Nat → Int32}
theorem cy_rt_s (O : Nat → Int32) (i x : Nat) : cy_rt O (i + 1) x = cy_rt O i x + cy_b (cy_is (O i) x) := rfl
theorem cw_fc47 {post : Int32 → SY → Prop} {ar : Nat → Nat} {N W : Nat} {tg wk : Nat → Int32} {k2 : Int32} {L T : Nat → Prop} (hN : N ≤ 32) (hW : W ≤ 8) (eo : oL = nI N) (ew : wL = nI W) (hB : cw_B N W ar tg wk k2 L uT bL bA bT bW) (hK : ∀ x, x < 32 → bK x = cy_gi (T x) 1)
    (K : ∀ f uT' bL' bW' bD', f + cy_n (fun x => L x ∧ ¬ (L x ∧ ¬ T x)) N = cy_n L N → cw_B N W ar tg wk k2 (fun x => L x ∧ ¬ (L x ∧ ¬ T x)) uT' bL' bA bT bW' → post (nI f) (oL, yW, rL, wL, uA, (uC + nI f), uT', (uN + 1), bL', bA, bT, aF, aO, bW', bK, bS, bD')) :
    ∀ (n i : Nat) (bD : Nat → Int32), N - i < n → i ≤ N → (∀ x, x < i → bD x = cy_gi (L x ∧ ¬ T x) 1) → wY_fullCollection_47 post oL yW rL wL uA uC uT uN n (nI i) bL bA bT aF aO bW bK bS bD := by
  intro n
  induction n with
  | zero => intro i bD h; omega
  | succ n ih =>
    intro i bD h hi hD
    rcases Nat.lt_or_ge i N with z | z
    · have hin : vp_in (nI i) 32 := vp_in_nI (by omega) (by omega)
      have ecl := cy_cl (n := i) (by omega)
      have nx : ∀ bD' v, bD' = upd bD i v → v = cy_gi (L i ∧ ¬ T i) 1 → ∀ x, x < i + 1 → bD' x = cy_gi (L x ∧ ¬ T x) 1 := by
        intro bD' v e ev x hx
        rcases Nat.decEq x i with y | y
        · rw [e, cy_un y]; exact hD x (by omega)
        · rw [e, y, cy_us]; exact ev
      refine br_f (by rw [eo]; exact nI_ge z (by omega)) ⟨hin, ?_⟩
      rw [ecl, hB.2.1 i (by omega)]
      rcases Classical.em (L i) with hL | hL
      · refine br_f (fun t => cy_gi0.mp t hL) ⟨hin, ?_⟩
        rw [hK i (by omega)]
        rcases Classical.em (T i) with hT | hT
        · refine br_f (fun t => cy_gi0.mp t hT) ⟨hin, fun bD' e => nm_r (nI_1 i) (ih (i + 1) bD' (by omega) (by omega) (nx bD' 0 ?_ ?_))⟩
          · rw [cy_vn0] at e; exact e
          · rw [cy_gif (fun t => t.2 hT)]
        · refine br_t (cy_gi0.mpr hT) ⟨hin, fun bD' e => nm_r (nI_1 i) (ih (i + 1) bD' (by omega) (by omega) (nx bD' 1 ?_ ?_))⟩
          · rw [cy_vn1] at e; exact e
          · rw [cy_git ⟨hL, hT⟩]
      · refine br_t (cy_gi0.mpr hL) ⟨hin, fun bD' e => nm_r (nI_1 i) (ih (i + 1) bD' (by omega) (by omega) (nx bD' 0 ?_ ?_))⟩
        · rw [cy_vn0] at e; exact e
        · rw [cy_gif (fun t => hL t.1)]
    · refine br_t (by rw [eo]; exact nI_le (by omega) (by omega)) ?_
      refine cw_freeD (L := L) (D := fun x => L x ∧ ¬ T x) hN hW eo ew (fun x hx => hx.1) (fun x hx => hD x (by omega)) hB (fun f uT' bL' bW' hf hB' => nm_e ?_)
      exact K f uT' bL' bW' bD hf hB'
theorem cw_fc6 {post : Int32 → SY → Prop} {ar : Nat → Nat} {N W R : Nat} {tg wk : Nat → Int32} {k2 : Int32} {L : Nat → Prop} (hN : N ≤ 32) (hR : R ≤ 8) (hW : W ≤ 8) (eo : oL = nI N) (er : rL = nI R) (ew : wL = nI W) (hok : cy_ok aF ar N L) (hro : cy_ro aO R L) (hB : cw_B N W ar tg wk k2 L uT bL bA bT bW)
    (K : ∀ f V uT' bL' bW' bK' bD', (∀ x, V x ↔ L x ∧ cy_rc (cy_ed aF ar L) (fun a => cy_rt aO R a ≠ 0) x) → f + cy_n V N = cy_n L N → cw_B N W ar tg wk k2 V uT' bL' bA bT bW' → post (nI f) (oL, yW, rL, wL, uA, (uC + nI f), uT', (uN + 1), bL', bA, bT, aF, aO, bW', bK', bS, bD')) :
    ∀ (n i : Nat) (bK : Nat → Int32), R - i < n → i ≤ R → (∀ x, x < 32 → bK x = cy_gi (cy_rt aO i x ≠ 0) 1) → wY_fullCollection_6 post oL yW rL wL uA uC uT uN n (nI i) bL bA bT aF aO bW bK bS bD := by
  intro n
  induction n with
  | zero => intro i bK h; omega
  | succ n ih =>
    intro i bK h hi hK
    rcases Nat.lt_or_ge i R with z | z
    · have hin : vp_in (nI i) 8 := vp_in_nI (by omega) (by omega)
      have ecl := cy_cl (n := i) (by omega)
      refine br_f (by rw [er]; exact nI_ge z (by omega)) ⟨hin, ?_⟩
      rw [ecl]
      rcases hro i z with ev | ⟨c, hLc, hc, ev⟩
      · rw [ev]
        refine br_t (by decide) (nm_r (nI_1 i) (ih (i + 1) bK (by omega) (by omega) (fun x hx => ?_)))
        rw [hK x hx, cy_rt_s, cy_bf (fun t => by rw [ev] at t; exact cy_is_m1 t)]
        rfl
      · rw [ev]
        refine br_f (nI_pos (by omega)) ⟨hin, vp_in_nI hc (by omega), fun bK' e => nm_r (nI_1 i) (ih (i + 1) bK' (by omega) (by omega) (fun x hx => ?_))⟩
        rw [cy_cl (by omega), cy_vn1] at e
        rw [cy_mk hK e x hx]
        refine cy_gie ?_
        rw [cy_rt_s]
        rcases Nat.decEq x c with y | y
        · rw [cy_bf (fun t => y (cy_is_u t ⟨hc, ev⟩))]
          exact ⟨fun t => t.resolve_right y, Or.inl⟩
        · rw [y, cy_bt ⟨hc, ev⟩]
          exact ⟨fun _ => by omega, fun _ => Or.inr rfl⟩
    · have e : i = R := by omega
      subst e
      refine br_t (by rw [er]; exact nI_le (by omega) (by omega)) ?_
      refine cw_spread (L := L) (A := fun x => cy_rt aO i x ≠ 0) hN eo hok hB (fun x hx => cy_ro_rt hro hx) hK (fun bK' hK' => Exists.intro (N + 1) ?_)
      refine cw_fc47 (L := L) (T := cy_rc (cy_ed aF ar L) (fun x => cy_rt aO i x ≠ 0)) hN hW eo ew hB hK' ?_ (N + 1) 0 bD (by omega) (by omega) (fun x hx => by omega)
      intro f uT' bL' bW' bD' hf hB'
      exact K f _ uT' bL' bW' bK' bD' (fun x => ⟨fun t => ⟨t.1, Classical.byContradiction fun q => t.2 ⟨t.1, q⟩⟩, fun t => ⟨t.1, fun q => q.2 t.2⟩⟩) hf hB'
theorem cw_full {post : Int32 → SY → Prop} {ar : Nat → Nat} {N W R : Nat} {tg wk : Nat → Int32} {k2 : Int32} {L : Nat → Prop} (hN : N ≤ 32) (hR : R ≤ 8) (hW : W ≤ 8) (eo : oL = nI N) (er : rL = nI R) (ew : wL = nI W) (hok : cy_ok aF ar N L) (hro : cy_ro aO R L) (hB : cw_B N W ar tg wk k2 L uT bL bA bT bW)
    (K : ∀ f V uT' bL' bW' bK' bD', (∀ x, V x ↔ L x ∧ cy_rc (cy_ed aF ar L) (fun a => cy_rt aO R a ≠ 0) x) → f + cy_n V N = cy_n L N → cw_B N W ar tg wk k2 V uT' bL' bA bT bW' → post (nI f) (oL, yW, rL, wL, uA, (uC + nI f), uT', (uN + 1), bL', bA, bT, aF, aO, bW', bK', bS, bD')) : wpY_fullCollection post (oL, yW, rL, wL, uA, uC, uT, uN, bL, bA, bT, aF, aO, bW, bK, bS, bD) := by
  unfold wpY_fullCollection
  refine cw_clear (fun bK' hK' => Exists.intro (R + 1) ?_)
  refine cw_fc6 hN hR hW eo er ew hok hro hB K (R + 1) 0 bK' (by omega) (by omega) (fun x hx => ?_)
  rw [hK' x hx]
  exact cy_gie ⟨False.elim, fun t => t rfl⟩
theorem cw_f190 {post : Int32 → SY → Prop} {N : Nat} {S H : Nat → Prop} (hN : N ≤ 32) (eo : oL = nI N) (hS : ∀ x, x < N → bS x = cy_gi (S x) 1) (hK : ∀ x, x < 32 → bK x = cy_gi (H x) 1)
    (K : ∀ bD', (∀ x, x < N → bD' x = cy_gi (S x ∧ ¬ H x) 1) → post (nI (cy_n (fun x => S x ∧ ¬ H x) N)) (oL, yW, rL, wL, uA, uC, uT, uN, bL, bA, bT, aF, aO, bW, bK, bS, bD')) :
    ∀ (n i : Nat) (bD : Nat → Int32), N - i < n → i ≤ N → (∀ x, x < i → bD x = cy_gi (S x ∧ ¬ H x) 1) → wY_findDoomed_190 post oL yW rL wL uA uC uT uN n (nI (cy_n (fun x => S x ∧ ¬ H x) i)) (nI i) bL bA bT aF aO bW bK bS bD := by
  intro n
  induction n with
  | zero => intro i bD h; omega
  | succ n ih =>
    intro i bD h hi hD
    rcases Nat.lt_or_ge i N with z | z
    · have hin : vp_in (nI i) 32 := vp_in_nI (by omega) (by omega)
      have ecl := cy_cl (n := i) (by omega)
      have es : cy_n (fun x => S x ∧ ¬ H x) (i + 1) = cy_n (fun x => S x ∧ ¬ H x) i + cy_b (S i ∧ ¬ H i) := rfl
      have nx : ∀ bD' v, bD' = upd bD i v → v = cy_gi (S i ∧ ¬ H i) 1 → ∀ x, x < i + 1 → bD' x = cy_gi (S x ∧ ¬ H x) 1 := by
        intro bD' v e ev x hx
        rcases Nat.decEq x i with y | y
        · rw [e, cy_un y]; exact hD x (by omega)
        · rw [e, y, cy_us]; exact ev
      have no : ¬ (S i ∧ ¬ H i) → wY_findDoomed_226 post (wY_findDoomed_190 post oL yW rL wL uA uC uT uN n) (nI (cy_n (fun x => S x ∧ ¬ H x) i)) (nI i) 0 (nI i) oL yW rL wL uA uC uT uN bL bA bT aF aO bW bK bS bD := by
        intro hn
        refine ⟨hin, fun bD' e => ⟨hin, ?_⟩⟩
        rw [ecl, cy_vn0] at e
        rw [ecl]
        refine br_t (by rw [e, cy_us]) (nm_r (nI_1 i) ?_)
        have t := ih (i + 1) bD' (by omega) (by omega) (nx bD' 0 e (by rw [cy_gif hn]))
        rw [es, cy_bf hn] at t
        exact t
      refine br_f (by rw [eo]; exact nI_ge z (by omega)) ⟨hin, ?_⟩
      rw [ecl, hS i z]
      rcases Classical.em (S i) with hL | hL
      · refine br_f (fun t => cy_gi0.mp t hL) ⟨hin, ?_⟩
        rw [hK i (by omega)]
        rcases Classical.em (H i) with hT | hT
        · exact br_f (fun t => cy_gi0.mp t hT) (no (fun t => t.2 hT))
        · refine br_t (cy_gi0.mpr hT) ⟨hin, fun bD' e => ⟨hin, ?_⟩⟩
          rw [ecl, cy_vn1] at e
          rw [ecl]
          refine br_f (by rw [e, cy_us]; decide) (nm_r (nI_1 _) (nm_r (nI_1 i) ?_))
          have t := ih (i + 1) bD' (by omega) (by omega) (nx bD' 1 e (by rw [cy_git ⟨hL, hT⟩]))
          rw [es, cy_bt ⟨hL, hT⟩] at t
          exact t
      · exact br_t (cy_gi0.mpr hL) (no (fun t => hL t.1))
    · have e : i = N := by omega
      subst e
      exact br_t (by rw [eo]; exact nI_le (by omega) (by omega)) (K bD hD)
/-- a marked set {x in S : q x ≠ 0}, and one more value seen -/
theorem cy_mkq {S : Nat → Prop} {q q' : Nat → Nat} {v : Int32} {c : Nat} {bK bK' : Nat → Int32} (hc : cy_is v c) (hS : S c) (hq : ∀ x, q' x = q x + cy_b (cy_is v x)) (h : ∀ x, x < 32 → bK x = cy_gi (S x ∧ q x ≠ 0) 1) (e : bK' = upd bK c 1) : ∀ x, x < 32 → bK' x = cy_gi (S x ∧ q' x ≠ 0) 1 := by
  intro x hx
  rw [cy_mk h e x hx]
  refine cy_gie ?_
  rw [hq x]
  rcases Nat.decEq x c with y | y
  · rw [cy_bf (fun t => y (cy_is_u t hc))]
    exact ⟨fun t => t.resolve_right y, Or.inl⟩
  · rw [y, cy_bt hc]
    exact ⟨fun _ => ⟨hS, by omega⟩, fun _ => Or.inr rfl⟩
theorem cy_mkn {S : Nat → Prop} {q q' : Nat → Nat} {v : Int32} {bK : Nat → Int32} (hn : ∀ x, cy_is v x → ¬ S x) (hq : ∀ x, q' x = q x + cy_b (cy_is v x)) (h : ∀ x, x < 32 → bK x = cy_gi (S x ∧ q x ≠ 0) 1) : ∀ x, x < 32 → bK x = cy_gi (S x ∧ q' x ≠ 0) 1 := by
  intro x hx
  rw [h x hx]
  refine cy_gie ⟨fun t => ⟨t.1, by rw [hq x]; omega⟩, fun t => ⟨t.1, ?_⟩⟩
  have a := t.2
  rw [hq x, cy_bf (fun s => hn x s t.1)] at a
  exact a
theorem cw_f102 {post : Int32 → SY → Prop} {J : Int32 → (Nat → Int32) → (Nat → Int32) → (Nat → Int32) → (Nat → Int32) → (Nat → Int32) → (Nat → Int32) → (Nat → Int32) → (Nat → Int32) → (Nat → Int32) → Prop} {ar : Nat → Nat} {N W y : Nat} {tg wk : Nat → Int32} {k2 : Int32} {L S : Nat → Prop} {q0 : Nat → Nat} (hN : N ≤ 32) (hok : cy_ok aF ar N L) (hB : cw_B N W ar tg wk k2 L uT bL bA bT bW) (hS : ∀ x, x < N → bS x = cy_gi (S x) 1) (hy : y < N)
    (K : ∀ bK', (∀ x, x < 32 → bK' x = cy_gi (S x ∧ q0 x + cy_g (L y ∧ ¬ S y) (cy_rw aF ar y x) ≠ 0) 1) → J (nI (y + 1)) bL bA bT aF aO bW bK' bS bD) :
    ∀ (n k : Nat) (bK : Nat → Int32), 4 - k < n → k ≤ 4 → (∀ x, x < 32 → bK x = cy_gi (S x ∧ q0 x + cy_g (L y ∧ ¬ S y) (cy_pr aF y x (min k (ar y))) ≠ 0) 1) → wY_findDoomed_102 post J (nI y) oL yW rL wL uA uC uT uN n (nI k) bL bA bT aF aO bW bK bS bD := by
  have hin : vp_in (nI y) 32 := vp_in_nI (by omega) (by omega)
  have ecl := cy_cl (n := y) (by omega)
  intro n
  induction n with
  | zero => intro k bK h; omega
  | succ n ih =>
    intro k bK h hk hK
    rcases Nat.lt_or_ge k 4 with z | z
    · refine br_f (nI_ge (b := 4) z (by decide)) ⟨hin, ?_⟩
      rw [ecl, hB.2.1 y (by omega)]
      rcases Classical.em (L y) with hL | hL
      · refine br_f (fun t => cy_gi0.mp t hL) ⟨hin, ?_⟩
        rw [hS y hy]
        have h4 := (hok y hL).2.1
        rcases Classical.em (S y) with hA | hA
        · refine br_f (fun t => cy_gi0.mp t hA) (nm_r (nI_1 k) (ih (k + 1) bK (by omega) (by omega) (fun x hx => ?_)))
          have g := hK x hx
          rw [cy_gf (fun t => t.2 hA)] at g ⊢
          exact g
        · have hg : L y ∧ ¬ S y := ⟨hL, hA⟩
          refine br_t (cy_gi0.mpr hA) ⟨hin, ?_⟩
          rw [(hB.2.2.1 y hL).1]
          rcases Nat.lt_or_ge k (ar y) with q | q
          · obtain ⟨hi, ea⟩ := cy_at' (d := y) (k := k) (by omega) z
            have m1 : min k (ar y) = k := by omega
            have m2 : min (k + 1) (ar y) = k + 1 := by omega
            refine br_f (nI_ge q (by omega)) ⟨hi, fun x4 e4 => ?_⟩
            rw [ea] at e4
            rw [m1] at hK
            have hq : ∀ x, q0 x + cy_g (L y ∧ ¬ S y) (cy_pr aF y x (min (k + 1) (ar y))) = q0 x + cy_g (L y ∧ ¬ S y) (cy_pr aF y x k) + cy_b (cy_is (aF (4 * y + k)) x) := fun x => by
              rw [m2, cy_gt hg, cy_gt hg, cy_pr_s]; omega
            rcases (hok y hL).2.2 k q with ev | ⟨c, hLc, hc, ev⟩
            · refine br_t (by rw [e4, ev]; decide) (nm_r (nI_1 k) (ih (k + 1) bK (by omega) (by omega) (cy_mkn (v := aF (4 * y + k)) (fun x hx => ?_) hq hK)))
              rw [ev] at hx
              exact (cy_is_m1 hx).elim
            · have hcN := (hok c hLc).1
              have hinc : vp_in (nI c) 32 := vp_in_nI hc (by omega)
              rw [ev] at e4
              subst e4
              refine br_f (nI_pos (by omega)) ⟨hinc, ?_⟩
              rw [cy_cl (by omega), hS c hcN]
              rcases Classical.em (S c) with hSc | hSc
              · refine br_f (fun t => cy_gi0.mp t hSc) ⟨hinc, fun bK' e => nm_r (nI_1 k) (ih (k + 1) bK' (by omega) (by omega) (cy_mkq (v := aF (4 * y + k)) (c := c) ⟨hc, ev⟩ hSc hq hK ?_))⟩
                rw [cy_vn1] at e
                exact e
              · refine br_t (cy_gi0.mpr hSc) (nm_r (nI_1 k) (ih (k + 1) bK (by omega) (by omega) (cy_mkn (v := aF (4 * y + k)) (fun x hx => ?_) hq hK)))
                rw [cy_is_u hx ⟨hc, ev⟩]
                exact hSc
          · have m1 : min (k + 1) (ar y) = min k (ar y) := by omega
            refine br_t (nI_le q (by omega)) (nm_r (nI_1 k) (ih (k + 1) bK (by omega) (by omega) ?_))
            rw [m1]; exact hK
      · refine br_t (cy_gi0.mpr hL) (nm_r (nI_1 k) (ih (k + 1) bK (by omega) (by omega) (fun x hx => ?_)))
        have g := hK x hx
        rw [cy_gf (fun t => hL t.1)] at g ⊢
        exact g
    · have e : k = 4 := by omega
      refine br_t (by rw [e]; decide) (nm_r (nI_1 y) (K bK (fun x hx => ?_)))
      have g := hK x hx
      rcases Classical.em (L y ∧ ¬ S y) with t | t
      · have h4 := (hok y t.1).2.1
        have m : min k (ar y) = ar y := by omega
        rw [m] at g
        exact g
      · rw [cy_gf t] at g ⊢
        exact g
theorem cw_f92 {post : Int32 → SY → Prop} {ar : Nat → Nat} {N W R : Nat} {tg wk : Nat → Int32} {k2 : Int32} {L S : Nat → Prop} (hN : N ≤ 32) (eo : oL = nI N) (hok : cy_ok aF ar N L) (hB : cw_B N W ar tg wk k2 L uT bL bA bT bW) (hS : ∀ x, x < N → bS x = cy_gi (S x) 1) (hSL : ∀ x, S x → L x)
    (K : ∀ bK' bD', (∀ x, x < N → bD' x = cy_gi (S x ∧ ¬ cy_rc (cy_ed aF ar L) (cy_ex aF ar aO R N L S) x) 1) → post (nI (cy_n (fun x => S x ∧ ¬ cy_rc (cy_ed aF ar L) (cy_ex aF ar aO R N L S) x) N)) (oL, yW, rL, wL, uA, uC, uT, uN, bL, bA, bT, aF, aO, bW, bK', bS, bD')) :
    ∀ (n y : Nat) (bK : Nat → Int32), N - y < n → y ≤ N → (∀ x, x < 32 → bK x = cy_gi (S x ∧ cy_rt aO R x + cy_sm (fun y => cy_g (L y ∧ ¬ S y) (cy_rw aF ar y x)) y ≠ 0) 1) → wY_findDoomed_92 post oL yW rL wL uA uC uT uN n (nI y) bL bA bT aF aO bW bK bS bD := by
  intro n
  induction n with
  | zero => intro y bK h; omega
  | succ n ih =>
    intro y bK h hy hK
    rcases Nat.lt_or_ge y N with z | z
    · refine br_f (by rw [eo]; exact nI_ge z (by omega)) (Exists.intro 5 ?_)
      refine cw_f102 (L := L) (S := S) (q0 := fun x => cy_rt aO R x + cy_sm (fun y => cy_g (L y ∧ ¬ S y) (cy_rw aF ar y x)) y) hN hok hB hS z (fun bK' hK' => ?_) 5 0 bK (by omega) (by omega) (fun x hx => ?_)
      · refine ih (y + 1) bK' (by omega) (by omega) (fun x hx => ?_)
        rw [cy_sm_s, ← Nat.add_assoc]
        exact hK' x hx
      · have m : cy_pr aF y x (min 0 (ar y)) = 0 := by rw [Nat.zero_min]; rfl
        have g0 : cy_g (L y ∧ ¬ S y) 0 = 0 := by
          rcases Classical.em (L y ∧ ¬ S y) with q | q
          · exact cy_gt q
          · exact cy_gf q
        rw [m, g0]
        exact hK x hx
    · have e : y = N := by omega
      subst e
      refine br_t (by rw [eo]; exact nI_le (by omega) (by omega)) ?_
      refine cw_spread (L := L) (A := cy_ex aF ar aO R y L S) hN eo hok hB (fun x hx => hSL x hx.1) hK (fun bK' hK' => Exists.intro (y + 1) ?_)
      exact cw_f190 (S := S) (H := cy_rc (cy_ed aF ar L) (cy_ex aF ar aO R y L S)) hN eo hS hK' (fun bD' hD => K bK' bD' hD) (y + 1) 0 bD (by omega) (by omega) (fun x hx => by omega)
theorem cw_f49 {post : Int32 → SY → Prop} {ar : Nat → Nat} {N W R : Nat} {tg wk : Nat → Int32} {k2 : Int32} {L S : Nat → Prop} (hN : N ≤ 32) (hR : R ≤ 8) (eo : oL = nI N) (er : rL = nI R) (hok : cy_ok aF ar N L) (hro : cy_ro aO R L) (hB : cw_B N W ar tg wk k2 L uT bL bA bT bW) (hS : ∀ x, x < N → bS x = cy_gi (S x) 1) (hSL : ∀ x, S x → L x)
    (K : ∀ bK' bD', (∀ x, x < N → bD' x = cy_gi (S x ∧ ¬ cy_rc (cy_ed aF ar L) (cy_ex aF ar aO R N L S) x) 1) → post (nI (cy_n (fun x => S x ∧ ¬ cy_rc (cy_ed aF ar L) (cy_ex aF ar aO R N L S) x) N)) (oL, yW, rL, wL, uA, uC, uT, uN, bL, bA, bT, aF, aO, bW, bK', bS, bD')) :
    ∀ (n i : Nat) (bK : Nat → Int32), R - i < n → i ≤ R → (∀ x, x < 32 → bK x = cy_gi (S x ∧ cy_rt aO i x ≠ 0) 1) → wY_findDoomed_49 post oL yW rL wL uA uC uT uN n (nI i) bL bA bT aF aO bW bK bS bD := by
  intro n
  induction n with
  | zero => intro i bK h; omega
  | succ n ih =>
    intro i bK h hi hK
    rcases Nat.lt_or_ge i R with z | z
    · have hin : vp_in (nI i) 8 := vp_in_nI (by omega) (by omega)
      refine br_f (by rw [er]; exact nI_ge z (by omega)) ⟨hin, fun x3 e3 => ?_⟩
      rw [cy_cl (by omega)] at e3
      have hq : ∀ x, cy_rt aO (i + 1) x = cy_rt aO i x + cy_b (cy_is (aO i) x) := fun x => rfl
      rcases hro i z with ev | ⟨c, hLc, hc, ev⟩
      · refine br_t (by rw [e3, ev]; decide) (nm_r (nI_1 i) (ih (i + 1) bK (by omega) (by omega) (cy_mkn (v := aO i) (fun x hx => ?_) hq hK)))
        rw [ev] at hx
        exact (cy_is_m1 hx).elim
      · have hcN := (hok c hLc).1
        have hinc : vp_in (nI c) 32 := vp_in_nI hc (by omega)
        rw [ev] at e3
        subst e3
        refine br_f (nI_pos (by omega)) ⟨hinc, ?_⟩
        rw [cy_cl (by omega), hS c hcN]
        rcases Classical.em (S c) with hSc | hSc
        · refine br_f (fun t => cy_gi0.mp t hSc) ⟨hinc, fun bK' e => nm_r (nI_1 i) (ih (i + 1) bK' (by omega) (by omega) (cy_mkq (v := aO i) (c := c) ⟨hc, ev⟩ hSc hq hK ?_))⟩
          rw [cy_vn1] at e
          exact e
        · refine br_t (cy_gi0.mpr hSc) (nm_r (nI_1 i) (ih (i + 1) bK (by omega) (by omega) (cy_mkn (v := aO i) (fun x hx => ?_) hq hK)))
          rw [cy_is_u hx ⟨hc, ev⟩]
          exact hSc
    · have e : i = R := by omega
      subst e
      exact br_t (by rw [er]; exact nI_le (by omega) (by omega)) (Exists.intro (N + 1) (cw_f92 hN eo hok hB hS hSL K (N + 1) 0 bK (by omega) (by omega) hK))
theorem cw_f17 {post : Int32 → SY → Prop} {ar : Nat → Nat} {N W R : Nat} {tg wk : Nat → Int32} {k2 : Int32} {L S : Nat → Prop} (hN : N ≤ 32) (hR : R ≤ 8) (eo : oL = nI N) (er : rL = nI R) (hok : cy_ok aF ar N L) (hro : cy_ro aO R L) (hB : cw_B N W ar tg wk k2 L uT bL bA bT bW) (hSL : ∀ x, S x → L x) (hK : ∀ x, x < 32 → bK x = cy_gi (S x) 1)
    (K : ∀ bK' bS' bD', (∀ x, x < N → bD' x = cy_gi (S x ∧ ¬ cy_rc (cy_ed aF ar L) (cy_ex aF ar aO R N L S) x) 1) → post (nI (cy_n (fun x => S x ∧ ¬ cy_rc (cy_ed aF ar L) (cy_ex aF ar aO R N L S) x) N)) (oL, yW, rL, wL, uA, uC, uT, uN, bL, bA, bT, aF, aO, bW, bK', bS', bD')) :
    ∀ (n i : Nat) (bS : Nat → Int32), N - i < n → i ≤ N → (∀ x, x < i → bS x = cy_gi (S x) 1) → wY_findDoomed_17 post oL yW rL wL uA uC uT uN n (nI i) bL bA bT aF aO bW bK bS bD := by
  intro n
  induction n with
  | zero => intro i bS h; omega
  | succ n ih =>
    intro i bS h hi hS
    rcases Nat.lt_or_ge i N with z | z
    · have hin : vp_in (nI i) 32 := vp_in_nI (by omega) (by omega)
      refine br_f (by rw [eo]; exact nI_ge z (by omega)) ⟨hin, hin, fun bS' e => nm_r (nI_1 i) (ih (i + 1) bS' (by omega) (by omega) (fun x hx => ?_))⟩
      rw [cy_cl (by omega), hK i (by omega)] at e
      have ev : vp_nar .boolean (cy_gi (S i) 1) = cy_gi (S i) 1 := by
        rcases Classical.em (S i) with t | t
        · rw [cy_git t]; rfl
        · rw [cy_gif t]; rfl
      rw [ev] at e
      rcases Nat.decEq x i with y | y
      · rw [e, cy_un y]; exact hS x (by omega)
      · rw [e, y, cy_us]
    · have e : i = N := by omega
      subst e
      refine br_t (by rw [eo]; exact nI_le (by omega) (by omega)) ?_
      refine cw_clear (fun bK' hK' => Exists.intro (R + 1) ?_)
      refine cw_f49 hN hR eo er hok hro hB hS hSL (fun bK' bD' h => K bK' bS bD' h) (R + 1) 0 bK' (by omega) (by omega) (fun x hx => ?_)
      rw [hK' x hx]
      exact cy_gie ⟨False.elim, fun t => t.2 rfl⟩
theorem cw_findD {post : Int32 → SY → Prop} {ar : Nat → Nat} {N W R d : Nat} {tg wk : Nat → Int32} {k2 : Int32} {L S : Nat → Prop} (hN : N ≤ 32) (hR : R ≤ 8) (eo : oL = nI N) (er : rL = nI R) (hok : cy_ok aF ar N L) (hro : cy_ro aO R L) (hB : cw_B N W ar tg wk k2 L uT bL bA bT bW) (hd : L d) (hS : S = cy_rc (cy_ed aF ar L) (fun a => a = d))
    (K : ∀ bK' bS' bD', (∀ x, x < N → bD' x = cy_gi (S x ∧ ¬ cy_rc (cy_ed aF ar L) (cy_ex aF ar aO R N L S) x) 1) → post (nI (cy_n (fun x => S x ∧ ¬ cy_rc (cy_ed aF ar L) (cy_ex aF ar aO R N L S) x) N)) (oL, yW, rL, wL, uA, uC, uT, uN, bL, bA, bT, aF, aO, bW, bK', bS', bD')) : wpY_findDoomed post (oL, yW, rL, wL, uA, uC, uT, uN, bL, bA, bT, aF, aO, bW, bK, bS, bD) (nI d) := by
  have hdN := (hok d hd).1
  unfold wpY_findDoomed
  refine cw_clear (fun bK' hK' => ⟨vp_in_nI (by omega) (by omega), fun bK2 e => ?_⟩)
  rw [cy_cl (by omega), cy_vn1] at e
  refine cw_spread (L := L) (A := fun a => a = d) hN eo hok hB (fun x hx => hx ▸ hd) (fun x hx => ?_) (fun bK3 hK3 => Exists.intro (N + 1) ?_)
  · rw [cy_mk hK' e x hx]
    exact cy_gie ⟨fun t => t.resolve_left id, Or.inr⟩
  · rw [← hS] at hK3
    refine cw_f17 hN hR eo er hok hro hB (fun x hx => ?_) hK3 K (N + 1) 0 bS (by omega) (by omega) (fun x hx => by omega)
    rw [hS] at hx
    exact cy_rc_x (A := fun a => a = d) (E := cy_ed aF ar L) (S := L) (fun a (ha : a = d) => by rw [ha]; exact hd) (fun a b _ hab => cy_ok_rw hok hab.1 hab.2) x hx
end
end
section
/-! The relation -/
def cz_wk (L : Nat → Prop) (W : Nat) (wk : Nat → Int32) : Prop := ∀ w, w < W → wk w = -1 ∨ wk w = -2 ∨ ∃ x, L x ∧ x < 32 ∧ wk w = nI x
def cz_Q (N R W : Nat) (ar : Nat → Nat) (tg wk : Nat → Int32) (k2 : Int32) (L C : Nat → Prop) (nL wd cC tT yW uT : Int32) (aL aA aT aR aF aO aW aC aI aK bL bA bT bW : Nat → Int32) : Prop :=
  (N ≤ 32 ∧ R ≤ 8 ∧ W ≤ 8) ∧ (∀ x, x < 32 → aK x = 0) ∧ cx_S aF ar aO R N L (fun _ => 0) (fun _ => False) C aR ∧ cx_B N W ar tg wk yW k2 L nL wd tT aL aA aT aW ∧ cw_B N W ar tg wk k2 L uT bL bA bT bW ∧ cx_C C cC aC aI ∧ (∀ x, C x → L x) ∧ cz_wk L W wk
def i_Rel (_ : Nat) (u : SX) (v : SY) : Prop :=
  ∃ (N R W : Nat) (ar : Nat → Nat) (tg wk : Nat → Int32) (k2 : Int32) (L C : Nat → Prop), match u, v with
  | (oL, rL, wL, nL, wd, cC, pC, mC, zH, sC, tS, tC, tT, tF, aL, aA, aT, aR, aF, aO, aW, aC, aI, aP, aM, aK, aE, aH, aS), (oL', yW, rL', wL', uA, uC, uT, uN, bL, bA, bT, aF', aO', bW, _, _, _) => (oL = nI N ∧ oL' = nI N ∧ rL = nI R ∧ rL' = nI R ∧ wL = nI W ∧ wL' = nI W ∧ pC = 0 ∧ mC = 0 ∧ uA = tS ∧ uC = tC ∧ uN = tF ∧ aF' = aF ∧ aO' = aO) ∧ cz_Q N R W ar tg wk k2 L C nL wd cC tT yW uT aL aA aT aR aF aO aW aC aI aK bL bA bT bW
theorem i_up {k : Nat} {u : SX} {v : SY} (h : i_Rel k u v) : i_Rel (k + 4) u v := h
theorem cz_el {k : Nat} {u : SX} {v : SY} {P : SX → SY → Prop} (I : i_Rel k u v) (h : ∀ (N R W : Nat) (ar : Nat → Nat) (tg wk : Nat → Int32) (k2 : Int32) (L C : Nat → Prop) (nL wd cC zH sC tS tC tT tF yW uT : Int32) (aL aA aT aR aF aO aW aC aI aP aM aK aE aH aS bL bA bT bW bK bS bD : Nat → Int32), cz_Q N R W ar tg wk k2 L C nL wd cC tT yW uT aL aA aT aR aF aO aW aC aI aK bL bA bT bW → P ((nI N), (nI R), (nI W), nL, wd, cC, 0, 0, zH, sC, tS, tC, tT, tF, aL, aA, aT, aR, aF, aO, aW, aC, aI, aP, aM, aK, aE, aH, aS) ((nI N), yW, (nI R), (nI W), tS, tC, uT, tF, bL, bA, bT, aF, aO, bW, bK, bS, bD)) : P u v := by
  obtain ⟨oL, rL, wL, nL, wd, cC, pC, mC, zH, sC, tS, tC, tT, tF, aL, aA, aT, aR, aF, aO, aW, aC, aI, aP, aM, aK, aE, aH, aS⟩ := u
  obtain ⟨oL', yW, rL', wL', uA, uC, uT, uN, bL, bA, bT, aF', aO', bW, bK, bS, bD⟩ := v
  obtain ⟨N, R, W, ar, tg, wk, k2, L, C, hq⟩ := I
  obtain ⟨⟨e1, e2, e3, e4, e5, e6, e7, e8, e9, e10, e11, e12, e13⟩, hQ⟩ := hq
  subst e1 e2 e3 e4 e5 e6 e7 e8 e9 e10 e11 e12 e13
  exact h N R W ar tg wk k2 L C nL wd cC zH sC _ _ tT _ yW uT aL aA aT aR _ _ aW aC aI aP aM aK aE aH aS bL bA bT bW bK bS bD hQ
theorem cz_in {k N R W : Nat} {ar : Nat → Nat} {tg wk : Nat → Int32} {k2 : Int32} {L C : Nat → Prop} {nL wd cC zH sC tS tC tT tF yW uT : Int32} {aL aA aT aR aF aO aW aC aI aP aM aK aE aH aS bL bA bT bW bK bS bD : Nat → Int32} (h : cz_Q N R W ar tg wk k2 L C nL wd cC tT yW uT aL aA aT aR aF aO aW aC aI aK bL bA bT bW) : i_Rel k ((nI N), (nI R), (nI W), nL, wd, cC, 0, 0, zH, sC, tS, tC, tT, tF, aL, aA, aT, aR, aF, aO, aW, aC, aI, aP, aM, aK, aE, aH, aS) ((nI N), yW, (nI R), (nI W), tS, tC, uT, tF, bL, bA, bT, aF, aO, bW, bK, bS, bD) :=
  ⟨N, R, W, ar, tg, wk, k2, L, C, ⟨rfl, rfl, rfl, rfl, rfl, rfl, rfl, rfl, rfl, rfl, rfl, rfl, rfl⟩, h⟩
theorem cy_fz_i (V : Nat → Prop) (v : Int32) : cy_fz V (cy_fz V v) = cy_fz V v := by
  rcases Classical.em (∃ x, cy_is v x ∧ ¬ V x) with ⟨x, hx, hn⟩ | z
  · rw [cy_fz_t hx hn, cy_fz_f (fun y hy => (cy_is_m2 hy).elim)]
  · have zz : ∀ x, cy_is v x → V x := fun x hx => Classical.byContradiction fun hn => z ⟨x, hx, hn⟩
    rw [cy_fz_f zz, cy_fz_f zz]
theorem cz_wk_fz {L V : Nat → Prop} {W : Nat} {wk : Nat → Int32} (h : cz_wk L W wk) : cz_wk V W (fun w => cy_fz V (wk w)) := by
  intro w hw
  rcases h w hw with t | t | ⟨x, hx, h32, t⟩
  · exact Or.inl (by show cy_fz V (wk w) = -1; rw [t, cy_fz_f (fun y hy => (cy_is_m1 hy).elim)])
  · exact Or.inr (Or.inl (by show cy_fz V (wk w) = -2; rw [t, cy_fz_f (fun y hy => (cy_is_m2 hy).elim)]))
  · rcases Classical.em (V x) with y | y
    · exact Or.inr (Or.inr ⟨x, y, h32, by show cy_fz V (wk w) = nI x; rw [t, cy_fz_f (fun z hz => by rw [cy_is_u hz ⟨h32, rfl⟩]; exact y)]⟩)
    · exact Or.inr (Or.inl (by show cy_fz V (wk w) = -2; rw [t, cy_fz_t (x := x) ⟨h32, rfl⟩ y]))
theorem cz_wk_id {L : Nat → Prop} {W w : Nat} {wk : Nat → Int32} (h : cz_wk L W wk) (hw : w < W) : cy_fz L (wk w) = wk w := by
  rcases h w hw with t | t | ⟨x, hx, h32, t⟩
  · rw [t, cy_fz_f (fun y hy => (cy_is_m1 hy).elim)]
  · rw [t, cy_fz_f (fun y hy => (cy_is_m2 hy).elim)]
  · rw [t, cy_fz_f (fun z hz => by rw [cy_is_u hz ⟨h32, rfl⟩]; exact hx)]
section
variable {N R W : Nat} {ar : Nat → Nat} {tg wk : Nat → Int32} {k2 : Int32} {L V V' C : Nat → Prop} {nL wd cC zH sC tS tC tT tF yW uT : Int32} {aL aA aT aR aF aO aW aC aI aP aM aK aE aH aS bL bA bT bW bK bS bD : Nat → Int32}
theorem cz_mk (hN : N ≤ 32) (hR : R ≤ 8) (hW : W ≤ 8) (hK : ∀ x, x < 32 → aK x = 0) (hwk : cz_wk L W wk) (hS : cx_S aF ar aO R N V (fun _ => 0) (fun _ => False) C aR) (hB : cx_B N W ar tg wk yW k2 V nL wd tT aL aA aT aW) (hC' : cx_C C cC aC aI) (hCV : ∀ x, C x → V x) (hV : ∀ x, V x ↔ V' x) (hB' : cw_B N W ar tg wk k2 V' uT bL bA bT bW) : cz_Q N R W ar tg (fun w => cy_fz V (wk w)) k2 V C nL wd cC tT yW uT aL aA aT aR aF aO aW aC aI aK bL bA bT bW := by
  have eV : V' = V := funext fun x => propext (hV x).symm
  rw [eV] at hB'
  refine ⟨⟨hN, hR, hW⟩, hK, hS, ⟨hB.1, hB.2.1, hB.2.2.1, hB.2.2.2.1, hB.2.2.2.2.1, hB.2.2.2.2.2.1, fun w hw => ?_⟩, ⟨hB'.1, hB'.2.1, hB'.2.2.1, hB'.2.2.2.1, fun w hw => ?_⟩, hC', hCV, cz_wk_fz hwk⟩
  · rw [cy_fz_i]; exact hB.2.2.2.2.2.2 w hw
  · rw [cy_fz_i]; exact hB'.2.2.2.2 w hw
theorem cz_conc {k f f' : Nat} (hN : N ≤ 32) (hR : R ≤ 8) (hW : W ≤ 8) (hK : ∀ x, x < 32 → aK x = 0) (hwk : cz_wk L W wk) (hV : ∀ x, V x ↔ V' x) (hf : f + cy_n V N = cy_n L N) (hS : cx_S aF ar aO R N V (fun _ => 0) (fun _ => False) C aR) (hB : cx_B N W ar tg wk yW k2 V nL wd tT aL aA aT aW) (hC' : cx_C C cC aC aI) (hCV : ∀ x, C x → V x) (hf' : f' + cy_n V' N = cy_n L N) (hB' : cw_B N W ar tg wk k2 V' uT bL bA bT bW) :
    nI f' = nI f ∧ i_Rel k ((nI N), (nI R), (nI W), nL, wd, cC, 0, 0, zH, sC, (tS + nI f), tC, tT, tF, aL, aA, aT, aR, aF, aO, aW, aC, aI, aP, aM, aK, aE, aH, aS) ((nI N), yW, (nI R), (nI W), (tS + nI f'), tC, uT, tF, bL, bA, bT, aF, aO, bW, bK, bS, bD) := by
  have e := cy_n_eq (P := V) (Q := V') (n := N) (fun x _ => hV x)
  have ef : f' = f := by omega
  subst ef
  exact ⟨rfl, cz_in (cz_mk hN hR hW hK hwk hS hB hC' hCV hV hB')⟩
end
/-- a value against a limit -/
theorem cy_ix (x : Int32) {n : Nat} (hn : n < 2 ^ 31) : (x < 0 ∨ nI n ≤ x) ∨ ∃ j : Nat, j < n ∧ x = nI j := by
  rcases Classical.em (x < 0) with z | z
  · exact Or.inl (Or.inl z)
  · obtain ⟨j, hj, e⟩ := nI_of z
    rcases Nat.lt_or_ge j n with y | y
    · exact Or.inr ⟨j, y, e⟩
    · exact Or.inl (Or.inr (by rw [e]; exact nI_le y hj))
section
variable {oL rL wL nL wd cC pC mC zH sC tS tC tT tF : Int32} {aL aA aT aR aF aO aW aC aI aP aM aK aE aH aS : Nat → Int32} {post : Int32 → Prop} {v : Int32}
theorem cx_rootF (h : v < 0 ∨ rL ≤ v) (K : post 0) : wpX_isRoot post (oL, rL, wL, nL, wd, cC, pC, mC, zH, sC, tS, tC, tT, tF, aL, aA, aT, aR, aF, aO, aW, aC, aI, aP, aM, aK, aE, aH, aS) v := br_c (fun _ => K) (fun z => br_t (h.resolve_left z) K)
theorem cx_rootT {R r : Nat} (hR : R ≤ 8) (er : rL = nI R) (hr : r < R) (K : post 1) : wpX_isRoot post (oL, rL, wL, nL, wd, cC, pC, mC, zH, sC, tS, tC, tT, tF, aL, aA, aT, aR, aF, aO, aW, aC, aI, aP, aM, aK, aE, aH, aS) (nI r) := br_f (nI_pos (by omega)) (br_f (by rw [er]; exact nI_ge hr (by omega)) K)
theorem cx_weakF (h : v < 0 ∨ wL ≤ v) (K : post 0) : wpX_isWeak post (oL, rL, wL, nL, wd, cC, pC, mC, zH, sC, tS, tC, tT, tF, aL, aA, aT, aR, aF, aO, aW, aC, aI, aP, aM, aK, aE, aH, aS) v := br_c (fun _ => K) (fun z => br_t (h.resolve_left z) K)
theorem cx_weakT {R r : Nat} (hR : R ≤ 8) (er : wL = nI R) (hr : r < R) (K : post 1) : wpX_isWeak post (oL, rL, wL, nL, wd, cC, pC, mC, zH, sC, tS, tC, tT, tF, aL, aA, aT, aR, aF, aO, aW, aC, aI, aP, aM, aK, aE, aH, aS) (nI r) := br_f (nI_pos (by omega)) (br_f (by rw [er]; exact nI_ge hr (by omega)) K)
theorem cx_liveF {N : Nat} {L : Nat → Prop} (hN : N ≤ 32) (eo : oL = nI N) (hL : ∀ x, x < 32 → aL x = cy_gi (L x) 1) (h : ∀ x, L x → v ≠ nI x) (K : post 0) : wpX_isLive post (oL, rL, wL, nL, wd, cC, pC, mC, zH, sC, tS, tC, tT, tF, aL, aA, aT, aR, aF, aO, aW, aC, aI, aP, aM, aK, aE, aH, aS) v := by
  rcases cy_ix v (n := N) (by omega) with t | ⟨j, hj, e⟩
  · exact br_c (fun _ => K) (fun z => br_t (by rw [eo]; exact t.resolve_left z) K)
  · subst e
    refine br_f (nI_pos (by omega)) (br_f (by rw [eo]; exact nI_ge hj (by omega)) ⟨vp_in_nI (by omega) (by omega), br_t ?_ K⟩)
    rw [cy_cl (by omega), hL j (by omega)]
    exact cy_gi0.mpr (fun t => h j t rfl)
theorem cx_liveT {N x : Nat} {L : Nat → Prop} (hN : N ≤ 32) (eo : oL = nI N) (hL : ∀ x, x < 32 → aL x = cy_gi (L x) 1) (hx : x < N) (h : L x) (K : post 1) : wpX_isLive post (oL, rL, wL, nL, wd, cC, pC, mC, zH, sC, tS, tC, tT, tF, aL, aA, aT, aR, aF, aO, aW, aC, aI, aP, aM, aK, aE, aH, aS) (nI x) := by
  refine br_f (nI_pos (by omega)) (br_f (by rw [eo]; exact nI_ge hx (by omega)) ⟨vp_in_nI (by omega) (by omega), br_f ?_ K⟩)
  rw [cy_cl (by omega), hL x (by omega)]
  exact fun t => cy_gi0.mp t h
end
section
variable {oL yW rL wL uA uC uT uN : Int32} {bL bA bT aF aO bW bK bS bD : Nat → Int32} {post : Int32 → Prop} {v : Int32}
theorem cw_rootF (h : v < 0 ∨ rL ≤ v) (K : post 0) : wpY_isRoot post (oL, yW, rL, wL, uA, uC, uT, uN, bL, bA, bT, aF, aO, bW, bK, bS, bD) v := br_c (fun _ => K) (fun z => br_t (h.resolve_left z) K)
theorem cw_rootT {R r : Nat} (hR : R ≤ 8) (er : rL = nI R) (hr : r < R) (K : post 1) : wpY_isRoot post (oL, yW, rL, wL, uA, uC, uT, uN, bL, bA, bT, aF, aO, bW, bK, bS, bD) (nI r) := br_f (nI_pos (by omega)) (br_f (by rw [er]; exact nI_ge hr (by omega)) K)
theorem cw_weakF (h : v < 0 ∨ wL ≤ v) (K : post 0) : wpY_isWeak post (oL, yW, rL, wL, uA, uC, uT, uN, bL, bA, bT, aF, aO, bW, bK, bS, bD) v := br_c (fun _ => K) (fun z => br_t (h.resolve_left z) K)
theorem cw_weakT {R r : Nat} (hR : R ≤ 8) (er : wL = nI R) (hr : r < R) (K : post 1) : wpY_isWeak post (oL, yW, rL, wL, uA, uC, uT, uN, bL, bA, bT, aF, aO, bW, bK, bS, bD) (nI r) := br_f (nI_pos (by omega)) (br_f (by rw [er]; exact nI_ge hr (by omega)) K)
theorem cw_liveF {N : Nat} {L : Nat → Prop} (hN : N ≤ 32) (eo : oL = nI N) (hL : ∀ x, x < 32 → bL x = cy_gi (L x) 1) (h : ∀ x, L x → v ≠ nI x) (K : post 0) : wpY_isLive post (oL, yW, rL, wL, uA, uC, uT, uN, bL, bA, bT, aF, aO, bW, bK, bS, bD) v := by
  rcases cy_ix v (n := N) (by omega) with t | ⟨j, hj, e⟩
  · exact br_c (fun _ => K) (fun z => br_t (by rw [eo]; exact t.resolve_left z) K)
  · subst e
    refine br_f (nI_pos (by omega)) (br_f (by rw [eo]; exact nI_ge hj (by omega)) ⟨vp_in_nI (by omega) (by omega), br_t ?_ K⟩)
    rw [cy_cl (by omega), hL j (by omega)]
    exact cy_gi0.mpr (fun t => h j t rfl)
theorem cw_liveT {N x : Nat} {L : Nat → Prop} (hN : N ≤ 32) (eo : oL = nI N) (hL : ∀ x, x < 32 → bL x = cy_gi (L x) 1) (hx : x < N) (h : L x) (K : post 1) : wpY_isLive post (oL, yW, rL, wL, uA, uC, uT, uN, bL, bA, bT, aF, aO, bW, bK, bS, bD) (nI x) := by
  refine br_f (nI_pos (by omega)) (br_f (by rw [eo]; exact nI_ge hx (by omega)) ⟨vp_in_nI (by omega) (by omega), br_f ?_ K⟩)
  rw [cy_cl (by omega), hL x (by omega)]
  exact fun t => cy_gi0.mp t h
end
end
section
/-! Calls that only look -/
section
variable {oL yW rL wL uA uC uT uN : Int32} {bL bA bT aF aO bW bK bS bD : Nat → Int32}
theorem cw_fw {post : Int32 → Prop} {N W : Nat} {ar : Nat → Nat} {tg wk : Nat → Int32} {k2 : Int32} {L : Nat → Prop} (hN : N ≤ 32) (eo : oL = nI N) (hB : cw_B N W ar tg wk k2 L uT bL bA bT bW) (K : post (yW - cy_si (fun x => cy_gi (L x) (nI (ar x))) N)) :
    ∀ n i, N - i < n → i ≤ N → wY_freeWords_7 post oL yW rL wL uA uC uT uN bL bA bT aF aO bW bK bS bD n (yW - cy_si (fun x => cy_gi (L x) (nI (ar x))) i) (nI i) := by
  intro n
  induction n with
  | zero => intro i h; omega
  | succ n ih =>
    intro i h hi
    rcases Nat.lt_or_ge i N with z | z
    · have hin : vp_in (nI i) 32 := vp_in_nI (by omega) (by omega)
      have ecl := cy_cl (n := i) (by omega)
      refine br_f (by rw [eo]; exact nI_ge z (by omega)) ⟨hin, ?_⟩
      rw [ecl, hB.2.1 i (by omega)]
      have e := ih (i + 1) (by omega) (by omega)
      rw [cy_si_s] at e
      rcases Classical.em (L i) with hL | hL
      · refine br_f (fun t => cy_gi0.mp t hL) ⟨hin, ?_⟩
        rw [(hB.2.2.1 i hL).1]
        rw [cy_git hL] at e
        refine nm_r (e' := yW - (cy_si (fun x => cy_gi (L x) (nI (ar x))) i + nI (ar i))) (by grind) (nm_r (nI_1 i) e)
      · rw [cy_gif hL, Int32.add_zero] at e
        exact br_t (cy_gi0.mpr hL) (nm_r (nI_1 i) e)
    · have e : i = N := by omega
      subst e
      exact br_t (by rw [eo]; exact nI_le (by omega) (by omega)) K
theorem cw_words {post : Int32 → Prop} {N W : Nat} {ar : Nat → Nat} {tg wk : Nat → Int32} {k2 wd : Int32} {L : Nat → Prop} (hN : N ≤ 32) (eo : oL = nI N) (hB : cw_B N W ar tg wk k2 L uT bL bA bT bW) (hw : wd + cy_si (fun x => cy_gi (L x) (nI (ar x))) N = yW) (K : post wd) : wpY_freeWords post (oL, yW, rL, wL, uA, uC, uT, uN, bL, bA, bT, aF, aO, bW, bK, bS, bD) := by
  have e : wY_freeWords_7 post oL yW rL wL uA uC uT uN bL bA bT aF aO bW bK bS bD (N + 1) (yW - cy_si (fun x => cy_gi (L x) (nI (ar x))) 0) (nI 0) := cw_fw hN eo hB (by
    have : yW - cy_si (fun x => cy_gi (L x) (nI (ar x))) N = wd := by rw [← hw]; grind
    rw [this]; exact K) (N + 1) 0 (by omega) (by omega)
  have e0 : yW - cy_si (fun x => cy_gi (L x) (nI (ar x))) 0 = yW := Int32.sub_zero yW
  rw [e0] at e
  exact Exists.intro (N + 1) e
end
theorem cz_tt {N R W : Nat} {ar : Nat → Nat} {tg wk : Nat → Int32} {k2 : Int32} {L C : Nat → Prop} {nL wd cC tT yW uT : Int32} {aL aA aT aR aF aO aW aC aI aK bL bA bT bW : Nat → Int32} (h : cz_Q N R W ar tg wk k2 L C nL wd cC tT yW uT aL aA aT aR aF aO aW aC aI aK bL bA bT bW) : uT = tT := by
  have a := h.2.2.2.1.2.2.2.2.2.1
  have b := h.2.2.2.2.1.2.2.2.1
  grind
theorem i_vc_freeWords {k : Nat} {u : SX} {v : SY} (I : i_Rel k u v) (hk : k + 4 ≤ 2052) : wpX_freeWords (fun r => wpY_freeWords (fun r' => r' = r ∧ i_Rel (k + 4) u v) v) u := by
  refine cz_el (P := fun u v => wpX_freeWords (fun r => wpY_freeWords (fun r' => r' = r ∧ i_Rel (k + 4) u v) v) u) I ?_
  intro N R W ar tg wk k2 L C nL wd cC zH sC tS tC tT tF yW uT aL aA aT aR aF aO aW aC aI aP aM aK aE aH aS bL bA bT bW bK bS bD hQ
  have hI := cz_in (k := k + 4) (zH := zH) (sC := sC) (tS := tS) (tC := tC) (tF := tF) (aP := aP) (aM := aM) (aE := aE) (aH := aH) (aS := aS) (bK := bK) (bS := bS) (bD := bD) hQ
  exact cw_words hQ.1.1 rfl hQ.2.2.2.2.1 hQ.2.2.2.1.2.2.2.2.1 ⟨rfl, hI⟩
theorem i_vc_freedAtOnce {k : Nat} {u : SX} {v : SY} (I : i_Rel k u v) (hk : k + 4 ≤ 2052) : wpX_freedAtOnce (fun r => wpY_freedAtOnce (fun r' => r' = r ∧ i_Rel (k + 4) u v) v) u := by
  refine cz_el (P := fun u v => wpX_freedAtOnce (fun r => wpY_freedAtOnce (fun r' => r' = r ∧ i_Rel (k + 4) u v) v) u) I ?_
  intro N R W ar tg wk k2 L C nL wd cC zH sC tS tC tT tF yW uT aL aA aT aR aF aO aW aC aI aP aM aK aE aH aS bL bA bT bW bK bS bD hQ
  exact ⟨rfl, cz_in hQ⟩
theorem i_vc_freedByCollection {k : Nat} {u : SX} {v : SY} (I : i_Rel k u v) (hk : k + 4 ≤ 2052) : wpX_freedByCollection (fun r => wpY_freedByCollection (fun r' => r' = r ∧ i_Rel (k + 4) u v) v) u := by
  refine cz_el (P := fun u v => wpX_freedByCollection (fun r => wpY_freedByCollection (fun r' => r' = r ∧ i_Rel (k + 4) u v) v) u) I ?_
  intro N R W ar tg wk k2 L C nL wd cC zH sC tS tC tT tF yW uT aL aA aT aR aF aO aW aC aI aP aM aK aE aH aS bL bA bT bW bK bS bD hQ
  exact ⟨rfl, cz_in hQ⟩
theorem i_vc_freedTags {k : Nat} {u : SX} {v : SY} (I : i_Rel k u v) (hk : k + 4 ≤ 2052) : wpX_freedTags (fun r => wpY_freedTags (fun r' => r' = r ∧ i_Rel (k + 4) u v) v) u := by
  refine cz_el (P := fun u v => wpX_freedTags (fun r => wpY_freedTags (fun r' => r' = r ∧ i_Rel (k + 4) u v) v) u) I ?_
  intro N R W ar tg wk k2 L C nL wd cC zH sC tS tC tT tF yW uT aL aA aT aR aF aO aW aC aI aP aM aK aE aH aS bL bA bT bW bK bS bD hQ
  exact ⟨cz_tt hQ, cz_in hQ⟩
theorem i_vc_collections {k : Nat} {u : SX} {v : SY} (I : i_Rel k u v) (hk : k + 4 ≤ 2052) : wpX_collections (fun r => wpY_collections (fun r' => r' = r ∧ i_Rel (k + 4) u v) v) u := by
  refine cz_el (P := fun u v => wpX_collections (fun r => wpY_collections (fun r' => r' = r ∧ i_Rel (k + 4) u v) v) u) I ?_
  intro N R W ar tg wk k2 L C nL wd cC zH sC tS tC tT tF yW uT aL aA aT aR aF aO aW aC aI aP aM aK aE aH aS bL bA bT bW bK bS bD hQ
  exact ⟨rfl, cz_in hQ⟩
theorem i_vc_root {k : Nat} {u : SX} {v : SY} (I : i_Rel k u v) (hk : k + 4 ≤ 2052) (v1 : Int32) : wpX_root (fun r => wpY_root (fun r' => r' = r ∧ i_Rel (k + 4) u v) v v1) u v1 := by
  refine cz_el (P := fun u v => wpX_root (fun r => wpY_root (fun r' => r' = r ∧ i_Rel (k + 4) u v) v v1) u v1) I ?_
  intro N R W ar tg wk k2 L C nL wd cC zH sC tS tC tT tF yW uT aL aA aT aR aF aO aW aC aI aP aM aK aE aH aS bL bA bT bW bK bS bD hQ
  have hR := hQ.1.2.1
  unfold wpX_root wpY_root
  rcases cy_ix v1 (n := R) (by omega) with t | ⟨r, hr, e⟩
  · exact cx_rootF t (br_t rfl (cw_rootF t (br_t rfl ⟨rfl, cz_in hQ⟩)))
  · subst e
    have hin : vp_in (nI r) 8 := vp_in_nI (by omega) (by omega)
    exact cx_rootT hR rfl hr (br_f (by decide) ⟨hin, cw_rootT hR rfl hr (br_f (by decide) ⟨hin, rfl, cz_in hQ⟩)⟩)
theorem i_vc_weak {k : Nat} {u : SX} {v : SY} (I : i_Rel k u v) (hk : k + 4 ≤ 2052) (v1 : Int32) : wpX_weak (fun r => wpY_weak (fun r' => r' = r ∧ i_Rel (k + 4) u v) v v1) u v1 := by
  refine cz_el (P := fun u v => wpX_weak (fun r => wpY_weak (fun r' => r' = r ∧ i_Rel (k + 4) u v) v v1) u v1) I ?_
  intro N R W ar tg wk k2 L C nL wd cC zH sC tS tC tT tF yW uT aL aA aT aR aF aO aW aC aI aP aM aK aE aH aS bL bA bT bW bK bS bD hQ
  have hW := hQ.1.2.2
  unfold wpX_weak wpY_weak
  rcases cy_ix v1 (n := W) (by omega) with t | ⟨r, hr, e⟩
  · exact cx_weakF t (br_t rfl (cw_weakF t (br_t rfl ⟨rfl, cz_in hQ⟩)))
  · subst e
    have hin : vp_in (nI r) 8 := vp_in_nI (by omega) (by omega)
    refine cx_weakT hW rfl hr (br_f (by decide) ⟨hin, cw_weakT hW rfl hr (br_f (by decide) ⟨hin, ?_, cz_in hQ⟩)⟩)
    rw [cy_cl (by omega), hQ.2.2.2.1.2.2.2.2.2.2 r hr, hQ.2.2.2.2.1.2.2.2.2 r hr]
theorem i_vc_arity {k : Nat} {u : SX} {v : SY} (I : i_Rel k u v) (hk : k + 4 ≤ 2052) (v1 : Int32) : wpX_arity (fun r => wpY_arity (fun r' => r' = r ∧ i_Rel (k + 4) u v) v v1) u v1 := by
  refine cz_el (P := fun u v => wpX_arity (fun r => wpY_arity (fun r' => r' = r ∧ i_Rel (k + 4) u v) v v1) u v1) I ?_
  intro N R W ar tg wk k2 L C nL wd cC zH sC tS tC tT tF yW uT aL aA aT aR aF aO aW aC aI aP aM aK aE aH aS bL bA bT bW bK bS bD hQ
  have hQ' := hQ
  obtain ⟨⟨hN, hR, hW⟩, hK, hS, hB, hB', hC', hCL, hwk⟩ := hQ'
  unfold wpX_arity wpY_arity
  rcases Classical.em (∃ x, L x ∧ v1 = nI x) with ⟨x, hx, e⟩ | z
  · subst e
    have hxN := hB.1 x hx
    have hin : vp_in (nI x) 32 := vp_in_nI (by omega) (by omega)
    refine cx_liveT hN rfl hB.2.1 hxN hx (br_f (by decide) ⟨hin, cw_liveT hN rfl hB'.2.1 hxN hx (br_f (by decide) ⟨hin, ?_, cz_in hQ⟩)⟩)
    rw [cy_cl (by omega), (hB.2.2.1 x hx).1, (hB'.2.2.1 x hx).1]
  · have hz : ∀ x, L x → v1 ≠ nI x := fun x hx e => z ⟨x, hx, e⟩
    exact cx_liveF hN rfl hB.2.1 hz (br_t rfl (cw_liveF hN rfl hB'.2.1 hz (br_t rfl ⟨rfl, cz_in hQ⟩)))
theorem i_vc_tag {k : Nat} {u : SX} {v : SY} (I : i_Rel k u v) (hk : k + 4 ≤ 2052) (v1 : Int32) : wpX_tag (fun r => wpY_tag (fun r' => r' = r ∧ i_Rel (k + 4) u v) v v1) u v1 := by
  refine cz_el (P := fun u v => wpX_tag (fun r => wpY_tag (fun r' => r' = r ∧ i_Rel (k + 4) u v) v v1) u v1) I ?_
  intro N R W ar tg wk k2 L C nL wd cC zH sC tS tC tT tF yW uT aL aA aT aR aF aO aW aC aI aP aM aK aE aH aS bL bA bT bW bK bS bD hQ
  have hQ' := hQ
  obtain ⟨⟨hN, hR, hW⟩, hK, hS, hB, hB', hC', hCL, hwk⟩ := hQ'
  unfold wpX_tag wpY_tag
  rcases Classical.em (∃ x, L x ∧ v1 = nI x) with ⟨x, hx, e⟩ | z
  · subst e
    have hxN := hB.1 x hx
    have hin : vp_in (nI x) 32 := vp_in_nI (by omega) (by omega)
    refine cx_liveT hN rfl hB.2.1 hxN hx (br_f (by decide) ⟨hin, cw_liveT hN rfl hB'.2.1 hxN hx (br_f (by decide) ⟨hin, ?_, cz_in hQ⟩)⟩)
    rw [cy_cl (by omega), (hB.2.2.1 x hx).2, (hB'.2.2.1 x hx).2]
  · have hz : ∀ x, L x → v1 ≠ nI x := fun x hx e => z ⟨x, hx, e⟩
    exact cx_liveF hN rfl hB.2.1 hz (br_t rfl (cw_liveF hN rfl hB'.2.1 hz (br_t rfl ⟨rfl, cz_in hQ⟩)))
theorem i_vc_count {k : Nat} {u : SX} {v : SY} (I : i_Rel k u v) (hk : k + 4 ≤ 2052) (v1 : Int32) : wpX_count (fun r => wpY_count (fun r' => r' = r ∧ i_Rel (k + 4) u v) v v1) u v1 := by
  refine cz_el (P := fun u v => wpX_count (fun r => wpY_count (fun r' => r' = r ∧ i_Rel (k + 4) u v) v v1) u v1) I ?_
  intro N R W ar tg wk k2 L C nL wd cC zH sC tS tC tT tF yW uT aL aA aT aR aF aO aW aC aI aP aM aK aE aH aS bL bA bT bW bK bS bD hQ
  have hQ' := hQ
  obtain ⟨⟨hN, hR, hW⟩, hK, hS, hB, hB', hC', hCL, hwk⟩ := hQ'
  unfold wpX_count wpY_count
  rcases Classical.em (∃ x, L x ∧ v1 = nI x) with ⟨x, hx, e⟩ | z
  · subst e
    have hxN := hB.1 x hx
    have hin : vp_in (nI x) 32 := vp_in_nI (by omega) (by omega)
    refine cx_liveT hN rfl hB.2.1 hxN hx (br_f (by decide) ⟨hin, cw_liveT hN rfl hB'.2.1 hxN hx (br_f (by decide) ?_)⟩)
    refine cw_ref hN hR rfl rfl hS.1 hB' (by omega) ⟨?_, cz_in hQ⟩
    rw [cy_cl (by omega)]
    exact (hS.2.2.2.1 x hx).symm
  · have hz : ∀ x, L x → v1 ≠ nI x := fun x hx e => z ⟨x, hx, e⟩
    exact cx_liveF hN rfl hB.2.1 hz (br_t rfl (cw_liveF hN rfl hB'.2.1 hz (br_t rfl ⟨rfl, cz_in hQ⟩)))
theorem i_vc_field {k : Nat} {u : SX} {v : SY} (I : i_Rel k u v) (hk : k + 4 ≤ 2052) (v1 : Int32) (v2 : Int32) : wpX_field (fun r => wpY_field (fun r' => r' = r ∧ i_Rel (k + 4) u v) v v1 v2) u v1 v2 := by
  refine cz_el (P := fun u v => wpX_field (fun r => wpY_field (fun r' => r' = r ∧ i_Rel (k + 4) u v) v v1 v2) u v1 v2) I ?_
  intro N R W ar tg wk k2 L C nL wd cC zH sC tS tC tT tF yW uT aL aA aT aR aF aO aW aC aI aP aM aK aE aH aS bL bA bT bW bK bS bD hQ
  have hQ' := hQ
  obtain ⟨⟨hN, hR, hW⟩, hK, hS, hB, hB', hC', hCL, hwk⟩ := hQ'
  unfold wpX_field wpY_field
  rcases Classical.em (∃ x, L x ∧ v1 = nI x) with ⟨x, hx, e⟩ | z
  · subst e
    have hxN := hB.1 x hx
    have h4 := (hS.1 x hx).2.1
    have hin : vp_in (nI x) 32 := vp_in_nI (by omega) (by omega)
    have ecl := cy_cl (n := x) (by omega)
    have eA := (hB.2.2.1 x hx).1
    have eA' := (hB'.2.2.1 x hx).1
    rcases cy_ix v2 (n := ar x) (by omega) with t | ⟨j, hj, e⟩
    · rcases Classical.em (v2 < 0) with q | q
      · exact cx_liveT hN rfl hB.2.1 hxN hx (br_f (by decide) (br_t q (cw_liveT hN rfl hB'.2.1 hxN hx (br_f (by decide) (br_t q ⟨rfl, cz_in hQ⟩)))))
      · have q' : ¬ v2 < nI (ar x) := Int32.not_lt.mpr (t.resolve_left q)
        refine cx_liveT hN rfl hB.2.1 hxN hx (br_f (by decide) (br_f q ⟨hin, br_f ?_ (cw_liveT hN rfl hB'.2.1 hxN hx (br_f (by decide) (br_f q ⟨hin, br_f ?_ ⟨rfl, cz_in hQ⟩⟩)))⟩))
        · rw [ecl, eA]; exact q'
        · rw [ecl, eA']; exact q'
    · subst e
      have q : ¬ nI j < 0 := nI_pos (by omega)
      have q' : nI j < nI (ar x) := nI_lt hj (by omega)
      obtain ⟨hi, ea⟩ := cy_at' (d := x) (k := j) (by omega) (by omega)
      refine cx_liveT hN rfl hB.2.1 hxN hx (br_f (by decide) (br_f q ⟨hin, br_t ?_ ⟨hi, cw_liveT hN rfl hB'.2.1 hxN hx (br_f (by decide) (br_f q ⟨hin, br_t ?_ ⟨hi, rfl, cz_in hQ⟩⟩))⟩⟩))
      · rw [ecl, eA]; exact q'
      · rw [ecl, eA']; exact q'
  · have hz : ∀ x, L x → v1 ≠ nI x := fun x hx e => z ⟨x, hx, e⟩
    exact cx_liveF hN rfl hB.2.1 hz (br_t rfl (cw_liveF hN rfl hB'.2.1 hz (br_t rfl ⟨rfl, cz_in hQ⟩)))
end
section
/-! Calls that write: copyRoot, clearRoot, load, store, swap, makeWeak, loadWeak -/
section
variable {F : Nat → Int32} {ar : Nat → Nat} {O : Nat → Int32} {R N : Nat} {L C : Nat → Prop} {rf : Nat → Int32}
theorem cx_S_ct (hS : cx_S F ar O R N L (fun _ => 0) (fun _ => False) C rf) : ∀ x, L x → rf x = nI (cy_ct F ar O R N L x) := fun x hx => hS.2.2.2.1 x hx
theorem cx_S_ps (hS : cx_S F ar O R N L (fun _ => 0) (fun _ => False) C rf) : ∀ x, L x → cy_ct F ar O R N L x ≠ 0 := fun x hx q => (hS.2.2.2.2.1 x).mpr ⟨hx, q⟩
theorem cx_S_rc (hS : cx_S F ar O R N L (fun _ => 0) (fun _ => False) C rf) : ∀ x, L x → cy_rc (cy_ed F ar L) (fun a => cy_rt O R a ≠ 0 ∨ C a) x := fun x hx => cy_rc_m (hS.2.2.2.2.2 x hx) (fun a ha => cy_rc_0 (by
  rcases ha with t | t | t | t
  · exact Or.inl t
  · exact Or.inr t
  · exact t.elim
  · exact absurd rfl t))
theorem cx_S_gs (hS : cx_S F ar O R N L (fun _ => 0) (fun _ => False) C rf) : cy_gs F ar O R N L L := ⟨fun _ h => h, cx_S_ps hS, fun _ _ h => h⟩
theorem cx_S_swap {o k s : Nat} (hk : k < ar o) (ho : L o) (hs : s < R) (hS : cx_S F ar O R N L (fun _ => 0) (fun _ => False) C rf) : cx_S (upd F (4 * o + k) (O s)) ar (upd O s (F (4 * o + k))) R N L (fun _ => 0) (fun _ => False) (fun x => C x ∨ cy_is (O s) x) rf := by
  have hps := cx_S_ps hS
  have hrc := cx_S_rc hS
  obtain ⟨h1, h2, h3, h4, h5, h6⟩ := hS
  have hko := (h1 o ho).2.1
  have hb := (h1 o ho).2.2 k hk
  have ha := h2 s hs
  have up1 : ∀ x, cy_rt (upd O s (F (4 * o + k))) R x + cy_b (cy_is (O s) x) = cy_rt O R x + cy_b (cy_is (F (4 * o + k)) x) := fun x => cy_rt_up hs x
  have up2 : ∀ x, cy_ins (upd F (4 * o + k) (O s)) ar N L x + cy_b (cy_is (F (4 * o + k)) x) = cy_ins F ar N L x + cy_b (cy_is (O s) x) := fun x => cy_ins_up hk ho h1 x
  have ec : ∀ x, cy_ct (upd F (4 * o + k) (O s)) ar (upd O s (F (4 * o + k))) R N L x = cy_ct F ar O R N L x := fun x => by
    have a := up1 x
    have b := up2 x
    show cy_rt (upd O s (F (4 * o + k))) R x + cy_ins (upd F (4 * o + k) (O s)) ar N L x = cy_rt O R x + cy_ins F ar N L x
    omega
  refine ⟨cy_ok_up (by omega) h1 ha, fun j hj => ?_, fun x hx => absurd rfl hx, fun x hx => ?_, fun x => ⟨False.elim, fun z => ?_⟩, fun x hx => ?_⟩
  · rcases Nat.decEq j s with z | z
    · rw [cy_un z]; exact h2 j hj
    · rw [z, cy_us]; exact hb
  · rw [ec x]; exact h4 x hx
  · rw [ec x] at z
    exact hps x z.1 z.2
  · refine hrc x hx (cy_rc (cy_ed (upd F (4 * o + k) (O s)) ar L) _) (fun a ha => cy_rc_0 ?_) (fun a b s' e => ?_)
    · rcases ha with y | y
      · have e := up1 a
        rcases Nat.eq_zero_or_pos (cy_rt (upd O s (F (4 * o + k))) R a) with q | q
        · refine Or.inr (Or.inl (Or.inr (cy_bn ?_)))
          omega
        · exact Or.inl (by omega)
      · exact Or.inr (Or.inl (Or.inl y))
    · rcases Nat.decEq a o with z | z
      · refine cy_rc_s s' ⟨e.1, ?_⟩
        rw [cy_rw_ne (h1 a e.1).2.1 (by omega) z]; exact e.2
      · subst z
        have q2 := cy_rw_up (F := F) (v := O s) hk b
        have q3 := e.2
        rcases Nat.eq_zero_or_pos (cy_rw (upd F (4 * a + k) (O s)) ar a b) with q | q
        · refine cy_rc_0 (Or.inl (cy_rt_nz hs ?_))
          rw [cy_us]
          exact cy_bn (by omega)
        · exact cy_rc_s s' ⟨e.1, by omega⟩
end
section
variable {oL rL wL nL wd cC pC mC zH sC tS tC tT tF : Int32} {aL aA aT aR aF aO aW aC aI aP aM aK aE aH aS : Nat → Int32} {post : Int32 → Prop} {v : Int32}
theorem cx_rootN (h : ¬ (v < 0 ∨ rL ≤ v)) (K : post 1) : wpX_isRoot post (oL, rL, wL, nL, wd, cC, pC, mC, zH, sC, tS, tC, tT, tF, aL, aA, aT, aR, aF, aO, aW, aC, aI, aP, aM, aK, aE, aH, aS) v := br_f (fun z => h (Or.inl z)) (br_f (fun z => h (Or.inr z)) K)
theorem cx_caF {a b c d : Int32} (h : (a < 0 ∨ rL ≤ a) ∨ (b < 0 ∨ rL ≤ b)) (K : post (-3)) : wpX_checkAccess post (oL, rL, wL, nL, wd, cC, pC, mC, zH, sC, tS, tC, tT, tF, aL, aA, aT, aR, aF, aO, aW, aC, aI, aP, aM, aK, aE, aH, aS) a b c d := by
  unfold wpX_checkAccess
  rcases Classical.em (a < 0 ∨ rL ≤ a) with t | t
  · exact cx_rootF t (br_t rfl K)
  · exact cx_rootN t (br_f (by decide) (cx_rootF (h.resolve_left t) (br_t rfl K)))
theorem cx_caE {R a b c : Nat} {d : Int32} (hR : R ≤ 8) (er : rL = nI R) (ha : a < R) (hb : b < R) (hc : c < R) (e : aO c = -1) (K : post (-4)) : wpX_checkAccess post (oL, rL, wL, nL, wd, cC, pC, mC, zH, sC, tS, tC, tT, tF, aL, aA, aT, aR, aF, aO, aW, aC, aI, aP, aM, aK, aE, aH, aS) (nI a) (nI b) (nI c) d := by
  unfold wpX_checkAccess
  refine cx_rootT hR er ha (br_f (by decide) (cx_rootT hR er hb (br_f (by decide) ⟨vp_in_nI (by omega) (by omega), fun x5 e5 => ?_⟩)))
  rw [cy_cl (by omega), e] at e5
  subst e5
  exact br_f (by decide) K
theorem cx_caB {R a b c o q : Nat} {d : Int32} (hR : R ≤ 8) (er : rL = nI R) (ha : a < R) (hb : b < R) (hc : c < R) (e : aO c = nI o) (ho : o < 32) (eA : aA o = nI q) (hd : d < 0 ∨ nI q ≤ d) (K : post (-3)) : wpX_checkAccess post (oL, rL, wL, nL, wd, cC, pC, mC, zH, sC, tS, tC, tT, tF, aL, aA, aT, aR, aF, aO, aW, aC, aI, aP, aM, aK, aE, aH, aS) (nI a) (nI b) (nI c) d := by
  unfold wpX_checkAccess
  refine cx_rootT hR er ha (br_f (by decide) (cx_rootT hR er hb (br_f (by decide) ⟨vp_in_nI (by omega) (by omega), fun x5 e5 => ?_⟩)))
  rw [cy_cl (by omega), e] at e5
  subst e5
  refine br_t (nI_pos' (by omega)) (br_c (fun _ => K) (fun z => ⟨vp_in_nI ho (by omega), br_f ?_ K⟩))
  rw [cy_cl (by omega), eA]
  exact Int32.not_lt.mpr (hd.resolve_left z)
theorem cx_caT {R a b c o q j : Nat} (hR : R ≤ 8) (er : rL = nI R) (ha : a < R) (hb : b < R) (hc : c < R) (e : aO c = nI o) (ho : o < 32) (eA : aA o = nI q) (hq : q ≤ 4) (hj : j < q) (K : post 0) : wpX_checkAccess post (oL, rL, wL, nL, wd, cC, pC, mC, zH, sC, tS, tC, tT, tF, aL, aA, aT, aR, aF, aO, aW, aC, aI, aP, aM, aK, aE, aH, aS) (nI a) (nI b) (nI c) (nI j) := by
  unfold wpX_checkAccess
  refine cx_rootT hR er ha (br_f (by decide) (cx_rootT hR er hb (br_f (by decide) ⟨vp_in_nI (by omega) (by omega), fun x5 e5 => ?_⟩)))
  rw [cy_cl (by omega), e] at e5
  subst e5
  refine br_t (nI_pos' (by omega)) (br_f (nI_pos (by omega)) ⟨vp_in_nI ho (by omega), br_t ?_ K⟩)
  rw [cy_cl (by omega), eA]
  exact nI_lt hj (by omega)
end
section
variable {oL yW rL wL uA uC uT uN : Int32} {bL bA bT aF aO bW bK bS bD : Nat → Int32} {post : Int32 → Prop} {v : Int32}
theorem cw_rootN (h : ¬ (v < 0 ∨ rL ≤ v)) (K : post 1) : wpY_isRoot post (oL, yW, rL, wL, uA, uC, uT, uN, bL, bA, bT, aF, aO, bW, bK, bS, bD) v := br_f (fun z => h (Or.inl z)) (br_f (fun z => h (Or.inr z)) K)
theorem cw_tfF {a b d : Int32} (h : (a < 0 ∨ rL ≤ a) ∨ (b < 0 ∨ rL ≤ b)) (K : post (-3)) : wpY_testField post (oL, yW, rL, wL, uA, uC, uT, uN, bL, bA, bT, aF, aO, bW, bK, bS, bD) a b d := by
  unfold wpY_testField
  rcases Classical.em (a < 0 ∨ rL ≤ a) with t | t
  · exact cw_rootF t (br_t rfl K)
  · exact cw_rootN t (br_f (by decide) (cw_rootF (h.resolve_left t) (br_t rfl K)))
theorem cw_tfE {R a b : Nat} {d : Int32} (hR : R ≤ 8) (er : rL = nI R) (ha : a < R) (hb : b < R) (e : aO a = -1) (K : post (-4)) : wpY_testField post (oL, yW, rL, wL, uA, uC, uT, uN, bL, bA, bT, aF, aO, bW, bK, bS, bD) (nI a) (nI b) d := by
  unfold wpY_testField
  refine cw_rootT hR er ha (br_f (by decide) (cw_rootT hR er hb (br_f (by decide) ⟨vp_in_nI (by omega) (by omega), fun x5 e5 => ?_⟩)))
  rw [cy_cl (by omega), e] at e5
  subst e5
  exact br_f (by decide) K
theorem cw_tfB {R a b o q : Nat} {d : Int32} (hR : R ≤ 8) (er : rL = nI R) (ha : a < R) (hb : b < R) (e : aO a = nI o) (ho : o < 32) (eA : bA o = nI q) (hd : d < 0 ∨ nI q ≤ d) (K : post (-3)) : wpY_testField post (oL, yW, rL, wL, uA, uC, uT, uN, bL, bA, bT, aF, aO, bW, bK, bS, bD) (nI a) (nI b) d := by
  unfold wpY_testField
  refine cw_rootT hR er ha (br_f (by decide) (cw_rootT hR er hb (br_f (by decide) ⟨vp_in_nI (by omega) (by omega), fun x5 e5 => ?_⟩)))
  rw [cy_cl (by omega), e] at e5
  subst e5
  refine br_t (nI_pos' (by omega)) (br_c (fun _ => K) (fun z => ⟨vp_in_nI ho (by omega), br_f ?_ K⟩))
  rw [cy_cl (by omega), eA]
  exact Int32.not_lt.mpr (hd.resolve_left z)
theorem cw_tfT {R a b o q j : Nat} (hR : R ≤ 8) (er : rL = nI R) (ha : a < R) (hb : b < R) (e : aO a = nI o) (ho : o < 32) (eA : bA o = nI q) (hq : q ≤ 4) (hj : j < q) (K : post 0) : wpY_testField post (oL, yW, rL, wL, uA, uC, uT, uN, bL, bA, bT, aF, aO, bW, bK, bS, bD) (nI a) (nI b) (nI j) := by
  unfold wpY_testField
  refine cw_rootT hR er ha (br_f (by decide) (cw_rootT hR er hb (br_f (by decide) ⟨vp_in_nI (by omega) (by omega), fun x5 e5 => ?_⟩)))
  rw [cy_cl (by omega), e] at e5
  subst e5
  refine br_t (nI_pos' (by omega)) (br_f (nI_pos (by omega)) ⟨vp_in_nI ho (by omega), br_t ?_ K⟩)
  rw [cy_cl (by omega), eA]
  exact nI_lt hj (by omega)
end
section
variable {N R W : Nat} {ar : Nat → Nat} {tg wk : Nat → Int32} {k2 : Int32} {L C : Nat → Prop} {nL wd cC zH sC tS tC tT tF yW uT : Int32} {aL aA aT aR aF aO aW aC aI aP aM aK aE aH aS bL bA bT bW bK bS bD : Nat → Int32} {V' : Nat → Prop}
/-- the same state on X's side, a settling that frees nothing on Y's -/
theorem cz_conc0 {k f' : Nat} {uT' : Int32} {bL' bW' : Nat → Int32} (hQ : cz_Q N R W ar tg wk k2 L C nL wd cC tT yW uT aL aA aT aR aF aO aW aC aI aK bL bA bT bW) (gs' : cy_gs aF ar aO R N L V') (hf' : f' + cy_n V' N = cy_n L N) (hB' : cw_B N W ar tg wk k2 V' uT' bL' bA bT bW') :
    nI f' = 0 ∧ i_Rel k ((nI N), (nI R), (nI W), nL, wd, cC, 0, 0, zH, sC, tS, tC, tT, tF, aL, aA, aT, aR, aF, aO, aW, aC, aI, aP, aM, aK, aE, aH, aS) ((nI N), yW, (nI R), (nI W), (tS + nI f'), tC, uT', tF, bL', bA, bT, aF, aO, bW', bK, bS, bD) := by
  obtain ⟨⟨hN, hR, hW⟩, hK, hS, hB, _, hC', hCL, hwk⟩ := hQ
  have hV : ∀ x, L x ↔ V' x := cy_gs_u (cx_S_gs hS) gs'
  have e := cy_n_eq (P := L) (Q := V') (n := N) (fun x _ => hV x)
  have ef : f' = 0 := by omega
  subst ef
  rw [nI_0, Int32.add_zero]
  exact ⟨rfl, cz_in (cz_mk hN hR hW hK hwk hS hB hC' hCL hV hB')⟩
end
end
section
theorem i_vc_copyRoot {k : Nat} {u : SX} {v : SY} (I : i_Rel k u v) (hk : k + 4 ≤ 2052) (v1 : Int32) (v2 : Int32) : wpX_copyRoot (fun r u' => wpY_copyRoot (fun r' v' => r' = r ∧ i_Rel (k + 4) u' v') v v1 v2) u v1 v2 := by
  refine cz_el (P := fun u v => wpX_copyRoot (fun r u' => wpY_copyRoot (fun r' v' => r' = r ∧ i_Rel (k + 4) u' v') v v1 v2) u v1 v2) I ?_
  intro N R W ar tg wk k2 L C nL wd cC zH sC tS tC tT tF yW uT aL aA aT aR aF aO aW aC aI aP aM aK aE aH aS bL bA bT bW bK bS bD hQ
  have hQ' := hQ
  obtain ⟨⟨hN, hR, hW⟩, hK, hS, hB, hB', hC', hCL, hwk⟩ := hQ'
  unfold wpX_copyRoot
  rcases cy_ix v1 (n := R) (by omega) with t | ⟨r, hr, e⟩
  · refine cx_rootF t (br_t rfl ?_)
    unfold wpY_copyRoot
    exact cw_rootF t (br_t rfl ⟨rfl, cz_in hQ⟩)
  · subst e
    rcases cy_ix v2 (n := R) (by omega) with t | ⟨s, hs, e⟩
    · refine cx_rootT hR rfl hr (br_f (by decide) (cx_rootF t (br_t rfl ?_)))
      unfold wpY_copyRoot
      exact cw_rootT hR rfl hr (br_f (by decide) (cw_rootF t (br_t rfl ⟨rfl, cz_in hQ⟩)))
    · subst e
      have ecs := cy_cl (n := s) (by omega)
      have ecr := cy_cl (n := r) (by omega)
      have hir : vp_in (nI r) 8 := vp_in_nI (by omega) (by omega)
      have his : vp_in (nI s) 8 := vp_in_nI (by omega) (by omega)
      refine cx_rootT hR rfl hr (br_f (by decide) (cx_rootT hR rfl hs (br_f (by decide) ⟨his, ?_⟩)))
      rw [ecs]
      refine cx_write hN hR hW rfl hr hS.1 hS.2.1 (hS.2.1 s hs) (cx_S_ct hS) (fun x hx => Or.inl (cx_S_ps hS x hx)) (fun x hx => Or.inl (cx_S_rc hS x hx)) hB hC' hCL rfl ?_
      intro f V C2 nL' wd' cC' tT' aL' aA' aT' aR' aW' aC' aI' aP' gs hf hS2 hB2 hC2 hCV
      show wpY_copyRoot _ _ _ _
      unfold wpY_copyRoot
      refine cw_rootT hR rfl hr (br_f (by decide) (cw_rootT hR rfl hs (br_f (by decide) ⟨his, hir, fun aO' eO => ?_⟩)))
      simp only [ecs, ecr] at eO
      subst eO
      refine cw_settle hN hR hW rfl rfl rfl hS.1 hB' ?_
      intro f' V' uT' bL' bW' gs' hf' hB3
      exact cz_conc hN hR hW hK hwk (cy_gs_u gs gs') hf hS2 hB2 hC2 hCV hf' hB3
theorem i_vc_clearRoot {k : Nat} {u : SX} {v : SY} (I : i_Rel k u v) (hk : k + 4 ≤ 2052) (v1 : Int32) : wpX_clearRoot (fun r u' => wpY_clearRoot (fun r' v' => r' = r ∧ i_Rel (k + 4) u' v') v v1) u v1 := by
  refine cz_el (P := fun u v => wpX_clearRoot (fun r u' => wpY_clearRoot (fun r' v' => r' = r ∧ i_Rel (k + 4) u' v') v v1) u v1) I ?_
  intro N R W ar tg wk k2 L C nL wd cC zH sC tS tC tT tF yW uT aL aA aT aR aF aO aW aC aI aP aM aK aE aH aS bL bA bT bW bK bS bD hQ
  have hQ' := hQ
  obtain ⟨⟨hN, hR, hW⟩, hK, hS, hB, hB', hC', hCL, hwk⟩ := hQ'
  unfold wpX_clearRoot
  rcases cy_ix v1 (n := R) (by omega) with t | ⟨r, hr, e⟩
  · refine cx_rootF t (br_t rfl ?_)
    unfold wpY_clearRoot
    exact cw_rootF t (br_t rfl ⟨rfl, cz_in hQ⟩)
  · subst e
    have ecr := cy_cl (n := r) (by omega)
    have hir : vp_in (nI r) 8 := vp_in_nI (by omega) (by omega)
    refine cx_rootT hR rfl hr (br_f (by decide) ?_)
    refine cx_write hN hR hW rfl hr hS.1 hS.2.1 (Or.inl rfl) (cx_S_ct hS) (fun x hx => Or.inl (cx_S_ps hS x hx)) (fun x hx => Or.inl (cx_S_rc hS x hx)) hB hC' hCL rfl ?_
    intro f V C2 nL' wd' cC' tT' aL' aA' aT' aR' aW' aC' aI' aP' gs hf hS2 hB2 hC2 hCV
    show wpY_clearRoot _ _ _
    unfold wpY_clearRoot
    refine cw_rootT hR rfl hr (br_f (by decide) ⟨hir, fun aO' eO => ?_⟩)
    simp only [ecr] at eO
    subst eO
    refine cw_settle hN hR hW rfl rfl rfl hS.1 hB' ?_
    intro f' V' uT' bL' bW' gs' hf' hB3
    exact cz_conc hN hR hW hK hwk (cy_gs_u gs gs') hf hS2 hB2 hC2 hCV hf' hB3
theorem i_vc_load {k : Nat} {u : SX} {v : SY} (I : i_Rel k u v) (hk : k + 4 ≤ 2052) (v1 : Int32) (v2 : Int32) (v3 : Int32) : wpX_load (fun r u' => wpY_load (fun r' v' => r' = r ∧ i_Rel (k + 4) u' v') v v1 v2 v3) u v1 v2 v3 := by
  refine cz_el (P := fun u v => wpX_load (fun r u' => wpY_load (fun r' v' => r' = r ∧ i_Rel (k + 4) u' v') v v1 v2 v3) u v1 v2 v3) I ?_
  intro N R W ar tg wk k2 L C nL wd cC zH sC tS tC tT tF yW uT aL aA aT aR aF aO aW aC aI aP aM aK aE aH aS bL bA bT bW bK bS bD hQ
  have hQ' := hQ
  obtain ⟨⟨hN, hR, hW⟩, hK, hS, hB, hB', hC', hCL, hwk⟩ := hQ'
  unfold wpX_load
  rcases cy_ix v1 (n := R) (by omega) with t | ⟨r, hr, e⟩
  · refine cx_caF (Or.inl t) (br_f (by decide) ?_)
    unfold wpY_load
    exact cw_tfF (Or.inr t) (br_f (by decide) ⟨rfl, cz_in hQ⟩)
  · subst e
    rcases cy_ix v2 (n := R) (by omega) with t | ⟨s, hs, e⟩
    · refine cx_caF (Or.inr t) (br_f (by decide) ?_)
      unfold wpY_load
      exact cw_tfF (Or.inl t) (br_f (by decide) ⟨rfl, cz_in hQ⟩)
    · subst e
      have ecs := cy_cl (n := s) (by omega)
      have ecr := cy_cl (n := r) (by omega)
      have hir : vp_in (nI r) 8 := vp_in_nI (by omega) (by omega)
      have his : vp_in (nI s) 8 := vp_in_nI (by omega) (by omega)
      rcases hS.2.1 s hs with ev | ⟨o, hLo, ho, ev⟩
      · refine cx_caE hR rfl hr hs hs ev (br_f (by decide) ?_)
        unfold wpY_load
        exact cw_tfE hR rfl hs hr ev (br_f (by decide) ⟨rfl, cz_in hQ⟩)
      · have h4 := (hS.1 o hLo).2.1
        rcases cy_ix v3 (n := ar o) (by omega) with t | ⟨j, hj, e⟩
        · refine cx_caB hR rfl hr hs hs ev ho (hB.2.2.1 o hLo).1 t (br_f (by decide) ?_)
          unfold wpY_load
          exact cw_tfB hR rfl hs hr ev ho (hB'.2.2.1 o hLo).1 t (br_f (by decide) ⟨rfl, cz_in hQ⟩)
        · subst e
          obtain ⟨hij, eij⟩ := cy_at' (d := o) (k := j) ho (by omega)
          refine cx_caT hR rfl hr hs hs ev ho (hB.2.2.1 o hLo).1 h4 hj (br_t rfl ⟨his, ?_⟩)
          rw [ecs, ev]
          refine ⟨hij, nm_r (congrArg aF eij) ?_⟩
          refine cx_write hN hR hW rfl hr hS.1 hS.2.1 ((hS.1 o hLo).2.2 j hj) (cx_S_ct hS) (fun x hx => Or.inl (cx_S_ps hS x hx)) (fun x hx => Or.inl (cx_S_rc hS x hx)) hB hC' hCL rfl ?_
          intro f V C2 nL' wd' cC' tT' aL' aA' aT' aR' aW' aC' aI' aP' gs hf hS2 hB2 hC2 hCV
          show wpY_load _ _ _ _ _
          unfold wpY_load
          refine cw_tfT hR rfl hs hr ev ho (hB'.2.2.1 o hLo).1 h4 hj (br_t rfl ⟨his, fun x5 e5 => ?_⟩)
          rw [ecs, ev] at e5
          subst e5
          refine ⟨hij, hir, fun aO' eO => ?_⟩
          rw [eij, ecr] at eO
          subst eO
          refine cw_settle hN hR hW rfl rfl rfl hS.1 hB' ?_
          intro f' V' uT' bL' bW' gs' hf' hB3
          exact cz_conc hN hR hW hK hwk (cy_gs_u gs gs') hf hS2 hB2 hC2 hCV hf' hB3
end
section
theorem i_vc_store {k : Nat} {u : SX} {v : SY} (I : i_Rel k u v) (hk : k + 4 ≤ 2052) (v1 : Int32) (v2 : Int32) (v3 : Int32) : wpX_store (fun r u' => wpY_store (fun r' v' => r' = r ∧ i_Rel (k + 4) u' v') v v1 v2 v3) u v1 v2 v3 := by
  refine cz_el (P := fun u v => wpX_store (fun r u' => wpY_store (fun r' v' => r' = r ∧ i_Rel (k + 4) u' v') v v1 v2 v3) u v1 v2 v3) I ?_
  intro N R W ar tg wk k2 L C nL wd cC zH sC tS tC tT tF yW uT aL aA aT aR aF aO aW aC aI aP aM aK aE aH aS bL bA bT bW bK bS bD hQ
  have hQ' := hQ
  obtain ⟨⟨hN, hR, hW⟩, hK, hS, hB, hB', hC', hCL, hwk⟩ := hQ'
  unfold wpX_store
  rcases cy_ix v1 (n := R) (by omega) with t | ⟨r, hr, e⟩
  · refine cx_caF (Or.inl t) (br_f (by decide) ?_)
    unfold wpY_store
    exact cw_tfF (Or.inl t) (br_f (by decide) ⟨rfl, cz_in hQ⟩)
  · subst e
    rcases cy_ix v3 (n := R) (by omega) with t | ⟨s, hs, e⟩
    · refine cx_caF (Or.inr t) (br_f (by decide) ?_)
      unfold wpY_store
      exact cw_tfF (Or.inr t) (br_f (by decide) ⟨rfl, cz_in hQ⟩)
    · subst e
      have ecs := cy_cl (n := s) (by omega)
      have ecr := cy_cl (n := r) (by omega)
      have hir : vp_in (nI r) 8 := vp_in_nI (by omega) (by omega)
      have his : vp_in (nI s) 8 := vp_in_nI (by omega) (by omega)
      rcases hS.2.1 r hr with ev | ⟨o, hLo, ho, ev⟩
      · refine cx_caE hR rfl hr hs hr ev (br_f (by decide) ?_)
        unfold wpY_store
        exact cw_tfE hR rfl hr hs ev (br_f (by decide) ⟨rfl, cz_in hQ⟩)
      · have h4 := (hS.1 o hLo).2.1
        rcases cy_ix v2 (n := ar o) (by omega) with t | ⟨j, hj, e⟩
        · refine cx_caB hR rfl hr hs hr ev ho (hB.2.2.1 o hLo).1 t (br_f (by decide) ?_)
          unfold wpY_store
          exact cw_tfB hR rfl hr hs ev ho (hB'.2.2.1 o hLo).1 t (br_f (by decide) ⟨rfl, cz_in hQ⟩)
        · subst e
          obtain ⟨hij, eij⟩ := cy_at' (d := o) (k := j) ho (by omega)
          have hvs := hS.2.1 s hs
          refine cx_caT hR rfl hr hs hr ev ho (hB.2.2.1 o hLo).1 h4 hj (br_t rfl ⟨hir, fun x5 e5 => ⟨his, fun x6 e6 => ?_⟩⟩)
          rw [ecr, ev] at e5
          rw [ecs] at e6
          subst e5 e6
          refine ⟨hij, fun x7 e7 => ?_⟩
          rw [eij] at e7
          subst e7
          refine br_c (fun e => ?_) (fun e => ?_)
          · have eF : upd aF (4 * o + j) (aO s) = aF := funext fun i => by
              rcases Nat.decEq i (4 * o + j) with z | z
              · rw [cy_un z]
              · rw [z, cy_us, e]
            show wpY_store _ _ _ _ _
            unfold wpY_store
            refine cw_tfT hR rfl hr hs ev ho (hB'.2.2.1 o hLo).1 h4 hj (br_t rfl ⟨hir, fun x5 e5 => ?_⟩)
            rw [ecr, ev] at e5
            subst e5
            refine ⟨his, hij, fun aF' eF' => ?_⟩
            rw [eij, ecs, eF] at eF'
            subst eF'
            refine cw_settle hN hR hW rfl rfl rfl hS.1 hB' ?_
            intro f' V' uT' bL' bW' gs' hf' hB3
            exact cz_conc0 hQ gs' hf' hB3
          · refine cx_addR hvs (fun aR' eR => ⟨hij, fun aF' eF' => ?_⟩)
            rw [eij] at eF'
            subst eF'
            refine cx_dropSettle (post := fun r1 u' => wpY_store (fun r' v' => r' = r1 ∧ i_Rel (k + 4) u' v') ((nI N), yW, (nI R), (nI W), tS, tC, uT, tF, bL, bA, bT, aF, aO, bW, bK, bS, bD) (nI r) (nI j) (nI s)) hN hR hW rfl (cx_S_field hj hLo hS.1 hS.2.1 hvs (cx_S_ct hS) (cx_S_ps hS) (cx_S_rc hS) (fun x _ => eR x)) ((hS.1 o hLo).2.2 j hj) hB hC' hCL rfl ?_
            intro f V C2 nL' wd' cC' tT' aL' aA' aT' aR2 aW' aC' aI' aP' gs hf hS2 hB2 hC2 hCV
            show wpY_store _ _ _ _ _
            unfold wpY_store
            refine cw_tfT hR rfl hr hs ev ho (hB'.2.2.1 o hLo).1 h4 hj (br_t rfl ⟨hir, fun x5 e5 => ?_⟩)
            rw [ecr, ev] at e5
            subst e5
            refine ⟨his, hij, fun aF' eF' => ?_⟩
            rw [eij, ecs] at eF'
            subst eF'
            refine cw_settle hN hR hW rfl rfl rfl (cy_ok_up (by omega) hS.1 hvs) hB' ?_
            intro f' V' uT' bL' bW' gs' hf' hB3
            exact cz_conc hN hR hW hK hwk (cy_gs_u gs gs') hf hS2 hB2 hC2 hCV hf' hB3
theorem i_vc_swap {k : Nat} {u : SX} {v : SY} (I : i_Rel k u v) (hk : k + 4 ≤ 2052) (v1 : Int32) (v2 : Int32) (v3 : Int32) : wpX_swap (fun r u' => wpY_swap (fun r' v' => r' = r ∧ i_Rel (k + 4) u' v') v v1 v2 v3) u v1 v2 v3 := by
  refine cz_el (P := fun u v => wpX_swap (fun r u' => wpY_swap (fun r' v' => r' = r ∧ i_Rel (k + 4) u' v') v v1 v2 v3) u v1 v2 v3) I ?_
  intro N R W ar tg wk k2 L C nL wd cC zH sC tS tC tT tF yW uT aL aA aT aR aF aO aW aC aI aP aM aK aE aH aS bL bA bT bW bK bS bD hQ
  have hQ' := hQ
  obtain ⟨⟨hN, hR, hW⟩, hK, hS, hB, hB', hC', hCL, hwk⟩ := hQ'
  unfold wpX_swap
  rcases cy_ix v1 (n := R) (by omega) with t | ⟨r, hr, e⟩
  · refine cx_caF (Or.inl t) (br_f (by decide) ?_)
    unfold wpY_swap
    exact cw_tfF (Or.inl t) (br_f (by decide) ⟨rfl, cz_in hQ⟩)
  · subst e
    rcases cy_ix v3 (n := R) (by omega) with t | ⟨s, hs, e⟩
    · refine cx_caF (Or.inr t) (br_f (by decide) ?_)
      unfold wpY_swap
      exact cw_tfF (Or.inr t) (br_f (by decide) ⟨rfl, cz_in hQ⟩)
    · subst e
      have ecs := cy_cl (n := s) (by omega)
      have ecr := cy_cl (n := r) (by omega)
      have hir : vp_in (nI r) 8 := vp_in_nI (by omega) (by omega)
      have his : vp_in (nI s) 8 := vp_in_nI (by omega) (by omega)
      rcases hS.2.1 r hr with ev | ⟨o, hLo, ho, ev⟩
      · refine cx_caE hR rfl hr hs hr ev (br_f (by decide) ?_)
        unfold wpY_swap
        exact cw_tfE hR rfl hr hs ev (br_f (by decide) ⟨rfl, cz_in hQ⟩)
      · have h4 := (hS.1 o hLo).2.1
        rcases cy_ix v2 (n := ar o) (by omega) with t | ⟨j, hj, e⟩
        · refine cx_caB hR rfl hr hs hr ev ho (hB.2.2.1 o hLo).1 t (br_f (by decide) ?_)
          unfold wpY_swap
          exact cw_tfB hR rfl hr hs ev ho (hB'.2.2.1 o hLo).1 t (br_f (by decide) ⟨rfl, cz_in hQ⟩)
        · subst e
          obtain ⟨hij, eij⟩ := cy_at' (d := o) (k := j) ho (by omega)
          have hvs := hS.2.1 s hs
          have hS2 := cx_S_swap hj hLo hs hS
          have fin : ∀ cC' aC' aI', cx_C (fun x => C x ∨ cy_is (aO s) x) cC' aC' aI' → wpY_swap (fun r' v' => r' = 0 ∧ i_Rel (k + 4) ((nI N), (nI R), (nI W), nL, wd, cC', 0, 0, zH, sC, tS, tC, tT, tF, aL, aA, aT, aR, (upd aF (4 * o + j) (aO s)), (upd aO s (aF (4 * o + j))), aW, aC', aI', aP, aM, aK, aE, aH, aS) v') ((nI N), yW, (nI R), (nI W), tS, tC, uT, tF, bL, bA, bT, aF, aO, bW, bK, bS, bD) (nI r) (nI j) (nI s) := by
            intro cC' aC' aI' hC2
            unfold wpY_swap
            refine cw_tfT hR rfl hr hs ev ho (hB'.2.2.1 o hLo).1 h4 hj (br_t rfl ⟨hir, fun x5 e5 => ?_⟩)
            rw [ecr, ev] at e5
            subst e5
            refine ⟨his, fun x6 e6 => ⟨hij, fun x7 e7 => ⟨hij, fun aF' eF' => ⟨his, fun aO' eO' => ⟨rfl, ?_⟩⟩⟩⟩⟩
            rw [ecs] at e6 eO'
            rw [eij] at e7 eF'
            subst e6 e7 eF' eO'
            refine cz_in ⟨⟨hN, hR, hW⟩, hK, hS2, hB, hB', hC2, fun x hx => ?_, hwk⟩
            rcases hx with t | t
            · exact hCL x t
            · exact cy_vl_is hvs t
          refine cx_caT hR rfl hr hs hr ev ho (hB.2.2.1 o hLo).1 h4 hj (br_t rfl ⟨hir, fun x5 e5 => ⟨his, fun x6 e6 => ?_⟩⟩)
          rw [ecr, ev] at e5
          rw [ecs] at e6
          subst e5 e6
          refine ⟨hij, fun x7 e7 => ⟨hij, fun aF' eF' => ⟨his, fun aO' eO' => ?_⟩⟩⟩
          rw [eij] at e7 eF'
          rw [ecs] at eO'
          subst e7 eF' eO'
          rcases hvs with ea | ⟨c, hLc, hc, ea⟩
          · have e1 : (fun x => C x ∨ cy_is (aO s) x) = C := funext fun x => propext ⟨fun t => t.elim id (fun q => by rw [ea] at q; exact (cy_is_m1 q).elim), Or.inl⟩
            rw [e1] at fin
            rw [ea] at fin ⊢
            exact cx_addC1 (fin cC aC aI hC')
          · have e1 : (fun x => C x ∨ cy_is (aO s) x) = fun x => C x ∨ x = c := funext fun x => propext ⟨fun t => t.elim Or.inl (fun q => Or.inr (cy_is_u q ⟨hc, ea⟩)), fun t => t.elim Or.inl (fun q => Or.inr (by rw [q]; exact ⟨hc, ea⟩))⟩
            rw [e1] at fin
            rw [ea] at fin ⊢
            exact cx_addC hc hC' (fun cC' aC' aI' hC2 => fin cC' aC' aI' hC2)
theorem i_vc_makeWeak {k : Nat} {u : SX} {v : SY} (I : i_Rel k u v) (hk : k + 4 ≤ 2052) (v1 : Int32) (v2 : Int32) : wpX_makeWeak (fun r u' => wpY_makeWeak (fun r' v' => r' = r ∧ i_Rel (k + 4) u' v') v v1 v2) u v1 v2 := by
  refine cz_el (P := fun u v => wpX_makeWeak (fun r u' => wpY_makeWeak (fun r' v' => r' = r ∧ i_Rel (k + 4) u' v') v v1 v2) u v1 v2) I ?_
  intro N R W ar tg wk k2 L C nL wd cC zH sC tS tC tT tF yW uT aL aA aT aR aF aO aW aC aI aP aM aK aE aH aS bL bA bT bW bK bS bD hQ
  have hQ' := hQ
  obtain ⟨⟨hN, hR, hW⟩, hK, hS, hB, hB', hC', hCL, hwk⟩ := hQ'
  unfold wpX_makeWeak
  rcases cy_ix v1 (n := W) (by omega) with t | ⟨w, hw, e⟩
  · refine cx_weakF t (br_t rfl ?_)
    unfold wpY_makeWeak
    exact cw_weakF t (br_t rfl ⟨rfl, cz_in hQ⟩)
  · subst e
    rcases cy_ix v2 (n := R) (by omega) with t | ⟨s, hs, e⟩
    · refine cx_weakT hW rfl hw (br_f (by decide) (cx_rootF t (br_t rfl ?_)))
      unfold wpY_makeWeak
      exact cw_weakT hW rfl hw (br_f (by decide) (cw_rootF t (br_t rfl ⟨rfl, cz_in hQ⟩)))
    · subst e
      have ecs := cy_cl (n := s) (by omega)
      have ecw := cy_cl (n := w) (by omega)
      have hiw : vp_in (nI w) 8 := vp_in_nI (by omega) (by omega)
      have his : vp_in (nI s) 8 := vp_in_nI (by omega) (by omega)
      have hvs := hS.2.1 s hs
      have efz : cy_fz L (aO s) = aO s := cy_fz_f (fun x hx => cy_vl_is hvs hx)
      refine cx_weakT hW rfl hw (br_f (by decide) (cx_rootT hR rfl hs (br_f (by decide) ⟨his, hiw, fun aW' eW => ?_⟩)))
      rw [ecs, ecw] at eW
      subst eW
      unfold wpY_makeWeak
      refine cw_weakT hW rfl hw (br_f (by decide) (cw_rootT hR rfl hs (br_f (by decide) ⟨his, hiw, fun bW' eW => ⟨rfl, ?_⟩⟩)))
      rw [ecs, ecw] at eW
      subst eW
      refine cz_in (wk := upd wk w (aO s)) ⟨⟨hN, hR, hW⟩, hK, hS, ⟨hB.1, hB.2.1, hB.2.2.1, hB.2.2.2.1, hB.2.2.2.2.1, hB.2.2.2.2.2.1, fun i hi => ?_⟩, ⟨hB'.1, hB'.2.1, hB'.2.2.1, hB'.2.2.2.1, fun i hi => ?_⟩, hC', hCL, fun i hi => ?_⟩
      · rcases Nat.decEq i w with z | z
        · rw [cy_un z, cy_un z]; exact hB.2.2.2.2.2.2 i hi
        · rw [z, cy_us, cy_us, efz]
      · rcases Nat.decEq i w with z | z
        · rw [cy_un z, cy_un z]; exact hB'.2.2.2.2 i hi
        · rw [z, cy_us, cy_us, efz]
      · rcases Nat.decEq i w with z | z
        · rw [cy_un z]; exact hwk i hi
        · rw [z, cy_us]
          rcases hvs with t | t
          · exact Or.inl t
          · exact Or.inr (Or.inr t)
theorem i_vc_loadWeak {k : Nat} {u : SX} {v : SY} (I : i_Rel k u v) (hk : k + 4 ≤ 2052) (v1 : Int32) (v2 : Int32) : wpX_loadWeak (fun r u' => wpY_loadWeak (fun r' v' => r' = r ∧ i_Rel (k + 4) u' v') v v1 v2) u v1 v2 := by
  refine cz_el (P := fun u v => wpX_loadWeak (fun r u' => wpY_loadWeak (fun r' v' => r' = r ∧ i_Rel (k + 4) u' v') v v1 v2) u v1 v2) I ?_
  intro N R W ar tg wk k2 L C nL wd cC zH sC tS tC tT tF yW uT aL aA aT aR aF aO aW aC aI aP aM aK aE aH aS bL bA bT bW bK bS bD hQ
  have hQ' := hQ
  obtain ⟨⟨hN, hR, hW⟩, hK, hS, hB, hB', hC', hCL, hwk⟩ := hQ'
  unfold wpX_loadWeak
  rcases cy_ix v1 (n := R) (by omega) with t | ⟨r, hr, e⟩
  · refine cx_rootF t (br_t rfl ?_)
    unfold wpY_loadWeak
    exact cw_rootF t (br_t rfl ⟨rfl, cz_in hQ⟩)
  · subst e
    rcases cy_ix v2 (n := W) (by omega) with t | ⟨w, hw, e⟩
    · refine cx_rootT hR rfl hr (br_f (by decide) (cx_weakF t (br_t rfl ?_)))
      unfold wpY_loadWeak
      exact cw_rootT hR rfl hr (br_f (by decide) (cw_weakF t (br_t rfl ⟨rfl, cz_in hQ⟩)))
    · subst e
      have ecr := cy_cl (n := r) (by omega)
      have ecw := cy_cl (n := w) (by omega)
      have hiw : vp_in (nI w) 8 := vp_in_nI (by omega) (by omega)
      have hir : vp_in (nI r) 8 := vp_in_nI (by omega) (by omega)
      have eX : aW w = wk w := (hB.2.2.2.2.2.2 w hw).trans (cz_wk_id hwk hw)
      have eY : bW w = wk w := (hB'.2.2.2.2 w hw).trans (cz_wk_id hwk hw)
      refine cx_rootT hR rfl hr (br_f (by decide) (cx_weakT hW rfl hw (br_f (by decide) ⟨hiw, fun x3 e3 => ?_⟩)))
      rw [ecw, eX] at e3
      rcases hwk w hw with t | t | ⟨x, hx, h32, t⟩
      · rw [t] at e3 eY
        subst e3
        refine br_t rfl ?_
        unfold wpY_loadWeak
        refine cw_rootT hR rfl hr (br_f (by decide) (cw_weakT hW rfl hw (br_f (by decide) ⟨hiw, br_t ?_ ⟨rfl, cz_in hQ⟩⟩)))
        rw [ecw]; exact eY
      · rw [t] at e3 eY
        subst e3
        refine br_f (by decide) (br_t rfl ?_)
        unfold wpY_loadWeak
        refine cw_rootT hR rfl hr (br_f (by decide) (cw_weakT hW rfl hw (br_f (by decide) ⟨hiw, br_f ?_ ⟨hiw, br_t ?_ ⟨rfl, cz_in hQ⟩⟩⟩)))
        · rw [ecw, eY]; decide
        · rw [ecw]; exact eY
      · rw [t] at e3 eY
        subst e3
        refine br_f (cy_n1 h32) (br_f (cy_n2 h32) ?_)
        refine cx_write hN hR hW rfl hr hS.1 hS.2.1 (Or.inr ⟨x, hx, h32, rfl⟩) (cx_S_ct hS) (fun x hx => Or.inl (cx_S_ps hS x hx)) (fun x hx => Or.inl (cx_S_rc hS x hx)) hB hC' hCL rfl ?_
        intro f V C2 nL' wd' cC' tT' aL' aA' aT' aR' aW' aC' aI' aP' gs hf hS2 hB2 hC2 hCV
        show wpY_loadWeak _ _ _ _
        unfold wpY_loadWeak
        refine cw_rootT hR rfl hr (br_f (by decide) (cw_weakT hW rfl hw (br_f (by decide) ⟨hiw, br_f ?_ ⟨hiw, br_f ?_ ⟨hiw, hir, fun aO' eO => ?_⟩⟩⟩)))
        · rw [ecw, eY]; exact cy_n1 h32
        · rw [ecw, eY]; exact cy_n2 h32
        · rw [ecr, ecw, eY] at eO
          subst eO
          refine cw_settle hN hR hW rfl rfl rfl hS.1 hB' ?_
          intro f' V' uT' bL' bW' gs' hf' hB3
          exact cz_conc hN hR hW hK hwk (cy_gs_u gs gs') hf hS2 hB2 hC2 hCV hf' hB3
end
section
theorem i_vc_collect {k : Nat} {u : SX} {v : SY} (I : i_Rel k u v) (hk : k + 4 ≤ 2052) : wpX_collect (fun r u' => wpY_collect (fun r' v' => r' = r ∧ i_Rel (k + 4) u' v') v) u := by
  refine cz_el (P := fun u v => wpX_collect (fun r u' => wpY_collect (fun r' v' => r' = r ∧ i_Rel (k + 4) u' v') v) u) I ?_
  intro N R W ar tg wk k2 L C nL wd cC zH sC tS tC tT tF yW uT aL aA aT aR aF aO aW aC aI aP aM aK aE aH aS bL bA bT bW bK bS bD hQ
  obtain ⟨⟨hN, hR, hW⟩, hK, hS, hB, hB', hC', hCL, hwk⟩ := hQ
  unfold wpX_collect
  refine cx_full hN hR hW rfl hS hB hC' hCL rfl hK ?_
  intro f V nL' wd' tT' aL' aA' aT' aR' aW' aC' aI' aM' aK' aE' aH' aS' hV hf hS2 hB2 hC2 hK2
  show wpY_collect _ _
  unfold wpY_collect
  refine cw_full hN hR hW rfl rfl rfl hS.1 hS.2.1 hB' ?_
  intro f' V' uT' bL' bW' bK' bD' hV' hf' hB3
  have hVV : ∀ x, V x ↔ V' x := fun x => (hV x).trans (hV' x).symm
  have e := cy_n_eq (P := V) (Q := V') (n := N) (fun x _ => hVV x)
  have ef : f' = f := by omega
  subst ef
  exact ⟨rfl, cz_in (cz_mk hN hR hW hK2 hwk hS2 hB2 hC2 (fun x => False.elim) hVV hB3)⟩
/-- the first member of a trial from one object -/
theorem cx_first {oL rL wL nL wd cC pC mC zH sC tS tC tT tF : Int32} {aL aA aT aR aF aO aW aC aI aP aM aK aE aH aS : Nat → Int32} {post : SX → Prop} {d : Nat} (hd : d < 32) (em : mC = 0) (hK : ∀ x, x < 32 → aK x = 0) (K : ∀ m' mC' aM' aK' aE' aH', cx_M (fun x => x = d) m' mC' aM' aK' aH' → (∀ x, x = d → aE' x = aR x - nI 0) → post (oL, rL, wL, nL, wd, cC, pC, mC', zH, sC, tS, tC, tT, tF, aL, aA, aT, aR, aF, aO, aW, aC, aI, aP, aM', aK', aE', aH', aS)) : wpX_addMember post (oL, rL, wL, nL, wd, cC, pC, mC, zH, sC, tS, tC, tT, tF, aL, aA, aT, aR, aF, aO, aW, aC, aI, aP, aM, aK, aE, aH, aS) (nI d) := by
  have e : (fun x => False ∨ x = d) = fun x => x = d := funext fun x => propext ⟨fun t => t.resolve_left id, Or.inr⟩
  refine cx_addM (M := fun _ => False) (m := 0) (tk := fun _ => 0) hd ⟨em.trans nI_0.symm, cy_en_0 fun _ => id, fun x hx => ?_, fun x => False.elim⟩ (fun x => False.elim) (fun _ => rfl) ?_
  · rw [hK x hx, cy_gif id]
  · intro m' mC' aM' aK' aE' aH' hM hE _ _
    rw [e] at hM
    exact K m' mC' aM' aK' aE' aH' hM (fun x hx => hE x (Or.inr hx))
theorem i_vc_trial {k : Nat} {u : SX} {v : SY} (I : i_Rel k u v) (hk : k + 4 ≤ 2052) (v1 : Int32) : wpX_trial (fun r u' => wpY_trial (fun r' v' => r' = r ∧ i_Rel (k + 4) u' v') v v1) u v1 := by
  refine cz_el (P := fun u v => wpX_trial (fun r u' => wpY_trial (fun r' v' => r' = r ∧ i_Rel (k + 4) u' v') v v1) u v1) I ?_
  intro N R W ar tg wk k2 L C nL wd cC zH sC tS tC tT tF yW uT aL aA aT aR aF aO aW aC aI aP aM aK aE aH aS bL bA bT bW bK bS bD hQ
  have hQ' := hQ
  obtain ⟨⟨hN, hR, hW⟩, hK, hS, hB, hB', hC', hCL, hwk⟩ := hQ'
  unfold wpX_trial
  rcases Classical.em (∃ x, L x ∧ v1 = nI x) with ⟨d, hd, e⟩ | z
  · subst e
    have hdN := hB.1 d hd
    refine cx_liveT hN rfl hB.2.1 hdN hd (br_f (by decide) ?_)
    refine cx_first (by omega) rfl hK (fun m mC1 aM1 aK1 aE1 aH1 hM1 hE1 => ?_)
    refine cx_trial (L := L) (A := fun x => x = d) hN hR hS.1 (cx_S_ct hS) (fun x hx => (hB.2.2.1 x hx).1) hM1 (fun x hx => by rw [hx]; exact hd) hE1 ?_
    intro M H m' mC' hC2 sC' aM' aK' aE' aH' aS' em hMe hK' eh hH' hML hHM hMr hHr
    refine nm_e ?_
    refine cx_end em hMe hK' (fun aK2 aH2 hK2 => ?_)
    show wpY_trial _ _ _
    unfold wpY_trial
    refine cw_liveT hN rfl hB'.2.1 hdN hd (br_f (by decide) ?_)
    have eM : M = cy_rc (cy_ed aF ar L) (fun a => a = d) := funext fun x => propext (hMr x)
    have eH : H = cy_rc (cy_ed aF ar L) (cy_ex aF ar aO R N L M) := funext fun x => propext (hHr x)
    refine cw_findD (S := M) hN hR rfl rfl hS.1 hS.2.1 hB' hd eM ?_
    intro bK' bS' bD' hD
    rw [← eH]
    have c1 := cy_en_n (n := 32) hMe (fun x hx => (hMe.1 x hx).1)
    have c2 := cy_n_df (P := M) (Q := H) (n := 32) (fun x _ => hHM x)
    have c3 := cy_n_ext (P := fun x => M x ∧ ¬ H x) hN (fun x hx => hB.1 x (hML x hx.1))
    refine ⟨?_, cz_in ⟨⟨hN, hR, hW⟩, hK2, hS, hB, hB', hC', hCL, hwk⟩⟩
    rw [em, eh, cy_sub (by omega), ← c3]
    exact congrArg nI (by omega)
  · have hz : ∀ x, L x → v1 ≠ nI x := fun x hx e => z ⟨x, hx, e⟩
    refine cx_liveF hN rfl hB.2.1 hz (br_t rfl ?_)
    unfold wpY_trial
    exact cw_liveF hN rfl hB'.2.1 hz (br_t rfl ⟨rfl, cz_in hQ⟩)
theorem i_vc_collectAt {k : Nat} {u : SX} {v : SY} (I : i_Rel k u v) (hk : k + 4 ≤ 2052) (v1 : Int32) : wpX_collectAt (fun r u' => wpY_collectAt (fun r' v' => r' = r ∧ i_Rel (k + 4) u' v') v v1) u v1 := by
  refine cz_el (P := fun u v => wpX_collectAt (fun r u' => wpY_collectAt (fun r' v' => r' = r ∧ i_Rel (k + 4) u' v') v v1) u v1) I ?_
  intro N R W ar tg wk k2 L C nL wd cC zH sC tS tC tT tF yW uT aL aA aT aR aF aO aW aC aI aP aM aK aE aH aS bL bA bT bW bK bS bD hQ
  have hQ' := hQ
  obtain ⟨⟨hN, hR, hW⟩, hK, hS, hB, hB', hC', hCL, hwk⟩ := hQ'
  unfold wpX_collectAt
  rcases Classical.em (∃ x, L x ∧ v1 = nI x) with ⟨d, hd, e⟩ | z
  · subst e
    have hdN := hB.1 d hd
    refine cx_liveT hN rfl hB.2.1 hdN hd (br_f (by decide) ?_)
    refine cx_first (by omega) rfl hK (fun m mC1 aM1 aK1 aE1 aH1 hM1 hE1 => ?_)
    refine cx_trial (L := L) (A := fun x => x = d) hN hR hS.1 (cx_S_ct hS) (fun x hx => (hB.2.2.1 x hx).1) hM1 (fun x hx => by rw [hx]; exact hd) hE1 ?_
    intro M H m' mC' hC2 sC' aM' aK' aE' aH' aS' em hMe hK' eh hH' hML hHM hMr hHr
    have htr : cy_tr aF ar aO R N L M H := ⟨hS.1, hS.2.1, hML, hHM, fun a b ha hab => (hMr b).mpr (cy_rc_s ((hMr a).mp ha) ⟨hML a ha, hab⟩), hHr⟩
    refine cx_reclaim hN hW rfl htr em hMe hH' hS hB hC' hCL ?_
    intro f C3 nL' wd' cC' tT' aL' aA' aT' aR' aW' aC' aI' hf hS3 hB3 hC3 hCL3
    refine cx_end em hMe hK' (fun aK2 aH2 hK2 => ?_)
    show wpY_collectAt _ _ _
    unfold wpY_collectAt
    refine cw_liveT hN rfl hB'.2.1 hdN hd (br_f (by decide) ?_)
    have eM : M = cy_rc (cy_ed aF ar L) (fun a => a = d) := funext fun x => propext (hMr x)
    have eH : H = cy_rc (cy_ed aF ar L) (cy_ex aF ar aO R N L M) := funext fun x => propext (hHr x)
    refine cw_findD (S := M) hN hR rfl rfl hS.1 hS.2.1 hB' hd eM ?_
    intro bK' bS' bD' hD
    rw [← eH] at hD
    refine cw_freeD (L := L) (D := fun x => M x ∧ ¬ H x) hN hW rfl rfl (fun x hx => hML x hx.1) hD hB' ?_
    intro f' uT' bL' bW' hf' hB4
    have ef : f' = f := by omega
    subst ef
    exact ⟨rfl, cz_in (cz_mk hN hR hW hK2 hwk hS3 hB3 hC3 hCL3 (fun x => Iff.rfl) hB4)⟩
  · have hz : ∀ x, L x → v1 ≠ nI x := fun x hx e => z ⟨x, hx, e⟩
    refine cx_liveF hN rfl hB.2.1 hz (br_t rfl ?_)
    unfold wpY_collectAt
    exact cw_liveF hN rfl hB'.2.1 hz (br_t rfl ⟨rfl, cz_in hQ⟩)
end
section
/-! A new cell -/
def cy_ua (ar : Nat → Nat) (d q : Nat) : Nat → Nat := fun x => if x = d then q else ar x
theorem cy_ua_s (ar : Nat → Nat) (d q : Nat) : cy_ua ar d q d = q := if_pos rfl
theorem cy_ua_n {ar : Nat → Nat} {d q x : Nat} (h : x ≠ d) : cy_ua ar d q x = ar x := if_neg h
def cy_fl (F : Nat → Int32) (d : Nat) : Nat → Nat → Int32
  | 0 => F
  | k + 1 => upd (cy_fl F d k) (4 * d + k) (-1)
theorem cy_fl_in {F : Nat → Int32} {d k : Nat} : ∀ {m : Nat}, k < m → cy_fl F d m (4 * d + k) = -1
  | 0, h => by omega
  | m + 1, h => by
    show upd (cy_fl F d m) (4 * d + m) (-1) (4 * d + k) = -1
    rcases Nat.decEq k m with z | z
    · rw [cy_un (by omega)]; exact cy_fl_in (by omega)
    · rw [z, cy_us]
theorem cy_fl_out {F : Nat → Int32} {d j : Nat} : ∀ {m : Nat}, (∀ k, k < m → j ≠ 4 * d + k) → cy_fl F d m j = F j
  | 0, _ => rfl
  | m + 1, h => by
    show upd (cy_fl F d m) (4 * d + m) (-1) j = F j
    rw [cy_un (h m (by omega))]
    exact cy_fl_out (fun k hk => h k (by omega))
section
variable {F : Nat → Int32} {ar : Nat → Nat} {O : Nat → Int32} {R N d q : Nat} {L C : Nat → Prop}
theorem cy_nw_rw {x y : Nat} (hx : x ≠ d) (h4 : ar x ≤ 4) : cy_rw (cy_fl F d 4) (cy_ua ar d q) x y = cy_rw F ar x y := by
  show cy_pr (cy_fl F d 4) x y (cy_ua ar d q x) = cy_pr F x y (ar x)
  rw [cy_ua_n hx]
  exact cy_sm_eq fun j hj => by rw [cy_fl_out (fun k hk => by omega)]
theorem cy_nw_r0 {y : Nat} (hq : q ≤ 4) : cy_rw (cy_fl F d 4) (cy_ua ar d q) d y = 0 := by
  show cy_pr (cy_fl F d 4) d y (cy_ua ar d q d) = 0
  rw [cy_ua_s]
  exact cy_sm_0 fun j hj => by
    rw [cy_fl_in (by omega)]
    exact cy_bf cy_is_m1
theorem cy_nw_ins (hok : cy_ok F ar N L) (hn : ¬ L d) (hq : q ≤ 4) (x : Nat) : cy_ins (cy_fl F d 4) (cy_ua ar d q) N (fun y => L y ∨ y = d) x = cy_ins F ar N L x := by
  refine cy_sm_eq fun j _ => ?_
  rcases Nat.decEq j d with z | z
  · rcases Classical.em (L j) with t | t
    · rw [cy_gt (Or.inl t), cy_gt t, cy_nw_rw z (hok j t).2.1]
    · rw [cy_gf t, cy_gf (fun s => s.elim t z)]
  · rw [z, cy_gf hn, cy_gt (Or.inr rfl), cy_nw_r0 hq]
theorem cy_nw_ct (hok : cy_ok F ar N L) (hn : ¬ L d) (hq : q ≤ 4) (x : Nat) : cy_ct (cy_fl F d 4) (cy_ua ar d q) O R N (fun y => L y ∨ y = d) x = cy_ct F ar O R N L x := by
  show cy_rt O R x + cy_ins (cy_fl F d 4) (cy_ua ar d q) N (fun y => L y ∨ y = d) x = cy_rt O R x + cy_ins F ar N L x
  rw [cy_nw_ins hok hn hq]
theorem cy_nw_0 (hok : cy_ok F ar N L) (hro : cy_ro O R L) (hn : ¬ L d) : cy_ct F ar O R N L d = 0 := by
  rcases Nat.eq_zero_or_pos (cy_ct F ar O R N L d) with z | z
  · exact z
  · exfalso
    rcases cy_ct_nz (F := F) (ar := ar) (O := O) (R := R) (N := N) (V := L) (x := d) (by omega) with t | ⟨y, hy, t⟩
    · exact hn (cy_ro_rt hro t)
    · exact hn (cy_ok_rw hok hy t)
theorem cy_nw_ok (hok : cy_ok F ar N L) (hd : d < N) (hn : ¬ L d) (hq : q ≤ 4) : cy_ok (cy_fl F d 4) (cy_ua ar d q) N (fun y => L y ∨ y = d) := by
  intro x hx
  rcases Nat.decEq x d with z | z
  · have hLx := hx.resolve_right z
    have h4 := (hok x hLx).2.1
    refine ⟨(hok x hLx).1, by rw [cy_ua_n z]; exact h4, fun k hk => ?_⟩
    rw [cy_ua_n z] at hk
    rw [cy_fl_out (fun k hk => by omega)]
    exact cy_vl_m (fun y hy => Or.inl hy) ((hok x hLx).2.2 k hk)
  · subst z
    refine ⟨hd, by rw [cy_ua_s]; exact hq, fun k hk => ?_⟩
    rw [cy_ua_s] at hk
    exact Or.inl (cy_fl_in (by omega))
theorem cy_nw_rc (hok : cy_ok F ar N L) (hn : ¬ L d) {A : Nat → Prop} {x : Nat} (h : cy_rc (cy_ed F ar L) A x) : cy_rc (cy_ed (cy_fl F d 4) (cy_ua ar d q) (fun y => L y ∨ y = d)) A x :=
  h _ (fun _ ha => cy_rc_0 ha) (fun a b s e => cy_rc_s s ⟨Or.inl e.1, by
    have hne : a ≠ d := fun t => hn (by rw [← t]; exact e.1)
    rw [cy_nw_rw hne (hok a e.1).2.1]; exact e.2⟩)
theorem cy_si_ad {g g' : Nat → Int32} (hd : d < N) (hn : ¬ L d) (hg : ∀ x, x ≠ d → g' x = g x) : cy_si (fun x => cy_gi (L x ∨ x = d) (g' x)) N = cy_si (fun x => cy_gi (L x) (g x)) N + g' d := by
  have h := cy_si_up (f := fun x => cy_gi (L x ∨ x = d) (g' x)) (g := fun x => cy_gi (L x) (g x)) (i := d) (n := N) hd (fun j _ hj => by
    rw [hg j hj]
    exact cy_gie ⟨fun t => t.resolve_right hj, Or.inl⟩)
  have e1 : cy_gi (L d) (g d) = 0 := cy_gif hn
  have e2 : cy_gi (L d ∨ d = d) (g' d) = g' d := cy_git (Or.inr rfl)
  rw [e1, e2, Int32.add_zero] at h
  exact h
end
theorem cz_wk_m {L V : Nat → Prop} {W : Nat} {wk : Nat → Int32} (h : cz_wk L W wk) (m : ∀ x, L x → V x) : cz_wk V W wk := by
  intro w hw
  rcases h w hw with t | t | ⟨x, hx, h32, t⟩
  · exact Or.inl t
  · exact Or.inr (Or.inl t)
  · exact Or.inr (Or.inr ⟨x, m x hx, h32, t⟩)
section
variable {N W d q : Nat} {ar : Nat → Nat} {tg wk : Nat → Int32} {k1 k2 tag : Int32} {L : Nat → Prop} {nL wd tT uT : Int32} {aL aA aT aW bL bA bT bW : Nat → Int32}
theorem cx_B_new (hN : N ≤ 32) (hd : d < N) (hn : ¬ L d) (hwk : cz_wk L W wk) (h : cx_B N W ar tg wk k1 k2 L nL wd tT aL aA aT aW) : cx_B N W (cy_ua ar d q) (upd tg d tag) wk k1 (k2 + tag) (fun x => L x ∨ x = d) (nL + 1) (wd - nI q) tT (upd aL d 1) (upd aA d (nI q)) (upd aT d tag) aW := by
  obtain ⟨h1, h2, h3, h4, h5, h6, h7⟩ := h
  refine ⟨fun x hx => hx.elim (h1 x) (fun e => e ▸ hd), fun x hx => ?_, fun x hx => ?_, ?_, ?_, ?_, fun w hw => ?_⟩
  · rcases Nat.decEq x d with z | z
    · rw [cy_un z, h2 x hx]
      exact cy_gie ⟨Or.inl, fun t => t.resolve_right z⟩
    · rw [z, cy_us, cy_git (Or.inr rfl)]
  · rcases Nat.decEq x d with z | z
    · rw [cy_un z, cy_un z, cy_un z, cy_ua_n z]
      exact h3 x (hx.resolve_right z)
    · rw [z, cy_us, cy_us, cy_us, cy_ua_s]
      exact ⟨rfl, rfl⟩
  · rw [h4, nI_1, cy_n_add hn hd]
  · rw [cy_si_ad (g := fun x => nI (ar x)) (g' := fun x => nI (cy_ua ar d q x)) hd hn (fun x hx => by rw [cy_ua_n hx]), ← h5]
    show wd - nI q + (cy_si (fun x => cy_gi (L x) (nI (ar x))) N + nI (cy_ua ar d q d)) = _
    rw [cy_ua_s]
    grind
  · rw [cy_si_ad (g := tg) (g' := upd tg d tag) hd hn (fun x hx => cy_un hx), ← h6, cy_us]
    grind
  · rw [h7 w hw, cz_wk_id hwk hw, cz_wk_id (cz_wk_m hwk (fun x hx => Or.inl hx)) hw]
theorem cw_B_new (hN : N ≤ 32) (hd : d < N) (hn : ¬ L d) (hwk : cz_wk L W wk) (h : cw_B N W ar tg wk k2 L uT bL bA bT bW) : cw_B N W (cy_ua ar d q) (upd tg d tag) wk (k2 + tag) (fun x => L x ∨ x = d) uT (upd bL d 1) (upd bA d (nI q)) (upd bT d tag) bW := by
  obtain ⟨h1, h2, h3, h6, h7⟩ := h
  refine ⟨fun x hx => hx.elim (h1 x) (fun e => e ▸ hd), fun x hx => ?_, fun x hx => ?_, ?_, fun w hw => ?_⟩
  · rcases Nat.decEq x d with z | z
    · rw [cy_un z, h2 x hx]
      exact cy_gie ⟨Or.inl, fun t => t.resolve_right z⟩
    · rw [z, cy_us, cy_git (Or.inr rfl)]
  · rcases Nat.decEq x d with z | z
    · rw [cy_un z, cy_un z, cy_un z, cy_ua_n z]
      exact h3 x (hx.resolve_right z)
    · rw [z, cy_us, cy_us, cy_us, cy_ua_s]
      exact ⟨rfl, rfl⟩
  · rw [cy_si_ad (g := tg) (g' := upd tg d tag) hd hn (fun x hx => cy_un hx), ← h6, cy_us]
    grind
  · rw [h7 w hw, cz_wk_id hwk hw, cz_wk_id (cz_wk_m hwk (fun x hx => Or.inl hx)) hw]
end
section
variable {oL rL wL nL wd cC pC mC zH sC tS tC tT tF : Int32} {aL aA aT aR aF aO aW aC aI aP aM aK aE aH aS : Nat → Int32}
theorem cx_lf {post : Int32 → Prop} {N : Nat} {L : Nat → Prop} (hN : N ≤ 32) (eo : oL = nI N) (hL : ∀ x, x < 32 → aL x = cy_gi (L x) 1) (K1 : ∀ d, d < N → ¬ L d → (∀ y, y < d → L y) → post (nI d)) (K2 : (∀ y, y < N → L y) → post (-1)) : ∀ n i, N - i < n → i ≤ N → (∀ y, y < i → L y) → wX_leastFreeCell_2 post oL rL wL nL wd cC pC mC zH sC tS tC tT tF aL aA aT aR aF aO aW aC aI aP aM aK aE aH aS n (nI i) := by
  intro n
  induction n with
  | zero => intro i h; omega
  | succ n ih =>
    intro i h hi hl
    rcases Nat.lt_or_ge i N with z | z
    · refine br_f (by rw [eo]; exact nI_ge z (by omega)) ⟨vp_in_nI (by omega) (by omega), ?_⟩
      rw [cy_cl (by omega), hL i (by omega)]
      rcases Classical.em (L i) with t | t
      · refine br_f (fun s => cy_gi0.mp s t) (nm_r (nI_1 i) (ih (i + 1) (by omega) (by omega) (fun y hy => ?_)))
        rcases Nat.lt_or_ge y i with w | w
        · exact hl y w
        · have e : y = i := by omega
          rw [e]; exact t
      · exact br_t (cy_gi0.mpr t) (K1 i z t hl)
    · exact br_t (by rw [eo]; exact nI_le (by omega) (by omega)) (K2 (fun y hy => hl y (by omega)))
theorem cx_room {post : Int32 → Prop} {N : Nat} {L : Nat → Prop} {p : Int32} (hN : N ≤ 32) (eo : oL = nI N) (en : nL = nI (cy_n L N)) (K0 : (N ≤ cy_n L N ∨ wd < p) → post 0) (K1 : cy_n L N < N → ¬ wd < p → post 1) : wpX_hasRoom post (oL, rL, wL, nL, wd, cC, pC, mC, zH, sC, tS, tC, tT, tF, aL, aA, aT, aR, aF, aO, aW, aC, aI, aP, aM, aK, aE, aH, aS) p := by
  have hb := cy_n_bd L N
  rcases Nat.lt_or_ge (cy_n L N) N with z | z
  · exact br_f (by rw [eo, en]; exact nI_ge z (by omega)) (br_c (fun t => K0 (Or.inr t)) (fun t => K1 z t))
  · exact br_t (by rw [eo, en]; exact nI_le z (by omega)) (K0 (Or.inl z))
theorem cx_op31 {post : SX → Prop} {d : Nat} {q : Int32} {G : Nat → Int32} (hd : d < 32) (K : post (oL, rL, wL, (nL + 1), (wd - q), cC, pC, mC, zH, sC, tS, tC, tT, tF, aL, aA, aT, aR, (cy_fl G d 4), aO, aW, aC, aI, aP, aM, aK, aE, aH, aS)) : ∀ n k, 4 - k < n → k ≤ 4 → wX_openCell_31 post (nI d) q oL rL wL nL wd cC pC mC zH sC tS tC tT tF n (nI k) aL aA aT aR (cy_fl G d k) aO aW aC aI aP aM aK aE aH aS := by
  intro n
  induction n with
  | zero => intro k h; omega
  | succ n ih =>
    intro k h hk
    rcases Nat.lt_or_ge k 4 with z | z
    · obtain ⟨hi, ea⟩ := cy_at' (d := d) (k := k) hd z
      refine br_f (nI_ge (b := 4) z (by decide)) ⟨hi, nm_r (e' := cy_fl G d (k + 1)) (by rw [ea]; rfl) (nm_r (nI_1 k) (ih (k + 1) (by omega) (by omega)))⟩
    · have e : k = 4 := by omega
      subst e
      exact br_t (by decide) (nm_e (nm_e K))
theorem cx_a47 {post : Int32 → SX → Prop} {ar : Nat → Nat} {R N W r q : Nat} {tg wk : Nat → Int32} {k1 k2 tag : Int32} {L C : Nat → Prop} (hN : N ≤ 32) (hR : R ≤ 8) (hW : W ≤ 8) (eo : oL = nI N) (ew : wL = nI W) (hr : r < R) (hq : q ≤ 4) (hroom : cy_n L N < N) (hS : cx_S aF ar aO R N L (fun _ => 0) (fun _ => False) C aR) (hB : cx_B N W ar tg wk k1 k2 L nL wd tT aL aA aT aW) (hC : cx_C C cC aC aI) (hCL : ∀ x, C x → L x) (ep : pC = 0) (hwk : cz_wk L W wk)
    (K : ∀ d f V C nL' wd' cC' tT' aL' aA' aT' aR' aW' aC' aI' aP', d < N → ¬ L d → (∀ y, y < d → L y) → cy_gs (cy_fl aF d 4) (cy_ua ar d q) (upd aO r (nI d)) R N (fun x => L x ∨ x = d) V → f + cy_n V N = cy_n (fun x => L x ∨ x = d) N → cx_S (cy_fl aF d 4) (cy_ua ar d q) (upd aO r (nI d)) R N V (fun _ => 0) (fun _ => False) C aR' → cx_B N W (cy_ua ar d q) (upd tg d tag) wk k1 (k2 + tag) V nL' wd' tT' aL' aA' aT' aW' → cx_C C cC' aC' aI' → (∀ x, C x → V x) → post (nI d) (oL, rL, wL, nL', wd', cC', 0, mC, zH, sC, (tS + nI f), tC, tT', tF, aL', aA', aT', aR', (cy_fl aF d 4), (upd aO r (nI d)), aW', aC', aI', aP', aM, aK, aE, aH, aS)) : wX_alloc_47 post (nI r) (nI q) tag oL rL wL nL wd cC pC mC zH sC tS tC tT tF aL aA aT aR aF aO aW aC aI aP aM aK aE aH aS := by
  unfold wX_alloc_47
  refine Exists.intro (N + 1) ?_
  refine cx_lf hN eo hB.2.1 (fun d hd hn hl => ?_) (fun hl => ?_) (N + 1) 0 (by omega) (by omega) (fun y hy => by omega)
  · have hin : vp_in (nI d) 32 := vp_in_nI (by omega) (by omega)
    have ecl := cy_cl (n := d) (by omega)
    refine br_t (nI_pos' (by omega)) ⟨hin, fun aL' e1 => ⟨hin, fun aA' e2 => ⟨hin, fun aT' e3 => ⟨hin, fun aR' e4 => Exists.intro 5 ?_⟩⟩⟩⟩
    rw [ecl] at e1 e2 e3 e4
    rw [cy_vn1] at e1
    subst e1 e2 e3 e4
    refine cx_op31 (G := aF) (by omega) ?_ 5 0 (by omega) (by omega)
    refine cx_write (C := C) hN hR hW ew hr (cy_nw_ok hS.1 hd hn hq) (fun i hi => cy_vl_m (fun y hy => Or.inl hy) (hS.2.1 i hi)) (Or.inr ⟨d, Or.inr rfl, by omega, rfl⟩) (fun x hx => ?_) (fun x hx => ?_) (fun x hx => ?_) (cx_B_new hN hd hn hwk hB) hC (fun x hx => Or.inl (hCL x hx)) ep ?_
    · rw [cy_nw_ct hS.1 hn hq]
      rcases Nat.decEq x d with z | z
      · rw [cy_un z]; exact cx_S_ct hS x (hx.resolve_right z)
      · rw [z, cy_us, cy_nw_0 hS.1 hS.2.1 hn, nI_0]
    · rw [cy_nw_ct hS.1 hn hq]
      rcases hx with t | t
      · exact Or.inl (cx_S_ps hS x t)
      · exact Or.inr (by rw [t]; exact ⟨by omega, rfl⟩)
    · rcases hx with t | t
      · exact Or.inl (cy_nw_rc hS.1 hn (cx_S_rc hS x t))
      · exact Or.inr (by rw [t]; exact ⟨by omega, rfl⟩)
    · intro f V C2 nL' wd' cC' tT' aL' aA' aT' aR' aW' aC' aI' aP' gs hf hS2 hB2 hC2 hCV
      exact K d f V C2 nL' wd' cC' tT' aL' aA' aT' aR' aW' aC' aI' aP' hd hn hl gs hf hS2 hB2 hC2 hCV
  · have := cy_n_fl hl
    omega
end
section
variable {oL yW rL wL uA uC uT uN : Int32} {bL bA bT aF aO bW bK bS bD : Nat → Int32}
theorem cw_fcell {post : Int32 → Prop} {N : Nat} {L : Nat → Prop} (hN : N ≤ 32) (eo : oL = nI N) (hL : ∀ x, x < 32 → bL x = cy_gi (L x) 1) (K1 : ∀ d, d < N → ¬ L d → (∀ y, y < d → L y) → post (nI d)) (K2 : (∀ y, y < N → L y) → post (-1)) : ∀ n i, N - i < n → i ≤ N → (∀ y, y < i → L y) → wY_findCell_2 post oL yW rL wL uA uC uT uN bL bA bT aF aO bW bK bS bD n (nI i) := by
  intro n
  induction n with
  | zero => intro i h; omega
  | succ n ih =>
    intro i h hi hl
    rcases Nat.lt_or_ge i N with z | z
    · refine br_f (by rw [eo]; exact nI_ge z (by omega)) ⟨vp_in_nI (by omega) (by omega), ?_⟩
      rw [cy_cl (by omega), hL i (by omega)]
      rcases Classical.em (L i) with t | t
      · refine br_f (fun s => cy_gi0.mp s t) (nm_r (nI_1 i) (ih (i + 1) (by omega) (by omega) (fun y hy => ?_)))
        rcases Nat.lt_or_ge y i with w | w
        · exact hl y w
        · have e : y = i := by omega
          rw [e]; exact t
      · exact br_t (cy_gi0.mpr t) (K1 i z t hl)
    · exact br_t (by rw [eo]; exact nI_le (by omega) (by omega)) (K2 (fun y hy => hl y (by omega)))
theorem cw_room {post : Int32 → Prop} {N W : Nat} {ar : Nat → Nat} {tg wk : Nat → Int32} {k2 wd : Int32} {L : Nat → Prop} {p : Int32} (hN : N ≤ 32) (eo : oL = nI N) (hB : cw_B N W ar tg wk k2 L uT bL bA bT bW) (hw : wd + cy_si (fun x => cy_gi (L x) (nI (ar x))) N = yW) (K0 : (N ≤ cy_n L N ∨ wd < p) → post 0) (K1 : cy_n L N < N → ¬ wd < p → post 1) : wpY_hasRoom post (oL, yW, rL, wL, uA, uC, uT, uN, bL, bA, bT, aF, aO, bW, bK, bS, bD) p := by
  unfold wpY_hasRoom
  refine Exists.intro (N + 1) ?_
  refine cw_fcell hN eo hB.2.1 (fun d hd hn hl => ?_) (fun hl => ?_) (N + 1) 0 (by omega) (by omega) (fun y hy => by omega)
  · refine cw_words hN eo hB hw (br_f (cy_n1 (by omega)) (br_c (fun t => K0 (Or.inr t)) (fun t => K1 (cy_n_nf hd hn) t)))
  · refine cw_words hN eo hB hw (br_t rfl (K0 (Or.inl ?_)))
    have := cy_n_fl hl
    omega
theorem cw_a89 {post : Int32 → SY → Prop} {d r : Nat} {G : Nat → Int32} (hd : d < 32) (hr : r < 8) (K : wpY_settle (fun _ u => post (nI d) u) (oL, yW, rL, wL, uA, uC, uT, uN, bL, bA, bT, (cy_fl G d 4), (upd aO r (nI d)), bW, bK, bS, bD)) : ∀ n k, 4 - k < n → k ≤ 4 → wY_alloc_89 post (nI r) (nI d) oL yW rL wL uA uC uT uN n (nI k) bL bA bT (cy_fl G d k) aO bW bK bS bD := by
  intro n
  induction n with
  | zero => intro k h; omega
  | succ n ih =>
    intro k h hk
    rcases Nat.lt_or_ge k 4 with z | z
    · obtain ⟨hi, ea⟩ := cy_at' (d := d) (k := k) hd z
      refine br_f (nI_ge (b := 4) z (by decide)) ⟨hi, nm_r (e' := cy_fl G d (k + 1)) (by rw [ea]; rfl) (nm_r (nI_1 k) (ih (k + 1) (by omega) (by omega)))⟩
    · have e : k = 4 := by omega
      subst e
      refine br_t (by decide) ⟨vp_in_nI hr (by omega), nm_r (e' := upd aO r (nI d)) (by rw [cy_cl (by omega)]) K⟩
theorem cw_a47 {post : Int32 → SY → Prop} {ar : Nat → Nat} {R N W r q : Nat} {tg wk : Nat → Int32} {k2 tag : Int32} {L : Nat → Prop} (hN : N ≤ 32) (hR : R ≤ 8) (hW : W ≤ 8) (eo : oL = nI N) (er : rL = nI R) (ew : wL = nI W) (hr : r < R) (hq : q ≤ 4) (hroom : cy_n L N < N) (hok : cy_ok aF ar N L) (hB : cw_B N W ar tg wk k2 L uT bL bA bT bW) (hwk : cz_wk L W wk)
    (K : ∀ d f V uT' bL' bW', d < N → ¬ L d → (∀ y, y < d → L y) → cy_gs (cy_fl aF d 4) (cy_ua ar d q) (upd aO r (nI d)) R N (fun x => L x ∨ x = d) V → f + cy_n V N = cy_n (fun x => L x ∨ x = d) N → cw_B N W (cy_ua ar d q) (upd tg d tag) wk (k2 + tag) V uT' bL' (upd bA d (nI q)) (upd bT d tag) bW' → post (nI d) (oL, yW, rL, wL, (uA + nI f), uC, uT', uN, bL', (upd bA d (nI q)), (upd bT d tag), (cy_fl aF d 4), (upd aO r (nI d)), bW', bK, bS, bD)) : wY_alloc_47 post (nI r) (nI q) tag oL yW rL wL uA uC uT uN bL bA bT aF aO bW bK bS bD := by
  unfold wY_alloc_47
  refine Exists.intro (N + 1) ?_
  refine cw_fcell hN eo hB.2.1 (fun d hd hn hl => ?_) (fun hl => ?_) (N + 1) 0 (by omega) (by omega) (fun y hy => by omega)
  · have hin : vp_in (nI d) 32 := vp_in_nI (by omega) (by omega)
    have ecl := cy_cl (n := d) (by omega)
    refine br_f (cy_n1 (by omega)) ⟨hin, fun bL' e1 => ⟨hin, fun bA' e2 => ⟨hin, fun bT' e3 => Exists.intro 5 ?_⟩⟩⟩
    rw [ecl] at e1 e2 e3
    rw [cy_vn1] at e1
    subst e1 e2 e3
    refine cw_a89 (G := aF) (by omega) (by omega) ?_ 5 0 (by omega) (by omega)
    refine cw_settle hN hR hW eo er ew (cy_nw_ok hok hd hn hq) (cw_B_new hN hd hn hwk hB) ?_
    intro f V uT' bL' bW' gs hf hB'
    exact K d f V uT' bL' bW' hd hn hl gs hf hB'
  · have := cy_n_fl hl
    omega
end
end
section
section
variable {N R W : Nat} {ar : Nat → Nat} {tg wk : Nat → Int32} {k2 : Int32} {L C : Nat → Prop} {nL wd cC zH sC tS tC tT tF yW uT : Int32} {aL aA aT aR aF aO aW aC aI aP aM aK aE aH aS bL bA bT bW bK bS bD : Nat → Int32}
/-- both sides have made their new object -/
theorem cz_anew {k dX dY f f' q r : Nat} {V V' C2 : Nat → Prop} {tag uT' : Int32} {bL' bW' : Nat → Int32} (hN : N ≤ 32) (hR : R ≤ 8) (hW : W ≤ 8) (hK : ∀ x, x < 32 → aK x = 0) (hwk : cz_wk L W wk)
    (h1 : ¬ L dX) (h2 : ∀ y, y < dX → L y) (gs : cy_gs (cy_fl aF dX 4) (cy_ua ar dX q) (upd aO r (nI dX)) R N (fun x => L x ∨ x = dX) V) (hf : f + cy_n V N = cy_n (fun x => L x ∨ x = dX) N) (hS : cx_S (cy_fl aF dX 4) (cy_ua ar dX q) (upd aO r (nI dX)) R N V (fun _ => 0) (fun _ => False) C2 aR) (hB : cx_B N W (cy_ua ar dX q) (upd tg dX tag) wk yW (k2 + tag) V nL wd tT aL aA aT aW) (hC' : cx_C C2 cC aC aI) (hCV : ∀ x, C2 x → V x)
    (h1' : ¬ L dY) (h2' : ∀ y, y < dY → L y) (gs' : cy_gs (cy_fl aF dY 4) (cy_ua ar dY q) (upd aO r (nI dY)) R N (fun x => L x ∨ x = dY) V') (hf' : f' + cy_n V' N = cy_n (fun x => L x ∨ x = dY) N) (hB' : cw_B N W (cy_ua ar dY q) (upd tg dY tag) wk (k2 + tag) V' uT' bL' (upd bA dY (nI q)) (upd bT dY tag) bW') :
    nI dY = nI dX ∧ i_Rel k ((nI N), (nI R), (nI W), nL, wd, cC, 0, 0, zH, sC, (tS + nI f), tC, tT, tF, aL, aA, aT, aR, (cy_fl aF dX 4), (upd aO r (nI dX)), aW, aC, aI, aP, aM, aK, aE, aH, aS) ((nI N), yW, (nI R), (nI W), (tS + nI f'), tC, uT', tF, bL', (upd bA dY (nI q)), (upd bT dY tag), (cy_fl aF dY 4), (upd aO r (nI dY)), bW', bK, bS, bD) := by
  have ed : dY = dX := by
    rcases Nat.lt_or_ge dY dX with z | z
    · exact absurd (h2 dY z) h1'
    · rcases Nat.lt_or_ge dX dY with y | y
      · exact absurd (h2' dX y) h1
      · omega
  subst ed
  exact ⟨rfl, (cz_conc hN hR hW hK (cz_wk_m hwk (fun x hx => Or.inl hx)) (cy_gs_u gs gs') hf hS hB hC' hCV hf' hB').2⟩
end
theorem i_vc_alloc {k : Nat} {u : SX} {v : SY} (I : i_Rel k u v) (hk : k + 4 ≤ 2052) (v1 : Int32) (v2 : Int32) (v3 : Int32) : wpX_alloc (fun r u' => wpY_alloc (fun r' v' => r' = r ∧ i_Rel (k + 4) u' v') v v1 v2 v3) u v1 v2 v3 := by
  refine cz_el (P := fun u v => wpX_alloc (fun r u' => wpY_alloc (fun r' v' => r' = r ∧ i_Rel (k + 4) u' v') v v1 v2 v3) u v1 v2 v3) I ?_
  intro N R W ar tg wk k2 L C nL wd cC zH sC tS tC tT tF yW uT aL aA aT aR aF aO aW aC aI aP aM aK aE aH aS bL bA bT bW bK bS bD hQ
  have hQ' := hQ
  obtain ⟨⟨hN, hR, hW⟩, hK, hS, hB, hB', hC', hCL, hwk⟩ := hQ'
  unfold wpX_alloc
  rcases cy_ix v1 (n := R) (by omega) with t | ⟨r, hr, e⟩
  · refine cx_rootF t (br_t rfl ?_)
    unfold wpY_alloc
    exact cw_rootF t (br_t rfl ⟨rfl, cz_in hQ⟩)
  · subst e
    rcases Classical.em (v2 < 0) with t0 | t0
    · refine cx_rootT hR rfl hr (br_f (by decide) (br_t t0 ?_))
      unfold wpY_alloc
      exact cw_rootT hR rfl hr (br_f (by decide) (br_t t0 ⟨rfl, cz_in hQ⟩))
    · rcases Classical.em (v2 ≤ 4) with t4 | t4
      · obtain ⟨q, hq, e⟩ := nI_of2 (x := v2) (M := 4) (n := 4) (by decide) t0 t4
        subst e
        rcases Classical.em (cy_n L N < N ∧ ¬ wd < nI q) with rm | rm
        · refine cx_rootT hR rfl hr (br_f (by decide) (br_f t0 (br_t t4 ?_)))
          refine cx_room hN rfl hB.2.2.2.1 (fun h => absurd rm (fun t => h.elim (fun y => by have := t.1; omega) t.2)) (fun _ _ => br_f (by decide) ?_)
          refine cx_a47 hN hR hW rfl rfl hr hq rm.1 hS hB hC' hCL rfl hwk ?_
          intro dX f V C2 nL' wd' cC' tT' aL' aA' aT' aR' aW' aC' aI' aP' hd hn hl gs hf hS2 hB2 hC2 hCV
          show wpY_alloc _ _ _ _ _
          unfold wpY_alloc
          refine cw_rootT hR rfl hr (br_f (by decide) (br_f t0 (br_t t4 ?_)))
          refine cw_room hN rfl hB' hB.2.2.2.2.1 (fun h => absurd rm (fun t => h.elim (fun y => by have := t.1; omega) t.2)) (fun _ _ => br_f (by decide) ?_)
          refine cw_a47 hN hR hW rfl rfl rfl hr hq rm.1 hS.1 hB' hwk ?_
          intro dY f' V' uT' bL' bW' hd' hn' hl' gs' hf' hB3
          exact cz_anew hN hR hW hK hwk hn hl gs hf hS2 hB2 hC2 hCV hn' hl' gs' hf' hB3
        · refine cx_rootT hR rfl hr (br_f (by decide) (br_f t0 (br_t t4 ?_)))
          refine cx_room hN rfl hB.2.2.2.1 (fun _ => br_t rfl ?_) (fun a b => absurd ⟨a, b⟩ rm)
          refine cx_full hN hR hW rfl hS hB hC' hCL rfl hK ?_
          intro f0 V0 nL0 wd0 tT0 aL0 aA0 aT0 aR0 aW0 aC0 aI0 aM0 aK0 aE0 aH0 aS0 hV0 hf0 hS0 hB0 hC0 hK0
          rcases Classical.em (cy_n V0 N < N ∧ ¬ wd0 < nI q) with rm2 | rm2
          · refine cx_room hN rfl hB0.2.2.2.1 (fun h => absurd rm2 (fun t => h.elim (fun y => by have := t.1; omega) t.2)) (fun _ _ => br_f (by decide) ?_)
            have hwk0 : cz_wk V0 W (fun w => cy_fz V0 (wk w)) := cz_wk_fz hwk
            have hB0' : cx_B N W ar tg (fun w => cy_fz V0 (wk w)) yW k2 V0 nL0 wd0 tT0 aL0 aA0 aT0 aW0 := ⟨hB0.1, hB0.2.1, hB0.2.2.1, hB0.2.2.2.1, hB0.2.2.2.2.1, hB0.2.2.2.2.2.1, fun w hw => by rw [cy_fz_i]; exact hB0.2.2.2.2.2.2 w hw⟩
            refine cx_a47 hN hR hW rfl rfl hr hq rm2.1 hS0 hB0' hC0 (fun x => False.elim) rfl hwk0 ?_
            intro dX f V C2 nL' wd' cC' tT' aL' aA' aT' aR' aW' aC' aI' aP' hd hn hl gs hf hS2 hB2 hC2 hCV
            show wpY_alloc _ _ _ _ _
            unfold wpY_alloc
            refine cw_rootT hR rfl hr (br_f (by decide) (br_f t0 (br_t t4 ?_)))
            refine cw_room hN rfl hB' hB.2.2.2.2.1 (fun _ => br_t rfl ?_) (fun a b => absurd ⟨a, b⟩ rm)
            refine cw_full hN hR hW rfl rfl rfl hS.1 hS.2.1 hB' ?_
            intro f1 V1 uT1 bL1 bW1 bK1 bD1 hV1 hf1 hB1
            have hVV : V1 = V0 := funext fun x => propext ((hV1 x).trans (hV0 x).symm)
            subst hVV
            have hB1' : cw_B N W ar tg (fun w => cy_fz V1 (wk w)) k2 V1 uT1 bL1 bA bT bW1 := ⟨hB1.1, hB1.2.1, hB1.2.2.1, hB1.2.2.2.1, fun w hw => by rw [cy_fz_i]; exact hB1.2.2.2.2 w hw⟩
            have ef : f1 = f0 := by omega
            subst ef
            refine cw_room hN rfl hB1' hB0.2.2.2.2.1 (fun h => absurd rm2 (fun t => h.elim (fun y => by have := t.1; omega) t.2)) (fun _ _ => br_f (by decide) ?_)
            refine cw_a47 hN hR hW rfl rfl rfl hr hq rm2.1 hS0.1 hB1' hwk0 ?_
            intro dY f' V' uT' bL' bW' hd' hn' hl' gs' hf' hB3
            exact cz_anew hN hR hW hK0 hwk0 hn hl gs hf hS2 hB2 hC2 hCV hn' hl' gs' hf' hB3
          · refine cx_room hN rfl hB0.2.2.2.1 (fun _ => br_t rfl ?_) (fun a b => absurd ⟨a, b⟩ rm2)
            show wpY_alloc _ _ _ _ _
            unfold wpY_alloc
            refine cw_rootT hR rfl hr (br_f (by decide) (br_f t0 (br_t t4 ?_)))
            refine cw_room hN rfl hB' hB.2.2.2.2.1 (fun _ => br_t rfl ?_) (fun a b => absurd ⟨a, b⟩ rm)
            refine cw_full hN hR hW rfl rfl rfl hS.1 hS.2.1 hB' ?_
            intro f1 V1 uT1 bL1 bW1 bK1 bD1 hV1 hf1 hB1
            have hVV : V1 = V0 := funext fun x => propext ((hV1 x).trans (hV0 x).symm)
            subst hVV
            have ef : f1 = f0 := by omega
            subst ef
            refine cw_room hN rfl hB1 hB0.2.2.2.2.1 (fun _ => br_t rfl ⟨rfl, ?_⟩) (fun a b => absurd ⟨a, b⟩ rm2)
            exact cz_in (cz_mk hN hR hW hK0 hwk hS0 hB0 hC0 (fun x => False.elim) (fun x => Iff.rfl) hB1)
      · refine cx_rootT hR rfl hr (br_f (by decide) (br_f t0 (br_f t4 ?_)))
        unfold wpY_alloc
        exact cw_rootT hR rfl hr (br_f (by decide) (br_f t0 (br_f t4 ⟨rfl, cz_in hQ⟩)))
end
section
/-! The constructors -/
def cy_cp (p a b : Int32) : Int32 := if a ≤ p then (if p ≤ b then p else b) else a
theorem cy_cp_n {p a b : Int32} {A B : Nat} (ha : a.toInt = A) (hb : b.toInt = B) (h : A ≤ B) : ∃ n : Nat, n ≤ B ∧ cy_cp p a b = nI n := by
  have z : (0 : Int32).toInt = 0 := by decide
  refine nI_of2 (M := b) hb ?_ ?_
  · rw [Int32.lt_iff_toInt_lt, z]
    unfold cy_cp
    rcases Classical.em (a ≤ p) with t | t
    · rw [if_pos t]
      rcases Classical.em (p ≤ b) with s | s
      · rw [if_pos s]
        rw [Int32.le_iff_toInt_le] at t
        omega
      · rw [if_neg s]; omega
    · rw [if_neg t]; omega
  · rw [Int32.le_iff_toInt_le]
    unfold cy_cp
    rcases Classical.em (a ≤ p) with t | t
    · rw [if_pos t]
      rcases Classical.em (p ≤ b) with s | s
      · rw [if_pos s]
        rw [Int32.le_iff_toInt_le] at s
        exact s
      · rw [if_neg s]; omega
    · rw [if_neg t]; omega
def cy_sf (G : Nat → Int32) : Nat → Nat → Int32
  | 0 => G
  | k + 1 => upd (cy_sf G k) k (-1)
theorem cy_sf_in {G : Nat → Int32} {k : Nat} : ∀ {m : Nat}, k < m → cy_sf G m k = -1
  | 0, h => by omega
  | m + 1, h => by
    show upd (cy_sf G m) m (-1) k = -1
    rcases Nat.decEq k m with z | z
    · rw [cy_un z]; exact cy_sf_in (by omega)
    · rw [z, cy_us]
theorem cy_si_0 {f : Nat → Int32} : ∀ {n : Nat}, (∀ j, j < n → f j = 0) → cy_si f n = 0
  | 0, _ => rfl
  | n + 1, h => by rw [cy_si_s, cy_si_0 (n := n) (fun j hj => h j (by omega)), h n (by omega)]; rfl
section
variable {oL rL wL nL wd cC pC mC zH sC tS tC tT tF : Int32} {aL aA aT aR aF aO aW aC aI aP aM aK aE aH aS : Nat → Int32}
theorem cx_clamp {post : Int32 → Prop} {p a b : Int32} (K : post (cy_cp p a b)) : wpX_clamp post (oL, rL, wL, nL, wd, cC, pC, mC, zH, sC, tS, tC, tT, tF, aL, aA, aT, aR, aF, aO, aW, aC, aI, aP, aM, aK, aE, aH, aS) p a b := by
  refine br_c (fun t => br_c (fun s => ?_) (fun s => ?_)) (fun t => ?_)
  · unfold cy_cp at K; rw [if_pos t, if_pos s] at K; exact K
  · unfold cy_cp at K; rw [if_pos t, if_neg s] at K; exact K
  · unfold cy_cp at K; rw [if_neg t] at K; exact K
theorem cx_i227 {post : SX → Prop} {G1 G2 : Nat → Int32} (K : post (oL, rL, wL, nL, wd, cC, pC, mC, zH, sC, tS, tC, tT, tF, aL, aA, aT, aR, aF, (cy_sf G1 8), (cy_sf G2 8), aC, aI, aP, aM, aK, aE, aH, aS)) : ∀ n i, 8 - i < n → i ≤ 8 → wX_init_227 post oL rL wL nL wd cC pC mC zH sC tS tC tT tF n (nI i) aL aA aT aR aF (cy_sf G1 i) (cy_sf G2 i) aC aI aP aM aK aE aH aS := by
  intro n
  induction n with
  | zero => intro i h; omega
  | succ n ih =>
    intro i h hi
    rcases Nat.lt_or_ge i 8 with z | z
    · have hin : vp_in (nI i) 8 := vp_in_nI z (by omega)
      exact br_f (nI_ge (b := 8) z (by decide)) ⟨hin, nm_r (e' := cy_sf G1 (i + 1)) (by rw [cy_cl (by omega)]; rfl) ⟨hin, nm_r (e' := cy_sf G2 (i + 1)) (by rw [cy_cl (by omega)]; rfl) (nm_r (nI_1 i) (ih (i + 1) (by omega) (by omega)))⟩⟩
    · have e : i = 8 := by omega
      subst e
      exact br_t (by decide) K
theorem cx_i202 {post : SX → Prop} {G : Nat → Int32} (K : ∃ n, wX_init_227 post oL rL wL nL wd cC pC mC zH sC tS tC tT tF n 0 aL aA aT aR (cy_sf G 128) aO aW aC aI aP aM aK aE aH aS) : ∀ n i, 128 - i < n → i ≤ 128 → wX_init_202 post oL rL wL nL wd cC pC mC zH sC tS tC tT tF n (nI i) aL aA aT aR (cy_sf G i) aO aW aC aI aP aM aK aE aH aS := by
  intro n
  induction n with
  | zero => intro i h; omega
  | succ n ih =>
    intro i h hi
    rcases Nat.lt_or_ge i 128 with z | z
    · have hin : vp_in (nI i) 128 := vp_in_nI z (by omega)
      exact br_f (nI_ge (b := 128) z (by decide)) ⟨hin, nm_r (e' := cy_sf G (i + 1)) (by rw [cy_cl (by omega)]; rfl) (nm_r (nI_1 i) (ih (i + 1) (by omega) (by omega)))⟩
    · have e : i = 128 := by omega
      subst e
      exact br_t (by decide) K
theorem cx_i178 {post : SX → Prop} {G : Nat → Int32} (K : ∃ n, wX_init_202 post oL rL wL nL wd cC pC mC zH sC tS tC tT tF n 0 aL aA aT aR aF aO aW aC (cy_sf G 32) aP aM aK aE aH aS) : ∀ n i, 32 - i < n → i ≤ 32 → wX_init_178 post oL rL wL nL wd cC pC mC zH sC tS tC tT tF n (nI i) aL aA aT aR aF aO aW aC (cy_sf G i) aP aM aK aE aH aS := by
  intro n
  induction n with
  | zero => intro i h; omega
  | succ n ih =>
    intro i h hi
    rcases Nat.lt_or_ge i 32 with z | z
    · have hin : vp_in (nI i) 32 := vp_in_nI z (by omega)
      exact br_f (nI_ge (b := 32) z (by decide)) ⟨hin, nm_r (e' := cy_sf G (i + 1)) (by rw [cy_cl (by omega)]; rfl) (nm_r (nI_1 i) (ih (i + 1) (by omega) (by omega)))⟩
    · have e : i = 32 := by omega
      subst e
      exact br_t (by decide) K
theorem cx_ini {post : SX → Prop} {G1 G2 G3 G4 : Nat → Int32} (K : post (oL, rL, wL, nL, wd, cC, pC, mC, zH, sC, tS, tC, tT, tF, aL, aA, aT, aR, (cy_sf G2 128), (cy_sf G3 8), (cy_sf G4 8), aC, (cy_sf G1 32), aP, aM, aK, aE, aH, aS)) : ∃ n, wX_init_178 post oL rL wL nL wd cC pC mC zH sC tS tC tT tF n 0 aL aA aT aR G2 G3 G4 aC G1 aP aM aK aE aH aS :=
  Exists.intro 33 (cx_i178 (G := G1) (Exists.intro 129 (cx_i202 (G := G2) (Exists.intro 9 (cx_i227 (G1 := G3) (G2 := G4) K 9 0 (by omega) (by omega))) 129 0 (by omega) (by omega))) 33 0 (by omega) (by omega))
end
section
variable {oL yW rL wL uA uC uT uN : Int32} {bL bA bT aF aO bW bK bS bD : Nat → Int32}
theorem cw_clamp {post : Int32 → Prop} {p a b : Int32} (K : post (cy_cp p a b)) : wpY_clamp post (oL, yW, rL, wL, uA, uC, uT, uN, bL, bA, bT, aF, aO, bW, bK, bS, bD) p a b := by
  refine br_c (fun t => br_c (fun s => ?_) (fun s => ?_)) (fun t => ?_)
  · unfold cy_cp at K; rw [if_pos t, if_pos s] at K; exact K
  · unfold cy_cp at K; rw [if_pos t, if_neg s] at K; exact K
  · unfold cy_cp at K; rw [if_neg t] at K; exact K
theorem cw_i162 {post : SY → Prop} {G : Nat → Int32} (K : post (oL, yW, rL, wL, uA, uC, uT, uN, bL, bA, bT, (cy_sf G 128), aO, bW, bK, bS, bD)) : ∀ n i, 128 - i < n → i ≤ 128 → wY_init_162 post oL yW rL wL uA uC uT uN n (nI i) bL bA bT (cy_sf G i) aO bW bK bS bD := by
  intro n
  induction n with
  | zero => intro i h; omega
  | succ n ih =>
    intro i h hi
    rcases Nat.lt_or_ge i 128 with z | z
    · have hin : vp_in (nI i) 128 := vp_in_nI z (by omega)
      exact br_f (nI_ge (b := 128) z (by decide)) ⟨hin, nm_r (e' := cy_sf G (i + 1)) (by rw [cy_cl (by omega)]; rfl) (nm_r (nI_1 i) (ih (i + 1) (by omega) (by omega)))⟩
    · have e : i = 128 := by omega
      subst e
      exact br_t (by decide) K
theorem cw_i130 {post : SY → Prop} {G1 G2 : Nat → Int32} (K : ∃ n, wY_init_162 post oL yW rL wL uA uC uT uN n 0 bL bA bT aF (cy_sf G1 8) (cy_sf G2 8) bK bS bD) : ∀ n i, 8 - i < n → i ≤ 8 → wY_init_130 post oL yW rL wL uA uC uT uN n (nI i) bL bA bT aF (cy_sf G1 i) (cy_sf G2 i) bK bS bD := by
  intro n
  induction n with
  | zero => intro i h; omega
  | succ n ih =>
    intro i h hi
    rcases Nat.lt_or_ge i 8 with z | z
    · have hin : vp_in (nI i) 8 := vp_in_nI z (by omega)
      exact br_f (nI_ge (b := 8) z (by decide)) ⟨hin, nm_r (e' := cy_sf G1 (i + 1)) (by rw [cy_cl (by omega)]; rfl) ⟨hin, nm_r (e' := cy_sf G2 (i + 1)) (by rw [cy_cl (by omega)]; rfl) (nm_r (nI_1 i) (ih (i + 1) (by omega) (by omega)))⟩⟩
    · have e : i = 8 := by omega
      subst e
      exact br_t (by decide) K
theorem cw_ini {post : SY → Prop} {G2 G3 G4 : Nat → Int32} (K : post (oL, yW, rL, wL, uA, uC, uT, uN, bL, bA, bT, (cy_sf G2 128), (cy_sf G3 8), (cy_sf G4 8), bK, bS, bD)) : ∃ n, wY_init_130 post oL yW rL wL uA uC uT uN n 0 bL bA bT G2 G3 G4 bK bS bD :=
  Exists.intro 9 (cw_i130 (G1 := G3) (G2 := G4) (Exists.intro 129 (cw_i162 (G := G2) K 129 0 (by omega) (by omega))) 9 0 (by omega) (by omega))
end
theorem cz_0 {N R W : Nat} (hN : N ≤ 32) (hR : R ≤ 8) (hW : W ≤ 8) (yW : Int32) (Z : Nat → Int32) (hZ : ∀ x, Z x = 0) (G1 G2 G3 G4 G5 : Nat → Int32) : cz_Q N R W (fun _ => 0) (fun _ => 0) (fun _ => -1) 0 (fun _ => False) (fun _ => False) 0 yW 0 0 yW 0 Z Z Z Z (cy_sf G2 128) (cy_sf G3 8) (cy_sf G4 8) Z (cy_sf G1 32) Z Z Z Z (cy_sf G5 8) := by
  have m1 : cy_fz (fun _ => False) (-1) = -1 := cy_fz_f (fun x hx => (cy_is_m1 hx).elim)
  have s0 : ∀ g : Nat → Int32, cy_si (fun x => cy_gi False (g x)) N = 0 := fun g => cy_si_0 fun j _ => cy_gif id
  refine ⟨⟨hN, hR, hW⟩, fun x _ => hZ x, ⟨fun x => False.elim, fun r hr => Or.inl (cy_sf_in (by omega)), fun x hx => absurd rfl hx, fun x => False.elim, fun x => ⟨False.elim, fun t => t.1⟩, fun x => False.elim⟩, ⟨fun x => False.elim, fun x _ => ?_, fun x => False.elim, ?_, ?_, ?_, fun w hw => ?_⟩, ⟨fun x => False.elim, fun x _ => ?_, fun x => False.elim, ?_, fun w hw => ?_⟩, ⟨0, nI_0.symm, cy_en_0 fun _ => id, fun i x hi => absurd hi (by omega), fun x hx _ => cy_sf_in hx⟩, fun x => False.elim, fun w _ => Or.inl rfl⟩
  · rw [hZ x, cy_gif id]
  · have : cy_n (fun _ => False) N = 0 := cy_n_0 fun _ _ => id
    rw [this, nI_0]
  · rw [s0 (fun _ => nI 0), Int32.add_zero]
  · rw [s0 (fun _ => 0), Int32.add_zero]
  · rw [cy_sf_in (by omega)]; exact m1.symm
  · rw [hZ x, cy_gif id]
  · rw [s0 (fun _ => 0), Int32.add_zero]
  · rw [cy_sf_in (by omega)]; exact m1.symm
theorem i_vc0 (k0 : Int32) (k1 : Int32) (k2 : Int32) (k3 : Int32) : wpX_init (fun u => wpY_init (fun v => i_Rel 4 u v) k0 k1 k2 k3) k0 k1 k2 k3 := by
  obtain ⟨N, hN, eN⟩ := cy_cp_n (p := k0) (a := 4) (b := 32) (A := 4) (B := 32) (by decide) (by decide) (by omega)
  obtain ⟨R, hR, eR⟩ := cy_cp_n (p := k2) (a := 2) (b := 8) (A := 2) (B := 8) (by decide) (by decide) (by omega)
  obtain ⟨W, hW, eW⟩ := cy_cp_n (p := k3) (a := 1) (b := 8) (A := 1) (B := 8) (by decide) (by decide) (by omega)
  unfold wpX_init
  refine cx_clamp ?_
  refine cx_clamp ?_
  refine cx_clamp ?_
  refine cx_clamp ?_
  rw [eN, eR, eW]
  refine cx_ini ?_
  unfold wpY_init
  refine cw_clamp ?_
  refine cw_clamp ?_
  refine cw_clamp ?_
  refine cw_clamp ?_
  rw [eN, eR, eW]
  refine cw_ini ?_
  exact cz_in (cz_0 hN hR hW (cy_cp k1 4 128) (fun _ => 0) (fun _ => rfl) _ _ _ _ _)
end
