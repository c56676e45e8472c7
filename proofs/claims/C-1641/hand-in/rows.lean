section
theorem pk_us {f : Nat → Int32} {k : Nat} {x : Int32} : upd f k x k = x := if_pos rfl
theorem pk_un {f : Nat → Int32} {k j : Nat} {x : Int32} (h : j ≠ k) : upd f k x j = f j := if_neg h
theorem pk_sub {a b : Nat} (h : b ≤ a) : nI a - nI b = nI (a - b) := by
  obtain ⟨c, rfl⟩ : ∃ c, a = c + b := ⟨a - b, by omega⟩
  rw [← nI_add, Int32.add_sub_cancel, Nat.add_sub_cancel]
theorem pk_m1 (n : Nat) : nI (n + 1) + (-1) = nI n := by
  rw [← nI_1, Int32.add_assoc, show (1 : Int32) + (-1) = 0 from rfl, Int32.add_zero]
theorem pk_mul (a b : Nat) : nI a * nI b = nI (a * b) := (Int32.ofNat_mul a b).symm
theorem pk_ix (x : Int32) {n : Nat} (hn : n < 2 ^ 31) : x < 0 ∨ nI n ≤ x ∨ ∃ j : Nat, j < n ∧ x = nI j := by
  by_cases h : x < 0
  · exact Or.inl h
  · obtain ⟨j, hj, rfl⟩ := nI_of h
    by_cases h2 : j < n
    · exact Or.inr (Or.inr ⟨j, h2, rfl⟩)
    · exact Or.inr (Or.inl (nI_le (by omega) hj))
theorem pk_le {x y : Int32} {A B : Prop} (a b : Nat) (f : a ≤ b → A) (g : b < a → B) (hx : x = nI a := by rfl) (hy : y = nI b := by rfl) (ha : a < 2 ^ 31 := by omega) (hb : b < 2 ^ 31 := by omega) : (x ≤ y → A) ∧ (¬ x ≤ y → B) := by
  subst hx hy
  rw [nI_leI ha hb]
  exact ⟨f, fun z => g (by omega)⟩
theorem pk_lt {x y : Int32} {A B : Prop} (a b : Nat) (f : a < b → A) (g : b ≤ a → B) (hx : x = nI a := by rfl) (hy : y = nI b := by rfl) (ha : a < 2 ^ 31 := by omega) (hb : b < 2 ^ 31 := by omega) : (x < y → A) ∧ (¬ x < y → B) := by
  subst hx hy
  rw [nI_ltI ha hb]
  exact ⟨f, fun z => g (by omega)⟩
theorem pk_eq {x y : Int32} {A B : Prop} (a b : Nat) (f : a = b → A) (g : a ≠ b → B) (hx : x = nI a := by rfl) (hy : y = nI b := by rfl) (ha : a < 2 ^ 31 := by omega) (hb : b < 2 ^ 31 := by omega) : (x = y → A) ∧ (¬ x = y → B) := by
  subst hx hy
  rw [nI_eq ha hb]
  exact ⟨f, g⟩
theorem pk_in {x : Int32} (n N : Nat) (h : n < N) (hx : x = nI n := by rfl) (hN : N < 2 ^ 31 := by omega) : vp_in x N := by
  subst hx
  exact vp_in_nI h hN
theorem pk_cl {x : Int32} (n : Nat) (hx : x = nI n := by rfl) (h : n < 2 ^ 31 := by omega) : x.toNatClampNeg = n := by
  subst hx
  exact nI_clamp h
end
section
/-! a classical 'if' on ints, sums, counts -/
noncomputable def rq_if (P : Prop) (x y : Int32) : Int32 := @ite Int32 P (Classical.propDecidable P) x y
theorem rq_t {P : Prop} {x y : Int32} (h : P) : rq_if P x y = x := by unfold rq_if; rw [if_pos h]
theorem rq_f {P : Prop} {x y : Int32} (h : ¬ P) : rq_if P x y = y := by unfold rq_if; rw [if_neg h]
theorem rq_c {P Q : Prop} {x y : Int32} (h : P ↔ Q) : rq_if P x y = rq_if Q x y := by rw [propext h]
theorem rq_0 {P : Prop} (h : rq_if P 1 0 = 0) : ¬ P := fun p => by rw [rq_t p] at h; exact absurd h (by decide)
theorem rq_1 {P : Prop} (h : ¬ rq_if P 1 0 = 0) : P := Classical.byContradiction fun p => h (rq_f p)
theorem rq_br {P A B : Prop} (a : ¬ P → A) (b : P → B) : (rq_if P 1 0 = 0 → A) ∧ (¬ rq_if P 1 0 = 0 → B) := ⟨fun h => a (rq_0 h), fun h => b (rq_1 h)⟩
noncomputable def rq_b (P : Prop) : Nat := @ite Nat P (Classical.propDecidable P) 1 0
theorem rq_bt {P : Prop} (h : P) : rq_b P = 1 := by unfold rq_b; rw [if_pos h]
theorem rq_bf {P : Prop} (h : ¬ P) : rq_b P = 0 := by unfold rq_b; rw [if_neg h]
theorem rq_b1 (P : Prop) : rq_b P ≤ 1 := by
  by_cases h : P
  · rw [rq_bt h]; omega
  · rw [rq_bf h]; omega

def rq_S (f : Nat → Int32) : Nat → Int32
  | 0 => 0
  | n + 1 => rq_S f n + f n
theorem rq_Sc {f g : Nat → Int32} : ∀ n, (∀ m, m < n → f m = g m) → rq_S f n = rq_S g n
  | 0, _ => rfl
  | n + 1, h => by
    show rq_S f n + f n = rq_S g n + g n
    rw [rq_Sc n (fun m hm => h m (by omega)), h n (by omega)]
theorem rq_Sa (f g : Nat → Int32) : ∀ n, rq_S (fun m => f m + g m) n = rq_S f n + rq_S g n
  | 0 => by show (0 : Int32) = 0 + 0; decide
  | n + 1 => by
    show rq_S (fun m => f m + g m) n + (f n + g n) = (rq_S f n + f n) + (rq_S g n + g n)
    rw [rq_Sa f g n]
    grind
theorem rq_S0 {f : Nat → Int32} : ∀ n, (∀ m, m < n → f m = 0) → rq_S f n = 0
  | 0, _ => rfl
  | n + 1, h => by
    show rq_S f n + f n = 0
    rw [rq_S0 n (fun m hm => h m (by omega)), h n (by omega)]
    decide
theorem rq_S1 {f : Nat → Int32} {k : Nat} : ∀ n, k < n → (∀ m, m < n → m ≠ k → f m = 0) → rq_S f n = f k
  | 0, hk, _ => absurd hk (by omega)
  | n + 1, hk, h => by
    show rq_S f n + f n = f k
    by_cases e : k = n
    · subst e
      rw [rq_S0 k (fun m hm => h m (by omega) (by omega)), Int32.zero_add]
    · rw [rq_S1 n (by omega) (fun m hm => h m (by omega)), h n (by omega) (by omega), Int32.add_zero]
theorem rq_Su {f : Nat → Int32} {k : Nat} : ∀ n, k < n → rq_S (upd f k (f k + 1)) n = rq_S f n + 1
  | 0, hk => absurd hk (by omega)
  | n + 1, hk => by
    show rq_S (upd f k (f k + 1)) n + upd f k (f k + 1) n = rq_S f n + f n + 1
    by_cases e : k = n
    · subst e
      rw [rq_Sc (f := upd f k (f k + 1)) (g := f) k (fun m hm => pk_un (by omega)), pk_us]
      grind
    · rw [rq_Su n (by omega), pk_un (by omega)]
      grind

noncomputable def rq_K (P : Nat → Prop) : Nat → Nat
  | 0 => 0
  | n + 1 => rq_K P n + rq_b (P n)
theorem rq_Kc {P Q : Nat → Prop} : ∀ n, (∀ m, m < n → (P m ↔ Q m)) → rq_K P n = rq_K Q n
  | 0, _ => rfl
  | n + 1, h => by
    show rq_K P n + rq_b (P n) = rq_K Q n + rq_b (Q n)
    rw [rq_Kc n (fun m hm => h m (by omega)), propext (h n (by omega))]
theorem rq_Ka {P Q : Nat → Prop} : ∀ n, (∀ m, m < n → P m → Q m → False) → rq_K (fun m => P m ∨ Q m) n = rq_K P n + rq_K Q n
  | 0, _ => rfl
  | n + 1, h => by
    show rq_K (fun m => P m ∨ Q m) n + rq_b (P n ∨ Q n) = (rq_K P n + rq_b (P n)) + (rq_K Q n + rq_b (Q n))
    rw [rq_Ka n (fun m hm => h m (by omega))]
    by_cases p : P n
    · have q : ¬ Q n := fun q => h n (by omega) p q
      rw [rq_bt (Or.inl p), rq_bt p, rq_bf q]; omega
    · by_cases q : Q n
      · rw [rq_bt (Or.inr q), rq_bt q, rq_bf p]; omega
      · rw [rq_bf (fun z => z.elim p q), rq_bf p, rq_bf q]; omega
theorem rq_Kle (P : Nat → Prop) : ∀ n, rq_K P n ≤ n
  | 0 => Nat.le_refl 0
  | n + 1 => by
    show rq_K P n + rq_b (P n) ≤ n + 1
    have := rq_Kle P n; have := rq_b1 (P n); omega
theorem rq_K0 {P : Nat → Prop} : ∀ n, (∀ m, m < n → ¬ P m) → rq_K P n = 0
  | 0, _ => rfl
  | n + 1, h => by
    show rq_K P n + rq_b (P n) = 0
    rw [rq_K0 n (fun m hm => h m (by omega)), rq_bf (h n (by omega))]
theorem rq_K1 {k : Nat} : ∀ n, k < n → rq_K (fun m => m = k) n = 1
  | 0, hk => absurd hk (by omega)
  | n + 1, hk => by
    show rq_K (fun m => m = k) n + rq_b (n = k) = 1
    by_cases e : n = k
    · rw [rq_bt e, rq_K0 n (fun m hm => by omega)]
    · rw [rq_bf e, rq_K1 n (by omega)]

/-! who is above whom -/
def rq_an (par : Nat → Nat) : Nat → Nat → Nat → Prop
  | 0, _, _ => False
  | d + 1, c, n => n ≠ 0 ∧ (par n = c ∨ rq_an par d c (par n))
def rq_A (par : Nat → Nat) (c n : Nat) : Prop := rq_an par 24 c n
def rq_W (N : Nat) (par : Nat → Nat) : Prop := N ≤ 24 ∧ ∀ n, 0 < n → n < N → par n < n

section
variable {N : Nat} {par : Nat → Nat}
theorem rq_an0 : ∀ d c, ¬ rq_an par d c 0
  | 0, _ => id
  | _ + 1, _ => fun h => h.1 rfl
theorem rq_anF (W : rq_W N par) : ∀ d e n c, n < N → n ≤ e → rq_an par d c n → rq_an par e c n := by
  intro d
  induction d with
  | zero => intro e n c _ _ h; exact h.elim
  | succ d ih =>
    intro e n c hn he h
    obtain ⟨h0, h⟩ := h
    cases e with
    | zero => omega
    | succ e =>
      have hp := W.2 n (by omega) hn
      exact ⟨h0, h.imp id (fun z => ih e (par n) c (by omega) (by omega) z)⟩
theorem rq_A0 {c : Nat} : ¬ rq_A par c 0 := rq_an0 24 c
theorem rq_As (W : rq_W N par) {c n : Nat} (h0 : 0 < n) (hn : n < N) : rq_A par c n ↔ par n = c ∨ rq_A par c (par n) := by
  have hp := W.2 n h0 hn
  have h24 := W.1
  constructor
  · intro h
    have h' : rq_an par (23 + 1) c n := h
    exact h'.2.imp id (fun z => rq_anF W 23 24 (par n) c (by omega) (by omega) z)
  · intro h
    show rq_an par (23 + 1) c n
    exact ⟨by omega, h.imp id (fun z => rq_anF W 24 23 (par n) c (by omega) (by omega) z)⟩
theorem rq_Alt (W : rq_W N par) {c : Nat} : ∀ n, n < N → rq_A par c n → c < n := by
  intro n
  induction n using Nat.strongRecOn with
  | _ n ih =>
    intro hn h
    by_cases h0 : n = 0
    · subst h0; exact absurd h rq_A0
    · have hp := W.2 n (by omega) hn
      rcases (rq_As W (by omega) hn).mp h with e | h
      · omega
      · have := ih (par n) hp (by omega) h; omega
theorem rq_Atr (W : rq_W N par) {a b : Nat} : ∀ n, n < N → rq_A par a b → rq_A par b n → rq_A par a n := by
  intro n
  induction n using Nat.strongRecOn with
  | _ n ih =>
    intro hn hab h
    by_cases h0 : n = 0
    · subst h0; exact absurd h rq_A0
    · have hp := W.2 n (by omega) hn
      refine (rq_As W (by omega) hn).mpr (Or.inr ?_)
      rcases (rq_As W (by omega) hn).mp h with e | h
      · rw [e]; exact hab
      · exact ih (par n) hp (by omega) hab h
theorem rq_Ach (W : rq_W N par) {x y : Nat} (hxy : x < y) : ∀ n, n < N → rq_A par x n → rq_A par y n → rq_A par x y := by
  intro n
  induction n using Nat.strongRecOn with
  | _ n ih =>
    intro hn hx hy
    by_cases h0 : n = 0
    · subst h0; exact absurd hx rq_A0
    · have hp := W.2 n (by omega) hn
      rcases (rq_As W (by omega) hn).mp hy with e | hy
      · rcases (rq_As W (by omega) hn).mp hx with e2 | hx
        · omega
        · rw [← e]; exact hx
      · rcases (rq_As W (by omega) hn).mp hx with e2 | hx
        · have := rq_Alt W (par n) (by omega) hy; omega
        · exact ih (par n) hp (by omega) hx hy
theorem rq_Art (W : rq_W N par) : ∀ n, 0 < n → n < N → rq_A par 0 n := by
  intro n
  induction n using Nat.strongRecOn with
  | _ n ih =>
    intro h0 hn
    have hp := W.2 n h0 hn
    refine (rq_As W h0 hn).mpr ?_
    by_cases e : par n = 0
    · exact Or.inl e
    · exact Or.inr (ih (par n) hp (by omega) (by omega))
/-- the child on the way down -/
theorem rq_Acd (W : rq_W N par) {x : Nat} : ∀ n, n < N → rq_A par x n → ∃ y, 0 < y ∧ y < N ∧ par y = x ∧ (n = y ∨ rq_A par y n) := by
  intro n
  induction n using Nat.strongRecOn with
  | _ n ih =>
    intro hn h
    by_cases h0 : n = 0
    · subst h0; exact absurd h rq_A0
    · have hp := W.2 n (by omega) hn
      rcases (rq_As W (by omega) hn).mp h with e | h
      · exact ⟨n, by omega, hn, e, Or.inl rfl⟩
      · obtain ⟨y, hy0, hyN, hyx, hy⟩ := ih (par n) hp (by omega) h
        refine ⟨y, hy0, hyN, hyx, Or.inr ((rq_As W (by omega) hn).mpr ?_)⟩
        rcases hy with hy | hy
        · exact Or.inl hy
        · exact Or.inr hy
theorem rq_Aup (W : rq_W N par) {x y n : Nat} (hy0 : 0 < y) (hyN : y < N) (hyx : par y = x) (hn : n < N) (h : n = y ∨ rq_A par y n) : rq_A par x n := by
  have hxy : rq_A par x y := (rq_As W hy0 hyN).mpr (Or.inl hyx)
  rcases h with h | h
  · rw [h]; exact hxy
  · exact rq_Atr W n hn hxy h

/-- x's later sisters and what is below them -/
def rq_DS (N : Nat) (par : Nat → Nat) (x m : Nat) : Prop := ∃ y, x < y ∧ y < N ∧ par y = par x ∧ (m = y ∨ rq_A par y m)
/-- x, what is below it, and the same of its later sisters -/
def rq_D (N : Nat) (par : Nat → Nat) (x m : Nat) : Prop := ∃ y, x ≤ y ∧ y < N ∧ par y = par x ∧ (m = y ∨ rq_A par y m)
theorem rq_Dx {x m : Nat} (hx : x < N) : rq_D N par x m ↔ (m = x ∨ rq_A par x m) ∨ rq_DS N par x m := by
  constructor
  · intro ⟨y, h1, h2, h3, h4⟩
    by_cases e : x = y
    · subst e; exact Or.inl h4
    · exact Or.inr ⟨y, by omega, h2, h3, h4⟩
  · intro h
    rcases h with h | ⟨y, h1, h2, h3, h4⟩
    · exact ⟨x, Nat.le_refl x, hx, rfl, h⟩
    · exact ⟨y, by omega, h2, h3, h4⟩
theorem rq_Dd1 (W : rq_W N par) {x : Nat} (hx : x < N) : ¬ rq_A par x x := fun h => by have := rq_Alt W x hx h; omega
theorem rq_Dd2 (W : rq_W N par) {x m : Nat} (hx : 0 < x) (hm : m < N) (h : m = x ∨ rq_A par x m) (h2 : rq_DS N par x m) : False := by
  obtain ⟨y, hxy, hyN, hp, h2⟩ := h2
  have px := W.2 x hx (by omega)
  have py := W.2 y (by omega) hyN
  have key : ¬ rq_A par x y := fun z => by
    rcases (rq_As W (by omega) hyN).mp z with e | z
    · omega
    · have := rq_Alt W (par y) (by omega) z; omega
  rcases h with h | h
  · subst h
    rcases h2 with h2 | h2
    · omega
    · have := rq_Alt W m hm h2; omega
  · rcases h2 with h2 | h2
    · subst h2; exact key h
    · exact key (rq_Ach W hxy m hm h h2)
/-- the first child: the least one -/
def rq_fst (N : Nat) (par : Nat → Nat) (p f : Nat) : Prop := 0 < f ∧ f < N ∧ par f = p ∧ ∀ z, 0 < z → z < N → par z = p → f ≤ z
theorem rq_Dfst (W : rq_W N par) {p f m : Nat} (hf : rq_fst N par p f) (hm : m < N) : rq_A par p m ↔ rq_D N par f m := by
  obtain ⟨h0, hN, hp, hl⟩ := hf
  constructor
  · intro h
    obtain ⟨y, hy0, hyN, hyx, hy⟩ := rq_Acd W m hm h
    exact ⟨y, hl y hy0 hyN hyx, hyN, by omega, hy⟩
  · intro ⟨y, h1, h2, h3, h4⟩
    exact rq_Aup W (by omega) h2 (by omega) hm h4
theorem rq_Dnil (W : rq_W N par) {p m : Nat} (hf : ∀ z, 0 < z → z < N → par z ≠ p) (hm : m < N) : ¬ rq_A par p m := fun h => by
  obtain ⟨y, hy0, hyN, hyx, hy⟩ := rq_Acd W m hm h
  exact hf y hy0 hyN hyx
/-- the next sister -/
def rq_nxt (N : Nat) (par : Nat → Nat) (x s : Nat) : Prop := x < s ∧ s < N ∧ par s = par x ∧ ∀ z, x < z → z < N → par z = par x → s ≤ z
theorem rq_Dnxt {x s m : Nat} (hs : rq_nxt N par x s) : rq_DS N par x m ↔ rq_D N par s m := by
  obtain ⟨h0, hN, hp, hl⟩ := hs
  constructor
  · intro ⟨y, h1, h2, h3, h4⟩
    exact ⟨y, hl y h1 h2 h3, h2, by omega, h4⟩
  · intro ⟨y, h1, h2, h3, h4⟩
    exact ⟨y, by omega, h2, by omega, h4⟩
theorem rq_Dlast {x m : Nat} (hs : ∀ z, x < z → z < N → par z ≠ par x) : ¬ rq_DS N par x m := fun ⟨y, h1, h2, h3, _⟩ => hs y h1 h2 h3
end
end
section
/-! the pictures: what a run gives, from each node's place in the tree -/
def rq_PS (par : Nat → Nat) (aH : Nat → Int32) (n w : Nat) : Prop := ∀ c, rq_A par c n → aH (c * 4 + w) ≤ 1
def rq_SEL (par : Nat → Nat) (aT g aD : Nat → Int32) (tg : Int32) (t : Nat) : Prop := ¬ aT t = 0 ∧ ¬ g t &&& tg = 0 ∧ aD t = 0 ∧ ∀ c, rq_A par c t → aD c = 0
def rq_USE (N : Nat) (par : Nat → Nat) (aT g aD : Nat → Int32) (tg : Int32) (c : Nat) : Prop := ∃ t, t < N ∧ rq_A par c t ∧ rq_SEL par aT g aD tg t
def rq_TP (N : Nat) (par : Nat → Nat) (aT g aD : Nat → Int32) (tg : Int32) (n : Nat) : Prop := rq_SEL par aT g aD tg n ∨ rq_USE N par aT g aD tg n
def rq_RUN (N : Nat) (par : Nat → Nat) (aT g aD aH : Nat → Int32) (tg : Int32) (n : Nat) : Prop := n < N ∧ rq_TP N par aT g aD tg n ∧ rq_PS par aH n 0
def rq_HAS (par : Nat → Nat) (aH : Nat → Int32) (t : Nat) (own v : Int32) : Prop := (∃ c, rq_A par c t ∧ rq_PS par aH c 2 ∧ (aH (c * 4 + 2) = v ∨ aH (c * 4 + 3) = v)) ∨ (own = v ∧ rq_PS par aH t 2)
noncomputable def rq_ST (P Q : Prop) : Int32 := rq_if P 2 (rq_if Q 3 1)
noncomputable def rq_AR (par : Nat → Nat) (aH : Nat → Int32) (t : Nat) (own : Int32) : Int32 := rq_ST (rq_HAS par aH t own 2) (rq_HAS par aH t own 3)
def rq_ow (o : Int32) (i : Nat) : Int32 := (o >>> ((2 * nI i) &&& 31)) &&& 3
def rq_TR (f : Nat → Int32) : Nat → Nat → Int32 → Int32 × Nat
  | 0, i, r => (r, i)
  | d + 1, i, r => if r = 2 then rq_TR f d (i + 1) (f i) else (r, i)
/-- a test's attempts: its result and how many -/
noncomputable def rq_TT (par : Nat → Nat) (aH tr o : Nat → Int32) (t : Nat) : Int32 × Nat := rq_TR (fun i => rq_AR par aH t (rq_ow (o t) i)) (tr t).toNatClampNeg 0 2
noncomputable def rq_CR (aH : Nat → Int32) (c : Nat) : Int32 := rq_ST (aH (c * 4) = 2 ∨ aH (c * 4 + 1) = 2) (aH (c * 4) = 3 ∨ aH (c * 4 + 1) = 3)
noncomputable def rq_res (par : Nat → Nat) (aT aH tr o : Nat → Int32) (m : Nat) : Int32 := rq_if (aT m = 0) (rq_CR aH m) (rq_TT par aH tr o m).1
/-- what one attempt for t adds at j -/
noncomputable def rq_dl (par : Nat → Nat) (aH : Nat → Int32) (t j : Nat) : Int32 := rq_if ((∃ c, rq_A par c t ∧ rq_PS par aH c 2 ∧ (j = c * 4 + 2 ∨ j = c * 4 + 3) ∧ ¬ aH j = 0) ∨ (j = t * 4 ∧ rq_PS par aH t 2)) 1 0
/-- what a node that runs adds at j -/
noncomputable def rq_ct (par : Nat → Nat) (aT aH tr o : Nat → Int32) (m j : Nat) : Int32 := rq_if (aT m = 0) (rq_if ((j = m * 4 ∨ j = m * 4 + 1) ∧ ¬ aH j = 0) 1 0) (nI (rq_TT par aH tr o m).2 * rq_dl par aH m j)
def rq_HK (aH : Nat → Int32) : Prop := ∀ j, aH j = 0 ∨ aH j = 1 ∨ aH j = 2 ∨ aH j = 3
def rq_PP (N : Nat) (par : Nat → Nat) (aT aP : Nat → Int32) : Prop := aP 0 = -1 ∧ aT 0 = 0 ∧ ∀ n, 0 < n → n < N → aP n = nI (par n) ∧ aT (par n) = 0

theorem rq_le1 {x : Int32} (h : x = 0 ∨ x = 1 ∨ x = 2 ∨ x = 3) : x ≤ 1 ↔ ¬ x = 2 ∧ ¬ x = 3 := by
  rcases h with h | h | h | h <;> subst h <;> decide
theorem rq_STc {P Q P' Q' : Prop} (h : P ↔ P') (k : Q ↔ Q') : rq_ST P Q = rq_ST P' Q' := by rw [propext h, propext k]
theorem rq_ST1 {P Q : Prop} : rq_ST P Q = 1 ↔ ¬ P ∧ ¬ Q := by
  unfold rq_ST
  by_cases p : P
  · rw [rq_t p]; exact ⟨fun h => absurd h (by decide), fun h => absurd p h.1⟩
  · rw [rq_f p]
    by_cases q : Q
    · rw [rq_t q]; exact ⟨fun h => absurd h (by decide), fun h => absurd q h.2⟩
    · rw [rq_f q]; exact ⟨fun _ => ⟨p, q⟩, fun _ => rfl⟩
theorem rq_STv (P Q : Prop) : rq_ST P Q = 1 ∨ rq_ST P Q = 2 ∨ rq_ST P Q = 3 := by
  unfold rq_ST
  by_cases p : P
  · rw [rq_t p]; exact Or.inr (Or.inl rfl)
  · rw [rq_f p]
    by_cases q : Q
    · rw [rq_t q]; exact Or.inr (Or.inr rfl)
    · rw [rq_f q]; exact Or.inl rfl
/-- a failure counts more than an abort -/
def rq_wo (r o : Int32) : Int32 := if r = 2 ∨ o = 2 then 2 else if r = 3 ∨ o = 3 then 3 else 1
theorem rq_woS {P Q : Prop} {o : Int32} : rq_wo (rq_ST P Q) o = rq_ST (P ∨ o = 2) (Q ∨ o = 3) := by
  unfold rq_wo rq_ST
  by_cases p : P
  · rw [rq_t p, rq_t (Or.inl p), if_pos (Or.inl rfl)]
  · rw [rq_f p]
    by_cases e : o = 2
    · rw [if_pos (Or.inr e), rq_t (Or.inr e)]
    · rw [rq_f (P := P ∨ o = 2) (fun z => z.elim p e)]
      by_cases q : Q
      · rw [rq_t q, rq_t (Or.inl q), if_neg (fun z => z.elim (by decide) e), if_pos (Or.inl rfl)]
      · rw [rq_f q, if_neg (fun z => z.elim (by decide) e)]
        by_cases e3 : o = 3
        · rw [if_pos (Or.inr e3), rq_t (Or.inr e3)]
        · rw [if_neg (fun z => z.elim (by decide) e3), rq_f (fun z => z.elim q e3)]
theorem rq_wo1 {o : Int32} : rq_wo 1 o = rq_ST (o = 2) (o = 3) := by
  have h : (1 : Int32) = rq_ST False False := (rq_ST1.mpr ⟨id, id⟩).symm
  rw [h, rq_woS]
  exact rq_STc ⟨fun z => z.elim False.elim id, Or.inr⟩ ⟨fun z => z.elim False.elim id, Or.inr⟩
theorem rq_uu {f : Nat → Int32} {k : Nat} {x y : Int32} : upd (upd f k x) k y = upd f k y := by
  funext j
  unfold upd
  by_cases e : j = k
  · rw [if_pos e, if_pos e]
  · rw [if_neg e, if_neg e, if_neg e]
theorem rq_TRc {f g : Nat → Int32} : ∀ d i r, (∀ a, a < i + d → f a = g a) → rq_TR f d i r = rq_TR g d i r
  | 0, _, _, _ => rfl
  | d + 1, i, r, h => by
    show (if r = 2 then rq_TR f d (i + 1) (f i) else (r, i)) = (if r = 2 then rq_TR g d (i + 1) (g i) else (r, i))
    rw [h i (by omega), rq_TRc d (i + 1) (g i) (fun a ha => h a (by omega))]
theorem rq_TRv {f : Nat → Int32} (hf : ∀ i, f i = 1 ∨ f i = 2 ∨ f i = 3) : ∀ d i r, (r = 1 ∨ r = 2 ∨ r = 3) → (rq_TR f d i r).1 = 1 ∨ (rq_TR f d i r).1 = 2 ∨ (rq_TR f d i r).1 = 3
  | 0, _, _, h => h
  | d + 1, i, r, h => by
    show (if r = 2 then rq_TR f d (i + 1) (f i) else (r, i)).1 = 1 ∨ (if r = 2 then rq_TR f d (i + 1) (f i) else (r, i)).1 = 2 ∨ (if r = 2 then rq_TR f d (i + 1) (f i) else (r, i)).1 = 3
    by_cases e : r = 2
    · rw [if_pos e]; exact rq_TRv hf d (i + 1) (f i) (hf i)
    · rw [if_neg e]; exact h
theorem rq_TRs {f : Nat → Int32} {r : Int32} (h : ¬ r = 2) : ∀ d i, rq_TR f d i r = (r, i)
  | 0, _ => rfl
  | _ + 1, i => by
    show (if r = 2 then _ else (r, i)) = (r, i)
    rw [if_neg h]
end
section
/-! the reference's questions about the tree -/
section
variable {N : Nat} {par : Nat → Nat} {aT aP aD aH tY oY gY aR aC aM : Nat → Int32} {post : Int32 → Prop}
theorem ry_ab {c : Nat} (W : rq_W N par) (hP : rq_PP N par aT aP) (hc : c < 24) : ∀ d n i : Nat, n < N → n ≤ d → i + n ≤ 23 → post (rq_if (rq_A par c n) 1 0) → wY_above_10 post (nI c) (nI N) aT aP aD aH tY oY gY aR aC aM (d + 1) (aP n) (nI i) := by
  intro d
  induction d with
  | zero =>
    intro n i hn hd hi hp
    obtain rfl : n = 0 := by omega
    rw [rq_f rq_A0] at hp
    rw [hP.1]
    exact br_f (nI_ge (b := 24) (by omega) (by omega)) (br_t (by decide) hp)
  | succ d ih =>
    intro n i hn hd hi hp
    have hN := W.1
    by_cases h0 : n = 0
    · subst h0
      rw [rq_f rq_A0] at hp
      rw [hP.1]
      exact br_f (nI_ge (b := 24) (by omega) (by omega)) (br_t (by decide) hp)
    · have hq := W.2 n (by omega) hn
      rw [(hP.2.2 n (by omega) hn).1]
      refine br_f (nI_ge (b := 24) (by omega) (by omega)) (br_f (nI_pos (by omega)) ?_)
      by_cases e : par n = c
      · rw [rq_t ((rq_As W (by omega) hn).mpr (Or.inl e))] at hp
        exact br_t (by rw [e]) hp
      · refine br_f (fun z => e ((nI_eq (by omega) (by omega)).mp z)) ⟨vp_in_nI (by omega) (by omega), ?_⟩
        rw [nI_clamp (by omega)]
        refine nm_e (nm_r (nI_1 i) ?_)
        refine ih (par n) (i + 1) (by omega) (by omega) (by omega) ?_
        rw [rq_c ((rq_As W (by omega) hn).trans ⟨fun z => z.elim (fun z => absurd z e) id, Or.inr⟩)] at hp
        exact hp
theorem ry_above {c n : Nat} (W : rq_W N par) (hP : rq_PP N par aT aP) (hc : c < 24) (hn : n < N) (hp : post (rq_if (rq_A par c n) 1 0)) : wpY_above post (nI N, aT, aP, aD, aH, tY, oY, gY, aR, aC, aM) (nI c) (nI n) := by
  have hN := W.1
  refine ⟨vp_in_nI (by omega) (by omega), ?_⟩
  rw [nI_clamp (by omega)]
  exact nm_e ⟨n + 1, ry_ab W hP hc n n 0 hn (by omega) (by omega) hp⟩
theorem ry_sl {t : Nat} (W : rq_W N par) (hP : rq_PP N par aT aP) (ht : t < N) : ∀ d c : Nat, c + d = N → post (rq_if (∀ a, c ≤ a → rq_A par a t → aD a = 0) 1 0) → wY_selected_33 post (nI t) (nI N) aT aP aD aH tY oY gY aR aC aM (d + 1) (nI c) := by
  intro d
  induction d with
  | zero =>
    intro c hd hp
    have hN := W.1
    rw [rq_t (fun a ha h => by have := rq_Alt W t ht h; omega)] at hp
    exact br_t (nI_le (by omega) (by omega)) hp
  | succ d ih =>
    intro c hd hp
    have hN := W.1
    refine br_f (nI_ge (by omega) (by omega)) ⟨vp_in_nI (by omega) (by omega), ?_⟩
    rw [nI_clamp (by omega)]
    have go : (rq_A par c t → aD c = 0) → wY_selected_33 post (nI t) (nI N) aT aP aD aH tY oY gY aR aC aM (d + 1) (nI (c + 1)) := fun h => by
      refine ih (c + 1) (by omega) ?_
      rw [rq_c (Q := ∀ a, c ≤ a → rq_A par a t → aD a = 0) ⟨fun z a ha k => by
        by_cases e : a = c
        · subst e; exact h k
        · exact z a (by omega) k, fun z a ha k => z a (by omega) k⟩]
      exact hp
    refine br_c (fun h => nm_r (nI_1 c) (go fun _ => h)) (fun h => ?_)
    refine ry_above W hP (by omega) ht ?_
    refine rq_br (fun k => nm_r (nI_1 c) (go fun k2 => absurd k2 k)) (fun k => ?_)
    rw [rq_f (fun z => h (z c (Nat.le_refl c) k))] at hp
    exact hp
theorem ry_selected {t : Nat} {tg : Int32} (W : rq_W N par) (hP : rq_PP N par aT aP) (ht : t < N) (hp : post (rq_if (rq_SEL par aT gY aD tg t) 1 0)) : wpY_selected post (nI N, aT, aP, aD, aH, tY, oY, gY, aR, aC, aM) (nI t) tg := by
  have hN := W.1
  refine ⟨vp_in_nI (by omega) (by omega), ?_⟩
  rw [nI_clamp (by omega)]
  refine br_c (fun h => ?_) (fun h => ⟨vp_in_nI (by omega) (by omega), br_c (fun h2 => ?_) (fun h2 => ⟨vp_in_nI (by omega) (by omega), br_c (fun h3 => ⟨N + 1, ?_⟩) (fun h3 => ?_)⟩)⟩)
  · rw [rq_f (fun z => z.1 h)] at hp; exact hp
  · rw [rq_f (fun z => z.2.1 h2)] at hp; exact hp
  · refine ry_sl W hP ht N 0 (by omega) ?_
    rw [rq_c (Q := rq_SEL par aT gY aD tg t) ⟨fun z => ⟨h, h2, h3, fun c k => z c (by omega) k⟩, fun z a _ k => z.2.2.2 a k⟩]
    exact hp
  · rw [rq_f (fun z => h3 z.2.2.1)] at hp; exact hp
theorem ry_ps {n w : Nat} (W : rq_W N par) (hP : rq_PP N par aT aP) (hn : n < N) (hw : w < 4) : ∀ d c : Nat, c + d = N → post (rq_if (∀ a, c ≤ a → rq_A par a n → aH (a * 4 + w) ≤ 1) 1 0) → wY_passes_2 post (nI n) (nI w) (nI N) aT aP aD aH tY oY gY aR aC aM (d + 1) (nI c) := by
  intro d
  induction d with
  | zero =>
    intro c hd hp
    have hN := W.1
    rw [rq_t (fun a ha h => by have := rq_Alt W n hn h; omega)] at hp
    exact br_t (nI_le (by omega) (by omega)) hp
  | succ d ih =>
    intro c hd hp
    have hN := W.1
    have go : (rq_A par c n → aH (c * 4 + w) ≤ 1) → wY_passes_2 post (nI n) (nI w) (nI N) aT aP aD aH tY oY gY aR aC aM (d + 1) (nI (c + 1)) := fun h => by
      refine ih (c + 1) (by omega) ?_
      rw [rq_c (Q := ∀ a, c ≤ a → rq_A par a n → aH (a * 4 + w) ≤ 1) ⟨fun z a ha k => by
        by_cases e : a = c
        · subst e; exact h k
        · exact z a (by omega) k, fun z a ha k => z a (by omega) k⟩]
      exact hp
    refine br_f (nI_ge (by omega) (by omega)) ?_
    refine ry_above W hP (by omega) hn ?_
    refine rq_br (fun k => nm_r (nI_1 c) (go fun k2 => absurd k2 k)) (fun k => ?_)
    have e4 : nI c * 4 + nI w = nI (c * 4 + w) := by rw [show (4 : Int32) = nI 4 from rfl, pk_mul, nI_add]
    rw [e4, nI_clamp (by omega)]
    refine ⟨vp_in_nI (by omega) (by omega), br_c (fun h => nm_r (nI_1 c) (go fun _ => h)) (fun h => ?_)⟩
    rw [rq_f (fun z => h (z c (Nat.le_refl c) k))] at hp
    exact hp
theorem ry_passes {n w : Nat} (W : rq_W N par) (hP : rq_PP N par aT aP) (hn : n < N) (hw : w < 4) (hp : post (rq_if (rq_PS par aH n w) 1 0)) : wpY_passes post (nI N, aT, aP, aD, aH, tY, oY, gY, aR, aC, aM) (nI n) (nI w) := by
  refine ⟨N + 1, ry_ps W hP hn hw N 0 (by omega) ?_⟩
  rw [rq_c (Q := rq_PS par aH n w) ⟨fun z c k => z c (by omega) k, fun z a _ k => z a k⟩]
  exact hp
theorem ry_us {c : Nat} {tg : Int32} (W : rq_W N par) (hP : rq_PP N par aT aP) (hc : c < N) : ∀ d t : Nat, t + d = N → post (rq_if (∃ a, t ≤ a ∧ a < N ∧ rq_A par c a ∧ rq_SEL par aT gY aD tg a) 1 0) → wY_inUse_2 post (nI c) tg (nI N) aT aP aD aH tY oY gY aR aC aM (d + 1) (nI t) := by
  intro d
  induction d with
  | zero =>
    intro t hd hp
    have hN := W.1
    rw [rq_f (fun ⟨a, h1, h2, _⟩ => by omega)] at hp
    exact br_t (nI_le (by omega) (by omega)) hp
  | succ d ih =>
    intro t hd hp
    have hN := W.1
    have go : ¬ (rq_A par c t ∧ rq_SEL par aT gY aD tg t) → wY_inUse_2 post (nI c) tg (nI N) aT aP aD aH tY oY gY aR aC aM (d + 1) (nI (t + 1)) := fun h => by
      refine ih (t + 1) (by omega) ?_
      rw [rq_c (Q := ∃ a, t ≤ a ∧ a < N ∧ rq_A par c a ∧ rq_SEL par aT gY aD tg a) ⟨fun ⟨a, h1, h2⟩ => ⟨a, by omega, h2⟩, fun ⟨a, h1, h2, h3⟩ => by
        by_cases e : a = t
        · subst e; exact absurd h3 h
        · exact ⟨a, by omega, h2, h3⟩⟩]
      exact hp
    refine br_f (nI_ge (by omega) (by omega)) ?_
    refine ry_above W hP (by omega) (by omega) ?_
    refine rq_br (fun k => nm_r (nI_1 t) (go fun k2 => k k2.1)) (fun k => ?_)
    refine ry_selected W hP (by omega) ?_
    refine rq_br (fun k2 => nm_r (nI_1 t) (go fun k3 => k2 k3.2)) (fun k2 => ?_)
    rw [rq_t ⟨t, Nat.le_refl t, by omega, k, k2⟩] at hp
    exact hp
theorem ry_inUse {c : Nat} {tg : Int32} (W : rq_W N par) (hP : rq_PP N par aT aP) (hc : c < N) (hp : post (rq_if (rq_USE N par aT gY aD tg c) 1 0)) : wpY_inUse post (nI N, aT, aP, aD, aH, tY, oY, gY, aR, aC, aM) (nI c) tg := by
  refine ⟨N + 1, ry_us W hP hc N 0 (by omega) ?_⟩
  rw [rq_c (Q := rq_USE N par aT gY aD tg c) ⟨fun ⟨a, _, h⟩ => ⟨a, h⟩, fun ⟨a, h⟩ => ⟨a, by omega, h⟩⟩]
  exact hp
theorem ry_hs {t : Nat} {own v : Int32} (W : rq_W N par) (hP : rq_PP N par aT aP) (ht : t < N) : ∀ d c : Nat, c + d = N → post (rq_if ((∃ a, c ≤ a ∧ rq_A par a t ∧ rq_PS par aH a 2 ∧ (aH (a * 4 + 2) = v ∨ aH (a * 4 + 3) = v)) ∨ (own = v ∧ rq_PS par aH t 2)) 1 0) → wY_has_3 post (nI t) own v (nI N) aT aP aD aH tY oY gY aR aC aM (d + 1) (nI c) := by
  intro d
  induction d with
  | zero =>
    intro c hd hp
    have hN := W.1
    have no : ¬ ∃ a, c ≤ a ∧ rq_A par a t ∧ rq_PS par aH a 2 ∧ (aH (a * 4 + 2) = v ∨ aH (a * 4 + 3) = v) := fun ⟨a, h1, h2, _⟩ => by
      have := rq_Alt W t ht h2; omega
    refine br_t (nI_le (by omega) (by omega)) (br_c (fun h => ?_) (fun h => ?_))
    · refine ry_passes (w := 2) W hP ht (by omega) ?_
      refine rq_br (fun k => ?_) (fun k => ?_)
      · rw [rq_f (fun z => z.elim no (fun z => k z.2))] at hp; exact hp
      · rw [rq_t (Or.inr ⟨h, k⟩)] at hp; exact hp
    · rw [rq_f (fun z => z.elim no (fun z => h z.1))] at hp; exact hp
  | succ d ih =>
    intro c hd hp
    have hN := W.1
    have go : ¬ (rq_A par c t ∧ rq_PS par aH c 2 ∧ (aH (c * 4 + 2) = v ∨ aH (c * 4 + 3) = v)) → wY_has_3 post (nI t) own v (nI N) aT aP aD aH tY oY gY aR aC aM (d + 1) (nI (c + 1)) := fun h => by
      refine ih (c + 1) (by omega) ?_
      rw [rq_c (Q := (∃ a, c ≤ a ∧ rq_A par a t ∧ rq_PS par aH a 2 ∧ (aH (a * 4 + 2) = v ∨ aH (a * 4 + 3) = v)) ∨ (own = v ∧ rq_PS par aH t 2)) ⟨fun z => z.imp (fun ⟨a, h1, h2⟩ => ⟨a, by omega, h2⟩) id, fun z => z.imp (fun ⟨a, h1, h2⟩ => by
        by_cases e : a = c
        · subst e; exact absurd h2 h
        · exact ⟨a, by omega, h2⟩) id⟩]
      exact hp
    refine br_f (nI_ge (by omega) (by omega)) ?_
    refine ry_above W hP (by omega) ht ?_
    refine rq_br (fun k => nm_r (nI_1 c) (go fun k2 => k k2.1)) (fun k => ?_)
    have hct := rq_Alt W t ht k
    refine ry_passes (w := 2) W hP (by omega) (by omega) ?_
    refine rq_br (fun k2 => nm_r (nI_1 c) (go fun k3 => k2 k3.2.1)) (fun k2 => ?_)
    have e2 : nI c * 4 + 2 = nI (c * 4 + 2) := by rw [show (4 : Int32) = nI 4 from rfl, show (2 : Int32) = nI 2 from rfl, pk_mul, nI_add]
    have e3 : nI c * 4 + 3 = nI (c * 4 + 3) := by rw [show (4 : Int32) = nI 4 from rfl, show (3 : Int32) = nI 3 from rfl, pk_mul, nI_add]
    rw [e2, e3, nI_clamp (by omega), nI_clamp (by omega)]
    refine ⟨vp_in_nI (by omega) (by omega), br_c (fun h => ?_) (fun h => ⟨vp_in_nI (by omega) (by omega), br_c (fun h2 => ?_) (fun h2 => nm_r (nI_1 c) (go fun k3 => k3.2.2.elim h h2))⟩)⟩
    · rw [rq_t (Or.inl ⟨c, Nat.le_refl c, k, k2, Or.inl h⟩)] at hp; exact hp
    · rw [rq_t (Or.inl ⟨c, Nat.le_refl c, k, k2, Or.inr h2⟩)] at hp; exact hp
theorem ry_has {t : Nat} {own v : Int32} (W : rq_W N par) (hP : rq_PP N par aT aP) (ht : t < N) (hp : post (rq_if (rq_HAS par aH t own v) 1 0)) : wpY_has post (nI N, aT, aP, aD, aH, tY, oY, gY, aR, aC, aM) (nI t) own v := by
  refine ⟨N + 1, ry_hs W hP ht N 0 (by omega) ?_⟩
  rw [rq_c (Q := rq_HAS par aH t own v) ⟨fun z => z.imp (fun ⟨a, _, h⟩ => ⟨a, h⟩) id, fun z => z.imp (fun ⟨a, h⟩ => ⟨a, by omega, h⟩) id⟩]
  exact hp
end
end
section
/-! the reference's methods that store -/
theorem rq_i4 (c w : Nat) : nI c * 4 + nI w = nI (c * 4 + w) := by rw [show (4 : Int32) = nI 4 from rfl, pk_mul, nI_add]
theorem rq_i40 (c : Nat) : nI c * 4 = nI (c * 4) := by rw [show (4 : Int32) = nI 4 from rfl, pk_mul]
theorem rq_i41 (c : Nat) : nI c * 4 + 1 = nI (c * 4 + 1) := rq_i4 c 1
theorem rq_i42 (c : Nat) : nI c * 4 + 2 = nI (c * 4 + 2) := rq_i4 c 2
theorem rq_i43 (c : Nat) : nI c * 4 + 3 = nI (c * 4 + 3) := rq_i4 c 3
section
variable {N : Nat} {par : Nat → Nat} {aT aP aD aH tY oY gY aR aC aM : Nat → Int32} {post : SY → Prop}
theorem ry_rc80 {c : Nat} {h0 h1 : Int32} {r : Int32} (hc : c < 24) (hp : post (nI N, aT, aP, aD, aH, tY, oY, gY, upd aR c (rq_if (h0 = 2 ∨ h1 = 2) 2 r), aC, aM)) : wY_runContainer_80 post (nI c) h0 h1 (nI N) aT aP aD aH tY oY gY (upd aR c r) aC aM := by
  unfold wY_runContainer_80
  rw [nI_clamp (by omega)]
  refine br_c (fun h => ⟨vp_in_nI (by omega) (by omega), nm_r rq_uu ?_⟩) (fun h => br_c (fun h' => ⟨vp_in_nI (by omega) (by omega), nm_r rq_uu ?_⟩) (fun h' => ?_))
  · rw [rq_t (Or.inl h)] at hp; exact hp
  · rw [rq_t (Or.inr h')] at hp; exact hp
  · rw [rq_f (fun z => z.elim h h')] at hp; exact hp
theorem ry_rc73 {c : Nat} {h0 h1 : Int32} (hc : c < 24) (hp : post (nI N, aT, aP, aD, aH, tY, oY, gY, upd aR c (rq_if (h0 = 2 ∨ h1 = 2) 2 3), aC, aM)) : wY_runContainer_73 post (nI c) h0 h1 (nI N) aT aP aD aH tY oY gY (upd aR c 1) aC aM := by
  unfold wY_runContainer_73
  rw [nI_clamp (by omega)]
  exact ⟨vp_in_nI (by omega) (by omega), nm_r rq_uu (ry_rc80 hc hp)⟩
theorem ry_rc55 {c j : Nat} {h0 h1 z : Int32} (hc : c < 24) (hj : j < 96) (hp : post (nI N, aT, aP, aD, aH, tY, oY, gY, upd aR c (rq_ST (h0 = 2 ∨ h1 = 2) (h0 = 3 ∨ h1 = 3)), upd aC j z, aM)) : wY_runContainer_55 post (nI c) h0 h1 z (nI j) (nI N) aT aP aD aH tY oY gY aR aC aM := by
  unfold wY_runContainer_55
  unfold rq_ST at hp
  rw [nI_clamp (n := j) (by omega), nI_clamp (n := c) (by omega)]
  refine ⟨vp_in_nI (by omega) (by omega), nm_e ⟨vp_in_nI (by omega) (by omega), nm_e (br_c (fun h => ry_rc73 hc ?_) (fun h => br_c (fun h' => ry_rc73 hc ?_) (fun h' => ry_rc80 hc ?_)))⟩⟩
  · rw [rq_t (P := h0 = 3 ∨ h1 = 3) (Or.inl h)] at hp; exact hp
  · rw [rq_t (P := h0 = 3 ∨ h1 = 3) (Or.inr h')] at hp; exact hp
  · rw [rq_f (P := h0 = 3 ∨ h1 = 3) (fun z => z.elim h h')] at hp; exact hp
theorem ry_rc36 {c j : Nat} {h0 h1 z : Int32} (hc : c < 24) (hj : j < 96) (hp : post (nI N, aT, aP, aD, aH, tY, oY, gY, upd aR c (rq_ST (h0 = 2 ∨ h1 = 2) (h0 = 3 ∨ h1 = 3)), upd (upd aC j z) (c * 4 + 1) (rq_if (h1 = 0) 0 1), aM)) : wY_runContainer_36 post (nI c) h0 h1 z (nI j) (nI N) aT aP aD aH tY oY gY aR aC aM := by
  unfold wY_runContainer_36
  rw [nI_clamp (n := j) (by omega), rq_i41]
  refine ⟨vp_in_nI (by omega) (by omega), nm_e (br_c (fun h => ry_rc55 hc (by omega) ?_) (fun h => ry_rc55 hc (by omega) ?_))⟩
  · rw [rq_t h] at hp; exact hp
  · rw [rq_f h] at hp; exact hp
theorem ry_runContainer {c : Nat} (hc : c < 24) (hp : post (nI N, aT, aP, aD, aH, tY, oY, gY, upd aR c (rq_CR aH c), upd (upd aC (c * 4) (rq_if (aH (c * 4) = 0) 0 1)) (c * 4 + 1) (rq_if (aH (c * 4 + 1) = 0) 0 1), aM)) : wpY_runContainer post (nI N, aT, aP, aD, aH, tY, oY, gY, aR, aC, aM) (nI c) := by
  unfold wpY_runContainer
  dsimp only
  rw [rq_i41, rq_i40, nI_clamp (n := c * 4) (by omega), nI_clamp (n := c * 4 + 1) (by omega)]
  refine ⟨vp_in_nI (by omega) (by omega), nm_e ⟨vp_in_nI (by omega) (by omega), nm_e (br_c (fun h => ry_rc36 hc (by omega) ?_) (fun h => ry_rc36 hc (by omega) ?_))⟩⟩
  · rw [rq_t h] at hp; exact hp
  · rw [rq_f h] at hp; exact hp

theorem ry_rt {t : Nat} (W : rq_W N par) (hP : rq_PP N par aT aP) (ht : t < N) (K : Nat) (hK : K < 24) (hr : tY t = nI K) : ∀ d i k : Nat, ∀ r : Int32, i + d = K → (r = 2 → k = i) →
    post (nI N, aT, aP, aD, aH, tY, oY, gY, upd aR t (if r = 2 then rq_TR (fun i => rq_AR par aH t (rq_ow (oY t) i)) d i r else (r, k)).1, upd aC (t * 4) (rq_if (rq_PS par aH t 2) (nI (if r = 2 then rq_TR (fun i => rq_AR par aH t (rq_ow (oY t) i)) d i r else (r, k)).2) 0), upd aM t (nI (if r = 2 then rq_TR (fun i => rq_AR par aH t (rq_ow (oY t) i)) d i r else (r, k)).2)) →
    wY_runTest_7 post (nI t) (nI N) aT aP aD aH tY oY gY aR aC aM (d + 1) (nI k) r (nI i) := by
  intro d
  induction d with
  | zero =>
    intro i k r hd hk hp
    have hN := W.1
    have e : (if r = 2 then rq_TR (fun i => rq_AR par aH t (rq_ow (oY t) i)) 0 i r else (r, k)) = (r, k) := by
      by_cases e : r = 2
      · rw [if_pos e, hk e]; rfl
      · rw [if_neg e]
    rw [e] at hp
    unfold wY_runTest_7
    rw [nI_clamp (by omega), hr, rq_i40, nI_clamp (n := t * 4) (by omega)]
    refine ⟨vp_in_nI (by omega) (by omega), br_t (nI_le (by omega) (by omega)) ⟨vp_in_nI (by omega) (by omega), nm_e ⟨vp_in_nI (by omega) (by omega), nm_e ?_⟩⟩⟩
    refine ry_passes (w := 2) W hP ht (by omega) ?_
    refine rq_br (fun h => ⟨vp_in_nI (by omega) (by omega), nm_e ?_⟩) (fun h => ⟨vp_in_nI (by omega) (by omega), nm_e ?_⟩)
    · rw [rq_f h] at hp; exact hp
    · rw [rq_t h] at hp; exact hp
  | succ d ih =>
    intro i k r hd hk hp
    have hN := W.1
    unfold wY_runTest_7
    rw [nI_clamp (by omega), hr]
    refine ⟨vp_in_nI (by omega) (by omega), br_f (nI_ge (by omega) (by omega)) (br_c (fun h => ⟨vp_in_nI (by omega) (by omega), ?_⟩) (fun h => nm_r (nI_1 i) (ih (i + 1) k r (by omega) (fun z => absurd z h) ?_)))⟩
    · obtain rfl := hk h
      subst h
      refine nm_r (e' := rq_ow (oY t) k) rfl (ry_has W hP ht (ry_has W hP ht ?_))
      have key : (if (2 : Int32) = 2 then rq_TR (fun i => rq_AR par aH t (rq_ow (oY t) i)) (d + 1) k 2 else (2, k)) = (if rq_AR par aH t (rq_ow (oY t) k) = 2 then rq_TR (fun i => rq_AR par aH t (rq_ow (oY t) i)) d (k + 1) (rq_AR par aH t (rq_ow (oY t) k)) else (rq_AR par aH t (rq_ow (oY t) k), k + 1)) := by
        rw [if_pos rfl]
        show (if (2 : Int32) = 2 then rq_TR (fun i => rq_AR par aH t (rq_ow (oY t) i)) d (k + 1) (rq_AR par aH t (rq_ow (oY t) k)) else (2, k)) = _
        rw [if_pos rfl]
        by_cases e : rq_AR par aH t (rq_ow (oY t) k) = 2
        · rw [if_pos e]
        · rw [if_neg e, rq_TRs e]
      rw [key] at hp
      have e1 : ∀ r' : Int32, rq_AR par aH t (rq_ow (oY t) k) = r' → wY_runTest_7 post (nI t) (nI N) aT aP aD aH tY oY gY aR aC aM (d + 1) (nI (k + 1)) r' (nI (k + 1)) := fun r' e => by
        rw [e] at hp
        exact ih (k + 1) (k + 1) r' (by omega) (fun _ => rfl) hp
      refine rq_br (fun h2 => rq_br (fun h3 => nm_r (nI_1 k) (nm_r (nI_1 k) (e1 1 ?_))) (fun h3 => nm_r (nI_1 k) (nm_r (nI_1 k) (e1 3 ?_)))) (fun h2 => nm_r (nI_1 k) (nm_r (nI_1 k) (e1 2 ?_)))
      · show rq_if _ 2 (rq_if _ 3 1) = 1
        rw [rq_f h2, rq_f h3]
      · show rq_if _ 2 (rq_if _ 3 1) = 3
        rw [rq_f h2, rq_t h3]
      · show rq_if _ 2 (rq_if _ 3 1) = 2
        rw [rq_t h2]
    · rw [if_neg h] at hp
      rw [if_neg h]
      exact hp
theorem ry_runTest {t K : Nat} (W : rq_W N par) (hP : rq_PP N par aT aP) (ht : t < N) (hK : K < 24) (hr : tY t = nI K) (hp : post (nI N, aT, aP, aD, aH, tY, oY, gY, upd aR t (rq_TT par aH tY oY t).1, upd aC (t * 4) (rq_if (rq_PS par aH t 2) (nI (rq_TT par aH tY oY t).2) 0), upd aM t (nI (rq_TT par aH tY oY t).2))) : wpY_runTest post (nI N, aT, aP, aD, aH, tY, oY, gY, aR, aC, aM) (nI t) := by
  refine ⟨K + 1, ry_rt W hP ht K hK hr K 0 0 2 (by omega) (fun _ => rfl) ?_⟩
  rw [if_pos rfl]
  unfold rq_TT at hp
  rw [hr, nI_clamp (by omega)] at hp
  exact hp

theorem ry_e74 {c j : Nat} {s z : Int32} (hc : c < 24) (hj : j < 96) (hp : post (nI N, aT, aP, aD, aH, tY, oY, gY, aR, upd (upd aC j z) (c * 4 + 3) (rq_if (rq_PS par aH c 2 ∧ ¬ aH (c * 4 + 3) = 0) s 0), aM)) : wY_each_74 post (nI c) s (rq_if (rq_PS par aH c 2) 1 0) z (nI j) (nI N) aT aP aD aH tY oY gY aR aC aM := by
  unfold wY_each_74
  rw [nI_clamp (n := j) (by omega), rq_i43, nI_clamp (n := c * 4 + 3) (by omega)]
  refine ⟨vp_in_nI (by omega) (by omega), nm_e (rq_br (fun h => ⟨vp_in_nI (by omega) (by omega), nm_e ?_⟩) (fun h => ⟨vp_in_nI (by omega) (by omega), br_c (fun h2 => ⟨vp_in_nI (by omega) (by omega), nm_e ?_⟩) (fun h2 => ⟨vp_in_nI (by omega) (by omega), nm_e ?_⟩)⟩))⟩
  · rw [rq_f (fun z => h z.1)] at hp; exact hp
  · rw [rq_f (fun z => z.2 h2)] at hp; exact hp
  · rw [rq_t ⟨h, h2⟩] at hp; exact hp
theorem ry_e4 {c : Nat} (W : rq_W N par) (hP : rq_PP N par aT aP) (hc : c < N) (hp : post (nI N, aT, aP, aD, aH, tY, oY, gY, aR, upd (upd aC (c * 4 + 2) (rq_if (rq_PS par aH c 2 ∧ ¬ aH (c * 4 + 2) = 0) (rq_S (fun t => rq_if (rq_A par c t) (aM t) 0) N) 0)) (c * 4 + 3) (rq_if (rq_PS par aH c 2 ∧ ¬ aH (c * 4 + 3) = 0) (rq_S (fun t => rq_if (rq_A par c t) (aM t) 0) N) 0), aM)) : ∀ d i : Nat, i + d = N → wY_each_4 post (nI c) (nI N) aT aP aD aH tY oY gY aR aC aM (d + 1) (rq_S (fun t => rq_if (rq_A par c t) (aM t) 0) i) (nI i) := by
  intro d
  have hN := W.1
  induction d with
  | zero =>
    intro i hd
    obtain rfl : i = N := by omega
    refine br_t (nI_le (by omega) (by omega)) ?_
    refine ry_passes (w := 2) W hP hc (by omega) ?_
    rw [rq_i42]
    have hz : ∀ z, rq_if (rq_PS par aH c 2 ∧ ¬ aH (c * 4 + 2) = 0) (rq_S (fun t => rq_if (rq_A par c t) (aM t) 0) i) 0 = z → wY_each_74 post (nI c) (rq_S (fun t => rq_if (rq_A par c t) (aM t) 0) i) (rq_if (rq_PS par aH c 2) 1 0) z (nI (c * 4 + 2)) (nI i) aT aP aD aH tY oY gY aR aC aM := fun z e => by
      rw [e] at hp
      exact ry_e74 (by omega) (by omega) hp
    refine rq_br (fun h => hz 0 (rq_f fun z => h z.1)) (fun h => ⟨vp_in_nI (by omega) (by omega), ?_⟩)
    rw [nI_clamp (by omega)]
    exact br_c (fun h2 => hz 0 (rq_f fun z => z.2 h2)) (fun h2 => hz _ (rq_t ⟨h, h2⟩))
  | succ d ih =>
    intro i hd
    refine br_f (nI_ge (by omega) (by omega)) ?_
    refine ry_above W hP (by omega) (by omega) ?_
    have hs : rq_S (fun t => rq_if (rq_A par c t) (aM t) 0) (i + 1) = rq_S (fun t => rq_if (rq_A par c t) (aM t) 0) i + rq_if (rq_A par c i) (aM i) 0 := rfl
    have hi := ih (i + 1) (by omega)
    rw [hs] at hi
    refine rq_br (fun h => nm_r (nI_1 i) ?_) (fun h => ⟨vp_in_nI (by omega) (by omega), ?_⟩)
    · rw [rq_f h, Int32.add_zero] at hi; exact hi
    · rw [nI_clamp (by omega)]
      rw [rq_t h] at hi
      exact nm_e (nm_r (nI_1 i) hi)
theorem ry_each {c : Nat} (W : rq_W N par) (hP : rq_PP N par aT aP) (hc : c < N) (hp : post (nI N, aT, aP, aD, aH, tY, oY, gY, aR, upd (upd aC (c * 4 + 2) (rq_if (rq_PS par aH c 2 ∧ ¬ aH (c * 4 + 2) = 0) (rq_S (fun t => rq_if (rq_A par c t) (aM t) 0) N) 0)) (c * 4 + 3) (rq_if (rq_PS par aH c 2 ∧ ¬ aH (c * 4 + 3) = 0) (rq_S (fun t => rq_if (rq_A par c t) (aM t) 0) N) 0), aM)) : wpY_each post (nI N, aT, aP, aD, aH, tY, oY, gY, aR, aC, aM) (nI c) :=
  ⟨N + 1, ry_e4 W hP hc hp N 0 (by omega)⟩
end
section
variable {N : Nat} {aT aP aD aH tY oY gY aR aC aM : Nat → Int32} {post : Int32 → Prop}
theorem ry_ct {v : Int32} (hN : N ≤ 24) (hp : post (rq_S (fun m => rq_if (¬ aT m = 0 ∧ aR m = v ∧ ¬ v = 0) 1 0) N)) : ∀ d i : Nat, i + d = N → wY_count_4 post v (nI N) aT aP aD aH tY oY gY aR aC aM (d + 1) (rq_S (fun m => rq_if (¬ aT m = 0 ∧ aR m = v ∧ ¬ v = 0) 1 0) i) (nI i) := by
  intro d
  induction d with
  | zero =>
    intro i hd
    obtain rfl : i = N := by omega
    exact br_t (nI_le (by omega) (by omega)) hp
  | succ d ih =>
    intro i hd
    have hs : rq_S (fun m => rq_if (¬ aT m = 0 ∧ aR m = v ∧ ¬ v = 0) 1 0) (i + 1) = rq_S (fun m => rq_if (¬ aT m = 0 ∧ aR m = v ∧ ¬ v = 0) 1 0) i + rq_if (¬ aT i = 0 ∧ aR i = v ∧ ¬ v = 0) 1 0 := rfl
    have hi := ih (i + 1) (by omega)
    rw [hs] at hi
    have no : ¬ (¬ aT i = 0 ∧ aR i = v ∧ ¬ v = 0) → wY_count_4 post v (nI N) aT aP aD aH tY oY gY aR aC aM (d + 1) (rq_S (fun m => rq_if (¬ aT m = 0 ∧ aR m = v ∧ ¬ v = 0) 1 0) i) (nI (i + 1)) := fun h => by
      rw [rq_f h, Int32.add_zero] at hi; exact hi
    refine br_f (nI_ge (by omega) (by omega)) ⟨vp_in_nI (by omega) (by omega), ?_⟩
    rw [nI_clamp (by omega)]
    refine br_c (fun h => nm_r (nI_1 i) (no fun z => z.1 h)) (fun h => ⟨vp_in_nI (by omega) (by omega), br_c (fun h2 => br_c (fun h3 => nm_r (nI_1 i) (no fun z => z.2.2 h3)) (fun h3 => ?_)) (fun h2 => nm_r (nI_1 i) (no fun z => h2 z.2.1))⟩)
    rw [rq_t ⟨h, h2, h3⟩] at hi
    exact nm_e (nm_r (nI_1 i) hi)
theorem ry_count {v : Int32} (hN : N ≤ 24) (hp : post (rq_S (fun m => rq_if (¬ aT m = 0 ∧ aR m = v ∧ ¬ v = 0) 1 0) N)) : wpY_count post (nI N, aT, aP, aD, aH, tY, oY, gY, aR, aC, aM) v :=
  ⟨N + 1, ry_ct hN hp N 0 (by omega)⟩
theorem ry_st (hp : post (rq_S aC 96)) : ∀ d i : Nat, i + d = 96 → wY_steps_4 post (nI N) aT aP aD aH tY oY gY aR aC aM (d + 1) (rq_S aC i) (nI i) := by
  intro d
  induction d with
  | zero =>
    intro i hd
    obtain rfl : i = 96 := by omega
    exact br_t (nI_le (a := 96) (by omega) (by omega)) hp
  | succ d ih =>
    intro i hd
    have hi := ih (i + 1) (by omega)
    refine br_f (nI_ge (b := 96) (by omega) (by omega)) ⟨vp_in_nI (by omega) (by omega), ?_⟩
    rw [nI_clamp (by omega)]
    exact nm_e (nm_r (nI_1 i) hi)
theorem ry_steps (hp : post (rq_S aC 96)) : wpY_steps post (nI N, aT, aP, aD, aH, tY, oY, gY, aR, aC, aM) :=
  ⟨97, ry_st hp 96 0 (by omega)⟩
end
end
section
/-! the reference's run -/
def rq_z (i : Nat) (a : Nat → Int32) : Nat → Int32 := fun j => if j < i then 0 else a j
def rq_ov (n : Nat) (f a : Nat → Int32) : Nat → Int32 := fun j => if j < n then f j else a j
theorem rq_zs {i : Nat} {a : Nat → Int32} : upd (rq_z i a) i 0 = rq_z (i + 1) a := by
  funext j
  unfold upd rq_z
  by_cases e : j = i
  · rw [if_pos e, if_pos (by omega)]
  · rw [if_neg e]
    by_cases h : j < i
    · rw [if_pos h, if_pos (by omega)]
    · rw [if_neg h, if_neg (by omega)]
theorem rq_z0 {a : Nat → Int32} : rq_z 0 a = a := by
  funext j
  unfold rq_z
  rw [if_neg (by omega)]
theorem rq_ovc {n : Nat} {f f' a : Nat → Int32} (h : ∀ m, m < n → f m = f' m) : rq_ov n f a = rq_ov n f' a := by
  funext j
  unfold rq_ov
  by_cases e : j < n
  · rw [if_pos e, if_pos e, h j e]
  · rw [if_neg e, if_neg e]
theorem rq_ovs {n i : Nat} {f f' a : Nat → Int32} {v : Int32} (hi : i < n) (hv : f' i = v) (h : ∀ m, m < n → m ≠ i → f' m = f m) : upd (rq_ov n f a) i v = rq_ov n f' a := by
  funext j
  unfold upd rq_ov
  by_cases e : j = i
  · subst e; rw [if_pos rfl, if_pos hi, hv]
  · rw [if_neg e]
    by_cases k : j < n
    · rw [if_pos k, if_pos k, h j k e]
    · rw [if_neg k, if_neg k]
theorem rq_ovs2 {n i k : Nat} {f f' a : Nat → Int32} {v w : Int32} (hik : i ≠ k) (hi : i < n) (hk : k < n) (hv : f' i = v) (hw : f' k = w) (h : ∀ m, m < n → m ≠ i → m ≠ k → f' m = f m) : upd (upd (rq_ov n f a) i v) k w = rq_ov n f' a := by
  funext j
  unfold upd rq_ov
  by_cases e : j = k
  · subst e; rw [if_pos rfl, if_pos hk, hw]
  · rw [if_neg e]
    by_cases e2 : j = i
    · subst e2; rw [if_pos rfl, if_pos hi, hv]
    · rw [if_neg e2]
      by_cases k : j < n
      · rw [if_pos k, if_pos k, h j k e2 e]
      · rw [if_neg k, if_neg k]
noncomputable def rq_pR (N : Nat) (par : Nat → Nat) (aT g aD aH tr o : Nat → Int32) (tg : Int32) (i m : Nat) : Int32 := rq_if (m < i ∧ rq_RUN N par aT g aD aH tg m) (rq_res par aT aH tr o m) 0
noncomputable def rq_pM (N : Nat) (par : Nat → Nat) (aT g aD aH tr o : Nat → Int32) (tg : Int32) (i m : Nat) : Int32 := rq_if (m < i ∧ rq_RUN N par aT g aD aH tg m ∧ ¬ aT m = 0) (nI (rq_TT par aH tr o m).2) 0
noncomputable def rq_c1 (par : Nat → Nat) (aT aH tr o : Nat → Int32) (j : Nat) : Int32 := rq_if (aT (j / 4) = 0) (rq_if (j % 4 < 2 ∧ ¬ aH j = 0) 1 0) (rq_if (j % 4 = 0 ∧ rq_PS par aH (j / 4) 2) (nI (rq_TT par aH tr o (j / 4)).2) 0)
noncomputable def rq_pC (N : Nat) (par : Nat → Nat) (aT g aD aH tr o : Nat → Int32) (tg : Int32) (i j : Nat) : Int32 := rq_if (j / 4 < i ∧ rq_RUN N par aT g aD aH tg (j / 4)) (rq_c1 par aT aH tr o j) 0
noncomputable def rq_pE (N : Nat) (par : Nat → Nat) (aT g aD aH tr o : Nat → Int32) (tg : Int32) (aM : Nat → Int32) (i j : Nat) : Int32 := rq_if (j / 4 < i ∧ aT (j / 4) = 0 ∧ 2 ≤ j % 4) (rq_if (rq_PS par aH (j / 4) 2 ∧ ¬ aH j = 0) (rq_S (fun t => rq_if (rq_A par (j / 4) t) (aM t) 0) N) 0) (rq_pC N par aT g aD aH tr o tg N j)
section
variable {N : Nat} {par : Nat → Nat} {aT aP aD aH tY oY gY aR aC aM : Nat → Int32} {post : Int32 → SY → Prop} {tg : Int32}
theorem rq_noU (W : rq_W N par) (hP : rq_PP N par aT aP) {g : Nat → Int32} {c : Nat} (h : ¬ aT c = 0) : ¬ rq_USE N par aT g aD tg c := fun ⟨t, ht, ha, _⟩ => by
  obtain ⟨y, hy0, hyN, hyx, _⟩ := rq_Acd W t ht ha
  have := (hP.2.2 y hy0 hyN).2
  rw [hyx] at this
  exact h this
theorem ry_93t {J : Int32 → Int32 → (Nat → Int32) → (Nat → Int32) → (Nat → Int32) → (Nat → Int32) → (Nat → Int32) → (Nat → Int32) → (Nat → Int32) → (Nat → Int32) → (Nat → Int32) → (Nat → Int32) → Prop} {i : Nat} {r : Int32} (hi : i < 24) (h : ¬ aT i = 0) (hp : J (nI (i + 1)) (nI N) aT aP aD aH tY oY gY aR aC aM) : wY_run_93 post J tg (nI i) r (nI N) aT aP aD aH tY oY gY aR aC aM := by
  unfold wY_run_93
  rw [nI_clamp (by omega)]
  exact ⟨vp_in_nI (by omega) (by omega), br_f h (nm_r (nI_1 i) hp)⟩
theorem ry_r51 (W : rq_W N par) (hP : rq_PP N par aT aP) (hK : ∀ t, t < N → ∃ K, K < 24 ∧ (¬ aT t = 0 → tY t = nI K)) (hp : ∃ n, wY_run_128 post n 0 (nI N) aT aP aD aH tY oY gY (rq_ov 24 (rq_pR N par aT gY aD aH tY oY tg N) aR) (rq_ov 96 (rq_pC N par aT gY aD aH tY oY tg N) aC) (rq_ov 24 (rq_pM N par aT gY aD aH tY oY tg N) aM)) : ∀ d i : Nat, i + d = N → wY_run_51 post tg (d + 1) (nI i) (nI N) aT aP aD aH tY oY gY (rq_ov 24 (rq_pR N par aT gY aD aH tY oY tg i) aR) (rq_ov 96 (rq_pC N par aT gY aD aH tY oY tg i) aC) (rq_ov 24 (rq_pM N par aT gY aD aH tY oY tg i) aM) := by
  intro d
  have hN := W.1
  induction d with
  | zero =>
    intro i hd
    obtain rfl : i = N := by omega
    exact br_t (nI_le (by omega) (by omega)) hp
  | succ d ih =>
    intro i hd
    have nx : ¬ rq_RUN N par aT gY aD aH tg i → wY_run_51 post tg (d + 1) (nI (i + 1)) (nI N) aT aP aD aH tY oY gY (rq_ov 24 (rq_pR N par aT gY aD aH tY oY tg i) aR) (rq_ov 96 (rq_pC N par aT gY aD aH tY oY tg i) aC) (rq_ov 24 (rq_pM N par aT gY aD aH tY oY tg i) aM) := fun h => by
      have k1 : rq_ov 24 (rq_pR N par aT gY aD aH tY oY tg i) aR = rq_ov 24 (rq_pR N par aT gY aD aH tY oY tg (i + 1)) aR := rq_ovc fun m _ => rq_c ⟨fun z => ⟨by omega, z.2⟩, fun z => by
        by_cases e : m = i
        · subst e; exact absurd z.2 h
        · exact ⟨by omega, z.2⟩⟩
      have k2 : rq_ov 24 (rq_pM N par aT gY aD aH tY oY tg i) aM = rq_ov 24 (rq_pM N par aT gY aD aH tY oY tg (i + 1)) aM := rq_ovc fun m _ => rq_c ⟨fun z => ⟨by omega, z.2⟩, fun z => by
        by_cases e : m = i
        · subst e; exact absurd z.2.1 h
        · exact ⟨by omega, z.2⟩⟩
      have k3 : rq_ov 96 (rq_pC N par aT gY aD aH tY oY tg i) aC = rq_ov 96 (rq_pC N par aT gY aD aH tY oY tg (i + 1)) aC := rq_ovc fun m _ => rq_c ⟨fun z => ⟨by omega, z.2⟩, fun z => by
        by_cases e : m / 4 = i
        · rw [e] at z; exact absurd z.2 h
        · exact ⟨by omega, z.2⟩⟩
      rw [k1, k2, k3]
      exact ih (i + 1) (by omega)
    refine br_f (nI_ge (by omega) (by omega)) ?_
    refine ry_passes (w := 0) W hP (by omega) (by omega) ⟨vp_in_nI (by omega) (by omega), ?_⟩
    rw [nI_clamp (by omega)]
    refine br_c (fun h => ?_) (fun h => rq_br (fun h2 => ry_93t (by omega) h (nx fun z => h2 z.2.2)) (fun h2 => ?_))
    · unfold wY_run_93
      rw [nI_clamp (by omega)]
      refine ⟨vp_in_nI (by omega) (by omega), br_t h (rq_br (fun h2 => nm_r (nI_1 i) (nx fun z => h2 z.2.2)) (fun h2 => ?_))⟩
      refine ry_inUse W hP (by omega) (rq_br (fun h3 => nm_r (nI_1 i) (nx fun z => z.2.1.elim (fun z => z.1 h) h3)) (fun h3 => ?_))
      have hrun : rq_RUN N par aT gY aD aH tg i := ⟨by omega, Or.inr h3, h2⟩
      refine ry_runContainer (by omega) ?_
      have k1 : upd (rq_ov 24 (rq_pR N par aT gY aD aH tY oY tg i) aR) i (rq_CR aH i) = rq_ov 24 (rq_pR N par aT gY aD aH tY oY tg (i + 1)) aR := rq_ovs (by omega) (by
        unfold rq_pR rq_res
        rw [rq_t ⟨by omega, hrun⟩, rq_t h]) (fun m _ e => rq_c ⟨fun z => ⟨by omega, z.2⟩, fun z => ⟨by omega, z.2⟩⟩)
      have k2 : rq_ov 24 (rq_pM N par aT gY aD aH tY oY tg i) aM = rq_ov 24 (rq_pM N par aT gY aD aH tY oY tg (i + 1)) aM := rq_ovc fun m _ => rq_c ⟨fun z => ⟨by omega, z.2⟩, fun z => by
        by_cases e : m = i
        · subst e; exact absurd h z.2.2
        · exact ⟨by omega, z.2⟩⟩
      have k3 : upd (upd (rq_ov 96 (rq_pC N par aT gY aD aH tY oY tg i) aC) (i * 4) (rq_if (aH (i * 4) = 0) 0 1)) (i * 4 + 1) (rq_if (aH (i * 4 + 1) = 0) 0 1) = rq_ov 96 (rq_pC N par aT gY aD aH tY oY tg (i + 1)) aC := rq_ovs2 (by omega) (by omega) (by omega) (by
          unfold rq_pC rq_c1
          rw [show i * 4 / 4 = i from by omega, show i * 4 % 4 = 0 from by omega, rq_t ⟨by omega, hrun⟩, rq_t h]
          by_cases e : aH (i * 4) = 0
          · rw [rq_t (P := aH (i * 4) = 0) e, rq_f (fun z => z.2 e)]
          · rw [rq_f (P := aH (i * 4) = 0) e, rq_t ⟨by omega, e⟩]) (by
          unfold rq_pC rq_c1
          rw [show (i * 4 + 1) / 4 = i from by omega, show (i * 4 + 1) % 4 = 1 from by omega, rq_t ⟨by omega, hrun⟩, rq_t h]
          by_cases e : aH (i * 4 + 1) = 0
          · rw [rq_t (P := aH (i * 4 + 1) = 0) e, rq_f (fun z => z.2 e)]
          · rw [rq_f (P := aH (i * 4 + 1) = 0) e, rq_t ⟨by omega, e⟩]) (fun m _ e e2 => by
          unfold rq_pC
          by_cases q : m / 4 = i
          · have hm : ¬ m % 4 < 2 := by omega
            have z : rq_c1 par aT aH tY oY m = 0 := by
              unfold rq_c1
              rw [q, rq_t h, rq_f (fun z => hm z.1)]
            rw [z]
            by_cases q2 : m / 4 < i + 1 ∧ rq_RUN N par aT gY aD aH tg (m / 4)
            · rw [rq_t q2, rq_f (fun z => by omega)]
            · rw [rq_f q2, rq_f (fun z => by omega)]
          · exact rq_c ⟨fun z => ⟨by omega, z.2⟩, fun z => ⟨by omega, z.2⟩⟩)
      show ∀ x : Int32, x = nI i + 1 → _
      rw [k1, k2, k3]
      exact nm_r (nI_1 i) (ih (i + 1) (by omega))
    · refine ry_selected W hP (by omega) (rq_br (fun h3 => ry_93t (by omega) h (nx fun z => z.2.1.elim h3 (rq_noU W hP h))) (fun h3 => ?_))
      have hrun : rq_RUN N par aT gY aD aH tg i := ⟨by omega, Or.inl h3, h2⟩
      obtain ⟨K, hK1, hK2⟩ := hK i (by omega)
      refine ry_runTest W hP (by omega) hK1 (hK2 h) ?_
      have k1 : upd (rq_ov 24 (rq_pR N par aT gY aD aH tY oY tg i) aR) i (rq_TT par aH tY oY i).1 = rq_ov 24 (rq_pR N par aT gY aD aH tY oY tg (i + 1)) aR := rq_ovs (by omega) (by
        unfold rq_pR rq_res
        rw [rq_t ⟨by omega, hrun⟩, rq_f h]) (fun m _ e => rq_c ⟨fun z => ⟨by omega, z.2⟩, fun z => ⟨by omega, z.2⟩⟩)
      have k2 : upd (rq_ov 24 (rq_pM N par aT gY aD aH tY oY tg i) aM) i (nI (rq_TT par aH tY oY i).2) = rq_ov 24 (rq_pM N par aT gY aD aH tY oY tg (i + 1)) aM := rq_ovs (by omega) (by
        unfold rq_pM
        rw [rq_t ⟨by omega, hrun, h⟩]) (fun m _ e => rq_c ⟨fun z => ⟨by omega, z.2⟩, fun z => ⟨by omega, z.2⟩⟩)
      have k3 : upd (rq_ov 96 (rq_pC N par aT gY aD aH tY oY tg i) aC) (i * 4) (rq_if (rq_PS par aH i 2) (nI (rq_TT par aH tY oY i).2) 0) = rq_ov 96 (rq_pC N par aT gY aD aH tY oY tg (i + 1)) aC := rq_ovs (by omega) (by
          unfold rq_pC rq_c1
          rw [show i * 4 / 4 = i from by omega, show i * 4 % 4 = 0 from by omega, rq_t ⟨by omega, hrun⟩, rq_f h]
          exact rq_c ⟨fun z => z.2, fun z => ⟨rfl, z⟩⟩) (fun m _ e => by
          unfold rq_pC
          by_cases q : m / 4 = i
          · have hm : ¬ m % 4 = 0 := by omega
            have z : rq_c1 par aT aH tY oY m = 0 := by
              unfold rq_c1
              rw [q, rq_f h, rq_f (fun z => hm z.1)]
            rw [z]
            by_cases q2 : m / 4 < i + 1 ∧ rq_RUN N par aT gY aD aH tg (m / 4)
            · rw [rq_t q2, rq_f (fun z => by omega)]
            · rw [rq_f q2, rq_f (fun z => by omega)]
          · exact rq_c ⟨fun z => ⟨by omega, z.2⟩, fun z => ⟨by omega, z.2⟩⟩)
      refine ry_93t (by omega) h ?_
      rw [k1, k2, k3]
      exact ih (i + 1) (by omega)
theorem ry_r128 (W : rq_W N par) (hP : rq_PP N par aT aP) (hp : post (rq_S (fun m => rq_if (¬ aT m = 0 ∧ aR m = 2 ∧ ¬ (2 : Int32) = 0) 1 0) N) (nI N, aT, aP, aD, aH, tY, oY, gY, aR, rq_ov 96 (rq_pE N par aT gY aD aH tY oY tg aM N) aC, aM)) : ∀ d i : Nat, i + d = N → wY_run_128 post (d + 1) (nI i) (nI N) aT aP aD aH tY oY gY aR (rq_ov 96 (rq_pE N par aT gY aD aH tY oY tg aM i) aC) aM := by
  intro d
  have hN := W.1
  induction d with
  | zero =>
    intro i hd
    obtain rfl : i = N := by omega
    exact br_t (nI_le (by omega) (by omega)) (ry_count hN hp)
  | succ d ih =>
    intro i hd
    refine br_f (nI_ge (by omega) (by omega)) ⟨vp_in_nI (by omega) (by omega), ?_⟩
    rw [nI_clamp (by omega)]
    refine br_c (fun h => ?_) (fun h => ?_)
    · refine ry_each W hP (by omega) ?_
      have k3 : upd (upd (rq_ov 96 (rq_pE N par aT gY aD aH tY oY tg aM i) aC) (i * 4 + 2) (rq_if (rq_PS par aH i 2 ∧ ¬ aH (i * 4 + 2) = 0) (rq_S (fun t => rq_if (rq_A par i t) (aM t) 0) N) 0)) (i * 4 + 3) (rq_if (rq_PS par aH i 2 ∧ ¬ aH (i * 4 + 3) = 0) (rq_S (fun t => rq_if (rq_A par i t) (aM t) 0) N) 0) = rq_ov 96 (rq_pE N par aT gY aD aH tY oY tg aM (i + 1)) aC := rq_ovs2 (by omega) (by omega) (by omega) (by
          unfold rq_pE
          rw [show (i * 4 + 2) / 4 = i from by omega, show (i * 4 + 2) % 4 = 2 from by omega, rq_t ⟨by omega, h, by omega⟩]) (by
          unfold rq_pE
          rw [show (i * 4 + 3) / 4 = i from by omega, show (i * 4 + 3) % 4 = 3 from by omega, rq_t ⟨by omega, h, by omega⟩]) (fun m _ e e2 => by
          unfold rq_pE
          exact rq_c ⟨fun z => ⟨by omega, z.2⟩, fun z => ⟨by omega, z.2⟩⟩)
      show ∀ x : Int32, x = nI i + 1 → _
      rw [k3]
      exact nm_r (nI_1 i) (ih (i + 1) (by omega))
    · have k3 : rq_ov 96 (rq_pE N par aT gY aD aH tY oY tg aM i) aC = rq_ov 96 (rq_pE N par aT gY aD aH tY oY tg aM (i + 1)) aC := rq_ovc fun m _ => rq_c ⟨fun z => ⟨by omega, z.2⟩, fun z => by
        by_cases e : m / 4 = i
        · rw [e] at z; exact absurd z.2.1 h
        · exact ⟨by omega, z.2⟩⟩
      rw [k3]
      exact nm_r (nI_1 i) (ih (i + 1) (by omega))
theorem ry_r23 (hp : ∃ n, wY_run_51 post tg n 0 (nI N) aT aP aD aH tY oY gY (rq_z 24 aR) aC (rq_z 24 aM)) : ∀ d i : Nat, i + d = 24 → wY_run_23 post tg (nI N) (d + 1) (nI i) aT aP aD aH tY oY gY (rq_z i aR) aC (rq_z i aM) := by
  intro d
  induction d with
  | zero =>
    intro i hd
    obtain rfl : i = 24 := by omega
    exact br_t (nI_le (a := 24) (by omega) (by omega)) hp
  | succ d ih =>
    intro i hd
    refine br_f (nI_ge (b := 24) (by omega) (by omega)) ⟨vp_in_nI (by omega) (by omega), ?_⟩
    rw [nI_clamp (by omega)]
    exact nm_r rq_zs ⟨vp_in_nI (by omega) (by omega), nm_r rq_zs (nm_r (nI_1 i) (ih (i + 1) (by omega)))⟩
theorem ry_r2 (hp : ∃ n, wY_run_23 post tg (nI N) n 0 aT aP aD aH tY oY gY aR (rq_z 96 aC) aM) : ∀ d i : Nat, i + d = 96 → wY_run_2 post tg (nI N) (d + 1) (nI i) aT aP aD aH tY oY gY aR (rq_z i aC) aM := by
  intro d
  induction d with
  | zero =>
    intro i hd
    obtain rfl : i = 96 := by omega
    exact br_t (nI_le (a := 96) (by omega) (by omega)) hp
  | succ d ih =>
    intro i hd
    refine br_f (nI_ge (b := 96) (by omega) (by omega)) ⟨vp_in_nI (by omega) (by omega), ?_⟩
    rw [nI_clamp (by omega)]
    exact nm_r rq_zs (nm_r (nI_1 i) (ih (i + 1) (by omega)))
theorem ry_run (W : rq_W N par) (hP : rq_PP N par aT aP) (hK : ∀ t, t < N → ∃ K, K < 24 ∧ (¬ aT t = 0 → tY t = nI K)) (hp : post (rq_S (fun m => rq_if (¬ aT m = 0 ∧ rq_ov 24 (rq_pR N par aT gY aD aH tY oY tg N) aR m = 2 ∧ ¬ (2 : Int32) = 0) 1 0) N) (nI N, aT, aP, aD, aH, tY, oY, gY, rq_ov 24 (rq_pR N par aT gY aD aH tY oY tg N) aR, rq_ov 96 (rq_pE N par aT gY aD aH tY oY tg (rq_ov 24 (rq_pM N par aT gY aD aH tY oY tg N) aM) N) aC, rq_ov 24 (rq_pM N par aT gY aD aH tY oY tg N) aM)) : wpY_run post (nI N, aT, aP, aD, aH, tY, oY, gY, aR, aC, aM) tg := by
  have e0 : ∀ i, ¬ i < 0 := fun i => by omega
  have s51 := ry_r51 (aR := aR) (aC := aC) (aM := aM) (post := post) (oY := oY) (gY := gY) (aH := aH) (aD := aD) (tg := tg) W hP hK ⟨N + 1, by
    have z := ry_r128 (post := post) (aC := aC) (aM := rq_ov 24 (rq_pM N par aT gY aD aH tY oY tg N) aM) (aR := rq_ov 24 (rq_pR N par aT gY aD aH tY oY tg N) aR) (tg := tg) (tY := tY) (oY := oY) (gY := gY) (aH := aH) (aD := aD) W hP hp N 0 (by omega)
    have k : rq_ov 96 (rq_pE N par aT gY aD aH tY oY tg (rq_ov 24 (rq_pM N par aT gY aD aH tY oY tg N) aM) 0) aC = rq_ov 96 (rq_pC N par aT gY aD aH tY oY tg N) aC := rq_ovc fun m _ => rq_f fun z => e0 _ z.1
    rw [k] at z
    exact z⟩ N 0 (by omega)
  have k1 : rq_ov 24 (rq_pR N par aT gY aD aH tY oY tg 0) aR = rq_z 24 aR := rq_ovc (f' := fun _ => 0) fun m _ => rq_f fun z => e0 _ z.1
  have k2 : rq_ov 24 (rq_pM N par aT gY aD aH tY oY tg 0) aM = rq_z 24 aM := rq_ovc (f' := fun _ => 0) fun m _ => rq_f fun z => e0 _ z.1
  have k3 : rq_ov 96 (rq_pC N par aT gY aD aH tY oY tg 0) aC = rq_z 96 aC := rq_ovc (f' := fun _ => 0) fun m _ => rq_f fun z => e0 _ z.1
  rw [k1, k2, k3] at s51
  have s2 := ry_r2 (aC := aC) (post := post) (N := N) (tg := tg) (aT := aT) (aP := aP) (aD := aD) (aH := aH) (tY := tY) (oY := oY) (gY := gY) (aR := aR) (aM := aM) ⟨25, by
    have z := ry_r23 (aR := aR) (aM := aM) (aC := rq_z 96 aC) (post := post) (N := N) (tg := tg) (aT := aT) (aP := aP) (aD := aD) (aH := aH) (tY := tY) (oY := oY) (gY := gY) ⟨N + 1, s51⟩ 24 0 (by omega)
    rw [rq_z0, rq_z0] at z
    exact z⟩ 96 0 (by omega)
  rw [rq_z0] at s2
  exact ⟨97, s2⟩
end
end
section
/-! X's hooks, attempts and tests -/
def rq_cy (aH : Nat → Int32) (j : Nat) (C : Nat → Int32) : Nat → Int32 := if aH j = 0 then C else upd C j (C j + 1)
theorem rq_cyv {aH C : Nat → Int32} {j k : Nat} : rq_cy aH j C k = C k + rq_if (k = j ∧ ¬ aH k = 0) 1 0 := by
  unfold rq_cy
  by_cases e : aH j = 0
  · rw [if_pos e, rq_f (fun z => z.2 (by rw [z.1]; exact e)), Int32.add_zero]
  · rw [if_neg e]
    by_cases h : k = j
    · subst h; rw [pk_us, rq_t ⟨rfl, e⟩]
    · rw [pk_un h, rq_f (fun z => h z.1), Int32.add_zero]
/-- one more index in a set of indices -/
theorem rq_add {P Q R : Prop} {x : Int32} (h : P → Q → False) (e : R ↔ P ∨ Q) : x + rq_if P 1 0 + rq_if Q 1 0 = x + rq_if R 1 0 := by
  rw [Int32.add_assoc]
  congr 1
  by_cases p : P
  · rw [rq_t p, rq_f (fun q => h p q), rq_t (e.mpr (Or.inl p)), Int32.add_zero]
  · rw [rq_f p, Int32.zero_add]
    exact rq_c ⟨fun q => e.mpr (Or.inr q), fun r => (e.mp r).elim (fun z => absurd z p) id⟩
def rq_WAY (N : Nat) (par : Nat → Nat) (aT aW : Nat → Int32) (p : Nat → Nat) (o : Nat) : Prop := ∀ i, i < o → p i < N ∧ aT (p i) = 0 ∧ aW i = nI (p i) ∧ ∀ c, rq_A par c (p i) ↔ ∃ j, j < i ∧ p j = c
def rq_ANC (par : Nat → Nat) (p : Nat → Nat) (o x : Nat) : Prop := ∀ c, rq_A par c x ↔ ∃ i, i < o ∧ p i = c
theorem rq_Wlt {N : Nat} {par : Nat → Nat} {aT aW : Nat → Int32} {p : Nat → Nat} {o : Nat} (W : rq_W N par) (hW : rq_WAY N par aT aW p o) {i k : Nat} (h : i < k) (hk : k < o) : p i < p k :=
  rq_Alt W (p k) (hW k hk).1 (((hW k hk).2.2.2 (p i)).mpr ⟨i, h, rfl⟩)
theorem rq_Wge {N : Nat} {par : Nat → Nat} {aT aW : Nat → Int32} {p : Nat → Nat} {o : Nat} (W : rq_W N par) (hW : rq_WAY N par aT aW p o) : ∀ i, i < o → i ≤ p i
  | 0, _ => by omega
  | i + 1, h => by
    have := rq_Wge W hW i (by omega)
    have := rq_Wlt W hW (i := i) (k := i + 1) (by omega) h
    omega
theorem rq_exs {P : Nat → Prop} {d : Nat} : (∃ i, i < d ∧ P i) ∨ P d ↔ ∃ i, i < d + 1 ∧ P i := by
  constructor
  · intro h
    rcases h with ⟨i, h, k⟩ | h
    · exact ⟨i, by omega, k⟩
    · exact ⟨d, by omega, h⟩
  · intro ⟨i, h, k⟩
    by_cases e : i = d
    · subst e; exact Or.inr k
    · exact Or.inl ⟨i, by omega, k⟩
theorem rq_exd {P : Nat → Prop} {e d : Nat} (h : e < d) : (∃ i, e + 1 ≤ i ∧ i < d ∧ P i) ∨ P e ↔ ∃ i, e ≤ i ∧ i < d ∧ P i := by
  constructor
  · intro z
    rcases z with ⟨i, h1, h2, k⟩ | k
    · exact ⟨i, by omega, h2, k⟩
    · exact ⟨e, by omega, h, k⟩
  · intro ⟨i, h1, h2, k⟩
    by_cases q : i = e
    · subst q; exact Or.inr k
    · exact Or.inl ⟨i, by omega, h2, k⟩
section
variable {N : Nat} {par : Nat → Nat} {fT fO fS : Int32} {aT aP aF aL aS aH tX oX gX aD aR aC aM aK aW : Nat → Int32}
theorem rx_carry {post : Int32 → SX → Prop} {c w : Nat} (hc : c < 24) (hw : w < 4) (h : post (aH (c * 4 + w)) (nI N, rq_S (rq_cy aH (c * 4 + w) aC) 96, fO, fS, aT, aP, aF, aL, aS, aH, tX, oX, gX, aD, aR, rq_cy aH (c * 4 + w) aC, aM, aK, aW)) : wpX_carryOut post (nI N, rq_S aC 96, fO, fS, aT, aP, aF, aL, aS, aH, tX, oX, gX, aD, aR, aC, aM, aK, aW) (nI c) (nI w) := by
  unfold wpX_carryOut
  dsimp only
  rw [rq_i4, nI_clamp (by omega)]
  refine ⟨vp_in_nI (by omega) (by omega), nm_e (br_c (fun e => ?_) (fun e => ⟨vp_in_nI (by omega) (by omega), vp_in_nI (by omega) (by omega), nm_e (nm_r (rq_Su (f := aC) (k := c * 4 + w) 96 (by omega)).symm ?_)⟩))⟩
  · unfold rq_cy at h; rw [if_pos e] at h; exact h
  · unfold rq_cy at h; rw [if_neg e] at h; exact h
theorem rx_worse {post : Int32 → Prop} {r o : Int32} (h : post (rq_wo r o)) : wpX_worse post r o := by
  unfold wpX_worse
  unfold rq_wo at h
  refine br_c (fun e => ?_) (fun e => br_c (fun e2 => ?_) (fun e2 => br_c (fun e3 => ?_) (fun e3 => br_c (fun e4 => ?_) (fun e4 => ?_))))
  · rw [if_pos (Or.inl e)] at h; exact h
  · rw [if_pos (Or.inr e2)] at h; exact h
  · rw [if_neg (fun z => z.elim e e2), if_pos (Or.inl e3)] at h; exact h
  · rw [if_neg (fun z => z.elim e e2), if_pos (Or.inr e4)] at h; exact h
  · rw [if_neg (fun z => z.elim e e2), if_neg (fun z => z.elim e3 e4)] at h; exact h
theorem rx_note {post : SX → Prop} {o s : Int32} (e : rq_wo fS o = s) (h : post (nI N, fT, fO, s, aT, aP, aF, aL, aS, aH, tX, oX, gX, aD, aR, aC, aM, aK, aW)) : wpX_note post (nI N, fT, fO, fS, aT, aP, aF, aL, aS, aH, tX, oX, gX, aD, aR, aC, aM, aK, aW) o := by
  unfold wpX_note
  dsimp only
  refine rx_worse ?_
  rw [e]
  exact h
theorem rx_gd {post : Int32 → SX → Prop} {p : Nat → Nat} {o : Nat} {C0 : Nat → Int32} (W : rq_W N par) (hH : rq_HK aH) (hW : rq_WAY N par aT aW p o) (ho : o ≤ 24)
    (H : ∀ (d : Nat) (C : Nat → Int32), d ≤ o → (∀ i, i < o → (i < d ↔ rq_PS par aH (p i) 2)) → (rq_ST (∃ i, i < d ∧ aH (p i * 4 + 2) = 2) (∃ i, i < d ∧ aH (p i * 4 + 2) = 3) = 1 ↔ ∀ i, i < o → aH (p i * 4 + 2) ≤ 1) → (∀ j, C j = C0 j + rq_if (∃ i, i < d ∧ j = p i * 4 + 2 ∧ ¬ aH j = 0) 1 0) → post (nI d) (nI N, rq_S C 96, nI o, rq_ST (∃ i, i < d ∧ aH (p i * 4 + 2) = 2) (∃ i, i < d ∧ aH (p i * 4 + 2) = 3), aT, aP, aF, aL, aS, aH, tX, oX, gX, aD, aR, C, aM, aK, aW)) :
    ∀ (e d : Nat) (C : Nat → Int32), d + e = o → (∀ i, i < d → rq_PS par aH (p i) 2) → (∀ j, C j = C0 j + rq_if (∃ i, i < d ∧ j = p i * 4 + 2 ∧ ¬ aH j = 0) 1 0) → wX_goDown_2 post (e + 1) (nI d) (nI N) (rq_S C 96) (nI o) (rq_ST (∃ i, i < d ∧ aH (p i * 4 + 2) = 2) (∃ i, i < d ∧ aH (p i * 4 + 2) = 3)) aT aP aF aL aS aH tX oX gX aD aR C aM aK aW := by
  intro e
  induction e with
  | zero =>
    intro d C hd hps hC
    obtain rfl : d = o := by omega
    refine br_t (nI_le (by omega) (by omega)) (H d C (Nat.le_refl d) (fun i hi => ⟨fun _ => hps i hi, fun _ => hi⟩) ?_ hC)
    rw [rq_ST1]
    constructor
    · intro z i hi
      exact (rq_le1 (hH _)).mpr ⟨fun q => z.1 ⟨i, hi, q⟩, fun q => z.2 ⟨i, hi, q⟩⟩
    · intro z
      exact ⟨fun ⟨i, hi, q⟩ => ((rq_le1 (hH _)).mp (z i hi)).1 q, fun ⟨i, hi, q⟩ => ((rq_le1 (hH _)).mp (z i hi)).2 q⟩
  | succ e ih =>
    intro d C hd hps hC
    have hN := W.1
    have hpd := hW d (by omega)
    refine br_f (nI_ge (by omega) (by omega)) (br_c (fun h1 => ⟨vp_in_nI (by omega) (by omega), ?_⟩) (fun h1 => ?_))
    · rw [nI_clamp (by omega), hpd.2.2.1]
      refine rx_carry (w := 2) (by omega) (by omega) ?_
      refine rx_note (rq_woS.trans (rq_STc rq_exs rq_exs)) ?_
      refine nm_r (nI_1 d) (ih (d + 1) _ (by omega) ?_ ?_)
      · intro i hi
        by_cases q : i = d
        · subst q
          intro c hc
          obtain ⟨j, hj, e⟩ := (hpd.2.2.2 c).mp hc
          rw [← e]
          rw [rq_ST1] at h1
          exact (rq_le1 (hH _)).mpr ⟨fun q => h1.1 ⟨j, hj, q⟩, fun q => h1.2 ⟨j, hj, q⟩⟩
        · exact hps i (by omega)
      · intro j
        rw [rq_cyv, hC j]
        refine rq_add (fun ⟨i, hi, e, _⟩ ⟨e2, _⟩ => ?_) rq_exs.symm
        have := rq_Wlt W hW hi (by omega)
        omega
    · refine H d C (by omega) (fun i hi => ?_) ?_ hC
      · constructor
        · exact fun z => hps i z
        · intro z
          refine Classical.byContradiction fun q => h1 (rq_ST1.mpr ⟨fun ⟨k, hk, e⟩ => ?_, fun ⟨k, hk, e⟩ => ?_⟩)
          · exact ((rq_le1 (hH _)).mp (z (p k) (((hW i hi).2.2.2 (p k)).mpr ⟨k, by omega, rfl⟩))).1 e
          · exact ((rq_le1 (hH _)).mp (z (p k) (((hW i hi).2.2.2 (p k)).mpr ⟨k, by omega, rfl⟩))).2 e
      · refine ⟨fun z => absurd z h1, fun z => rq_ST1.mpr ⟨fun ⟨i, hi, q⟩ => ((rq_le1 (hH _)).mp (z i (by omega))).1 q, fun ⟨i, hi, q⟩ => ((rq_le1 (hH _)).mp (z i (by omega))).2 q⟩⟩
theorem rx_a59 {post : Int32 → SX → Prop} {p : Nat → Nat} {o d : Nat} {C1 : Nat → Int32} {P Q : Prop} (W : rq_W N par) (hW : rq_WAY N par aT aW p o) (ho : o ≤ 24) (hd : d ≤ o)
    (H : ∀ (C : Nat → Int32), (∀ j, C j = C1 j + rq_if (∃ i, 0 ≤ i ∧ i < d ∧ j = p i * 4 + 3 ∧ ¬ aH j = 0) 1 0) → post (rq_ST (P ∨ ∃ i, 0 ≤ i ∧ i < d ∧ aH (p i * 4 + 3) = 2) (Q ∨ ∃ i, 0 ≤ i ∧ i < d ∧ aH (p i * 4 + 3) = 3)) (nI N, rq_S C 96, nI o, rq_ST (P ∨ ∃ i, 0 ≤ i ∧ i < d ∧ aH (p i * 4 + 3) = 2) (Q ∨ ∃ i, 0 ≤ i ∧ i < d ∧ aH (p i * 4 + 3) = 3), aT, aP, aF, aL, aS, aH, tX, oX, gX, aD, aR, C, aM, aK, aW)) :
    ∀ (e : Nat) (C : Nat → Int32), e ≤ d → (∀ j, C j = C1 j + rq_if (∃ i, e ≤ i ∧ i < d ∧ j = p i * 4 + 3 ∧ ¬ aH j = 0) 1 0) → wX_attempt_59 post (e + 1) (nI e - 1) (nI N) (rq_S C 96) (nI o) (rq_ST (P ∨ ∃ i, e ≤ i ∧ i < d ∧ aH (p i * 4 + 3) = 2) (Q ∨ ∃ i, e ≤ i ∧ i < d ∧ aH (p i * 4 + 3) = 3)) aT aP aF aL aS aH tX oX gX aD aR C aM aK aW := by
  intro e
  induction e with
  | zero =>
    intro C he hC
    exact br_t (by decide) (H C hC)
  | succ e ih =>
    intro C he hC
    have hN := W.1
    have hpd := hW e (by omega)
    rw [nI_pred]
    refine br_f (nI_pos (by omega)) ⟨vp_in_nI (by omega) (by omega), ?_⟩
    rw [nI_clamp (by omega), hpd.2.2.1]
    refine rx_carry (w := 3) (by omega) (by omega) ?_
    refine rx_note (rq_woS.trans (rq_STc (or_assoc.trans (or_congr Iff.rfl (rq_exd (by omega)))) (or_assoc.trans (or_congr Iff.rfl (rq_exd (by omega)))))) ?_
    refine nm_r (e' := nI e - 1) (Int32.sub_eq_add_neg _ _).symm (ih _ (by omega) ?_)
    intro j
    rw [rq_cyv, hC j]
    refine rq_add (fun ⟨i, h1, h2, e1, _⟩ ⟨e2, _⟩ => ?_) (rq_exd (P := fun i => j = p i * 4 + 3 ∧ ¬ aH j = 0) (by omega)).symm
    have := rq_Wlt W hW (i := e) (k := i) (by omega) (by omega)
    omega
theorem rx_has {p : Nat → Nat} {o d t : Nat} {own v : Int32} (hA : rq_ANC par p o t) (hd : d ≤ o) (hps : ∀ i, i < o → (i < d ↔ rq_PS par aH (p i) 2)) : rq_HAS par aH t own v ↔ ((∃ i, i < d ∧ aH (p i * 4 + 2) = v) ∨ ∃ i, 0 ≤ i ∧ i < d ∧ aH (p i * 4 + 3) = v) ∨ (own = v ∧ rq_PS par aH t 2) := by
  refine or_congr ⟨fun ⟨c, h1, h2, h3⟩ => ?_, fun h => ?_⟩ Iff.rfl
  · obtain ⟨i, hi, e⟩ := (hA c).mp h1
    subst e
    have := (hps i hi).mpr h2
    exact h3.imp (fun z => ⟨i, this, z⟩) (fun z => ⟨i, by omega, this, z⟩)
  · rcases h with ⟨i, hi, z⟩ | ⟨i, _, hi, z⟩
    · exact ⟨p i, (hA _).mpr ⟨i, by omega, rfl⟩, (hps i (by omega)).mp hi, Or.inl z⟩
    · exact ⟨p i, (hA _).mpr ⟨i, by omega, rfl⟩, (hps i (by omega)).mp hi, Or.inr z⟩
theorem rx_dl {p : Nat → Nat} {o d t j : Nat} (hA : rq_ANC par p o t) (hd : d ≤ o) (hps : ∀ i, i < o → (i < d ↔ rq_PS par aH (p i) 2)) : rq_dl par aH t j = rq_if (((∃ i, i < d ∧ j = p i * 4 + 2 ∧ ¬ aH j = 0) ∨ (j = t * 4 ∧ rq_PS par aH t 2)) ∨ ∃ i, 0 ≤ i ∧ i < d ∧ j = p i * 4 + 3 ∧ ¬ aH j = 0) 1 0 := by
  refine rq_c ⟨fun h => ?_, fun h => ?_⟩
  · rcases h with ⟨c, h1, h2, h3, h4⟩ | h
    · obtain ⟨i, hi, e⟩ := (hA c).mp h1
      subst e
      have := (hps i hi).mpr h2
      rcases h3 with h3 | h3
      · exact Or.inl (Or.inl ⟨i, this, h3, h4⟩)
      · exact Or.inr ⟨i, by omega, this, h3, h4⟩
    · exact Or.inl (Or.inr h)
  · rcases h with (⟨i, hi, z, h4⟩ | h) | ⟨i, _, hi, z, h4⟩
    · exact Or.inl ⟨p i, (hA _).mpr ⟨i, by omega, rfl⟩, (hps i (by omega)).mp hi, Or.inl z, h4⟩
    · exact Or.inr h
    · exact Or.inl ⟨p i, (hA _).mpr ⟨i, by omega, rfl⟩, (hps i (by omega)).mp hi, Or.inr z, h4⟩
theorem rx_body {post : Int32 → Prop} {t i : Nat} (ht : t < 24) (h : post (if rq_ow (oX t) i = 0 then 1 else rq_ow (oX t) i)) : wpX_bodyOutcome post (nI N, fT, fO, fS, aT, aP, aF, aL, aS, aH, tX, oX, gX, aD, aR, aC, aM, aK, aW) (nI t) (nI i) := by
  unfold wpX_bodyOutcome
  dsimp only
  rw [nI_clamp (by omega)]
  refine ⟨vp_in_nI (by omega) (by omega), nm_r (e' := rq_ow (oX t) i) rfl (br_c (fun e => ?_) (fun e => ?_))⟩
  · rw [if_pos e] at h; exact h
  · rw [if_neg e] at h; exact h
theorem rx_bo {x v : Int32} (h0 : ¬ v = 0) (h1 : ¬ v = 1) : (if x = 0 then 1 else x) = v ↔ x = v := by
  by_cases e : x = 0
  · rw [if_pos e, e]; exact ⟨fun z => absurd z.symm h1, fun z => absurd z.symm h0⟩
  · rw [if_neg e]
theorem rx_attempt {post : Int32 → SX → Prop} {p : Nat → Nat} {o t i : Nat} (W : rq_W N par) (hH : rq_HK aH) (hW : rq_WAY N par aT aW p o) (ho : o ≤ 24) (hA : rq_ANC par p o t) (ht : t < N)
    (H : ∀ C : Nat → Int32, (∀ j, C j = aC j + rq_dl par aH t j) → post (rq_AR par aH t (rq_ow (oX t) i)) (nI N, rq_S C 96, nI o, rq_AR par aH t (rq_ow (oX t) i), aT, aP, aF, aL, aS, aH, tX, oX, gX, aD, aR, C, aM, aK, aW)) :
    wpX_attempt post (nI N, rq_S aC 96, nI o, fS, aT, aP, aF, aL, aS, aH, tX, oX, gX, aD, aR, aC, aM, aK, aW) (nI t) (nI i) := by
  have hN := W.1
  have e0 : (1 : Int32) = rq_ST (∃ i, i < 0 ∧ aH (p i * 4 + 2) = 2) (∃ i, i < 0 ∧ aH (p i * 4 + 2) = 3) := (rq_ST1.mpr ⟨fun ⟨i, hi, _⟩ => by omega, fun ⟨i, hi, _⟩ => by omega⟩).symm
  unfold wpX_attempt
  dsimp only
  refine ⟨o + 1, ?_⟩
  rw [e0]
  refine rx_gd (C0 := aC) W hH hW ho ?_ o 0 aC (by omega) (fun i hi => by omega) (fun j => by rw [rq_f (fun ⟨i, hi, _⟩ => by omega), Int32.add_zero])
  intro d C hd hps h1 hC
  have hPS : (∀ i, i < o → aH (p i * 4 + 2) ≤ 1) ↔ rq_PS par aH t 2 := ⟨fun z c hc => by
    obtain ⟨i, hi, e⟩ := (hA c).mp hc
    rw [← e]; exact z i hi, fun z i hi => z (p i) ((hA _).mpr ⟨i, hi, rfl⟩)⟩
  have h1 := h1.trans hPS
  dsimp only
  rw [rq_i40, nI_clamp (n := t * 4) (by omega)]
  rw [← e0]
  refine br_c (fun k => ?_) (fun k => ?_)
  · have ps := h1.mp k
    refine ⟨vp_in_nI (by omega) (by omega), vp_in_nI (by omega) (by omega), nm_e (nm_r (rq_Su (f := C) (k := t * 4) 96 (by omega)).symm ?_)⟩
    refine rx_body (by omega) ?_
    refine rx_note rq_woS ?_
    refine nm_e ⟨d + 1, ?_⟩
    have ex2 : ((∃ i, i < d ∧ aH (p i * 4 + 2) = 2) ∨ (if rq_ow (oX t) i = 0 then 1 else rq_ow (oX t) i) = 2) ↔ (((∃ i, i < d ∧ aH (p i * 4 + 2) = 2) ∨ rq_ow (oX t) i = 2) ∨ ∃ i, d ≤ i ∧ i < d ∧ aH (p i * 4 + 3) = 2) := by
      rw [rx_bo (by decide) (by decide)]
      exact ⟨Or.inl, fun z => z.elim id (fun ⟨i, h1, h2, _⟩ => by omega)⟩
    have ex3 : ((∃ i, i < d ∧ aH (p i * 4 + 2) = 3) ∨ (if rq_ow (oX t) i = 0 then 1 else rq_ow (oX t) i) = 3) ↔ (((∃ i, i < d ∧ aH (p i * 4 + 2) = 3) ∨ rq_ow (oX t) i = 3) ∨ ∃ i, d ≤ i ∧ i < d ∧ aH (p i * 4 + 3) = 3) := by
      rw [rx_bo (by decide) (by decide)]
      exact ⟨Or.inl, fun z => z.elim id (fun ⟨i, h1, h2, _⟩ => by omega)⟩
    rw [rq_STc ex2 ex3]
    refine rx_a59 (C1 := upd C (t * 4) (C (t * 4) + 1)) W hW ho hd ?_ d _ (Nat.le_refl d) (fun j => by rw [rq_f (fun ⟨i, h1, h2, _⟩ => by omega), Int32.add_zero])
    intro C' hC'
    have er : rq_ST (((∃ i, i < d ∧ aH (p i * 4 + 2) = 2) ∨ rq_ow (oX t) i = 2) ∨ ∃ i, 0 ≤ i ∧ i < d ∧ aH (p i * 4 + 3) = 2) (((∃ i, i < d ∧ aH (p i * 4 + 2) = 3) ∨ rq_ow (oX t) i = 3) ∨ ∃ i, 0 ≤ i ∧ i < d ∧ aH (p i * 4 + 3) = 3) = rq_AR par aH t (rq_ow (oX t) i) := by
      refine rq_STc ?_ ?_
      · rw [rx_has hA hd hps]
        exact ⟨fun z => z.elim (fun z => z.elim (fun z => Or.inl (Or.inl z)) (fun z => Or.inr ⟨z, ps⟩)) (fun z => Or.inl (Or.inr z)), fun z => z.elim (fun z => z.elim (fun z => Or.inl (Or.inl z)) Or.inr) (fun z => Or.inl (Or.inr z.1))⟩
      · rw [rx_has hA hd hps]
        exact ⟨fun z => z.elim (fun z => z.elim (fun z => Or.inl (Or.inl z)) (fun z => Or.inr ⟨z, ps⟩)) (fun z => Or.inl (Or.inr z)), fun z => z.elim (fun z => z.elim (fun z => Or.inl (Or.inl z)) Or.inr) (fun z => Or.inl (Or.inr z.1))⟩
    rw [er]
    refine H C' (fun j => ?_)
    rw [hC' j, rx_dl hA hd hps]
    have eu : upd C (t * 4) (C (t * 4) + 1) j = C j + rq_if (j = t * 4 ∧ rq_PS par aH t 2) 1 0 := by
      by_cases q : j = t * 4
      · subst q; rw [pk_us, rq_t ⟨rfl, ps⟩]
      · rw [pk_un q, rq_f (fun z => q z.1), Int32.add_zero]
    rw [eu, hC j]
    rw [rq_add (R := (∃ i, i < d ∧ j = p i * 4 + 2 ∧ ¬ aH j = 0) ∨ (j = t * 4 ∧ rq_PS par aH t 2)) (fun ⟨i, _, e, _⟩ ⟨e2, _⟩ => by omega) Iff.rfl]
    exact rq_add (fun z ⟨i, _, _, e2, _⟩ => z.elim (fun ⟨k, _, e, _⟩ => by omega) (fun ⟨e, _⟩ => by omega)) Iff.rfl
  · have ps : ¬ rq_PS par aH t 2 := fun z => k (h1.mpr z)
    refine nm_e ⟨d + 1, ?_⟩
    have ex2 : (∃ i, i < d ∧ aH (p i * 4 + 2) = 2) ↔ ((∃ i, i < d ∧ aH (p i * 4 + 2) = 2) ∨ ∃ i, d ≤ i ∧ i < d ∧ aH (p i * 4 + 3) = 2) := ⟨Or.inl, fun z => z.elim id (fun ⟨i, h1, h2, _⟩ => by omega)⟩
    have ex3 : (∃ i, i < d ∧ aH (p i * 4 + 2) = 3) ↔ ((∃ i, i < d ∧ aH (p i * 4 + 2) = 3) ∨ ∃ i, d ≤ i ∧ i < d ∧ aH (p i * 4 + 3) = 3) := ⟨Or.inl, fun z => z.elim id (fun ⟨i, h1, h2, _⟩ => by omega)⟩
    rw [rq_STc ex2 ex3]
    refine rx_a59 (C1 := C) W hW ho hd ?_ d _ (Nat.le_refl d) (fun j => by rw [rq_f (fun ⟨i, h1, h2, _⟩ => by omega), Int32.add_zero])
    intro C' hC'
    have er : rq_ST ((∃ i, i < d ∧ aH (p i * 4 + 2) = 2) ∨ ∃ i, 0 ≤ i ∧ i < d ∧ aH (p i * 4 + 3) = 2) ((∃ i, i < d ∧ aH (p i * 4 + 2) = 3) ∨ ∃ i, 0 ≤ i ∧ i < d ∧ aH (p i * 4 + 3) = 3) = rq_AR par aH t (rq_ow (oX t) i) := by
      refine rq_STc ?_ ?_
      · rw [rx_has hA hd hps]
        exact ⟨Or.inl, fun z => z.elim id (fun z => absurd z.2 ps)⟩
      · rw [rx_has hA hd hps]
        exact ⟨Or.inl, fun z => z.elim id (fun z => absurd z.2 ps)⟩
    rw [er]
    refine H C' (fun j => ?_)
    rw [hC' j, rx_dl hA hd hps, hC j]
    rw [rq_c (P := ∃ i, i < d ∧ j = p i * 4 + 2 ∧ ¬ aH j = 0) (Q := (∃ i, i < d ∧ j = p i * 4 + 2 ∧ ¬ aH j = 0) ∨ (j = t * 4 ∧ rq_PS par aH t 2)) ⟨Or.inl, fun z => z.elim id (fun z => absurd z.2 ps)⟩]
    exact rq_add (fun z ⟨i, _, _, e2, _⟩ => z.elim (fun ⟨k, _, e, _⟩ => by omega) (fun ⟨e, _⟩ => by omega)) Iff.rfl
end
end
section
/-! X's runTest, enter, leave -/
section
variable {N : Nat} {par : Nat → Nat} {fT fO fS : Int32} {aT aP aF aL aS aH tX oX gX aD aR aC aM aK aW : Nat → Int32}
theorem rx_rt {post : SX → Prop} {p : Nat → Nat} {o t K : Nat} {C0 : Nat → Int32} (W : rq_W N par) (hH : rq_HK aH) (hW : rq_WAY N par aT aW p o) (ho : o ≤ 24) (hA : rq_ANC par p o t) (ht : t < N) (hK : K < 24) (hr : tX t = nI K) :
    ∀ (d i : Nat) (r s : Int32) (C : Nat → Int32), i + d = K → (∀ j, C j = C0 j + nI i * rq_dl par aH t j) →
    (∀ (C' : Nat → Int32) (s' : Int32), (∀ j, C' j = C0 j + nI (rq_TR (fun i => rq_AR par aH t (rq_ow (oX t) i)) d i r).2 * rq_dl par aH t j) → post (nI N, rq_S C' 96, nI o, s', aT, aP, aF, aL, aS, aH, tX, oX, gX, aD, upd aR t (rq_TR (fun i => rq_AR par aH t (rq_ow (oX t) i)) d i r).1, C', upd aM t (aM t + nI (rq_TR (fun i => rq_AR par aH t (rq_ow (oX t) i)) d i r).2), aK, aW)) →
    wX_runTest_4 post (nI t) (d + 1) r (nI i) (nI N) (rq_S C 96) (nI o) s aT aP aF aL aS aH tX oX gX aD aR C (upd aM t (aM t + nI i)) aK aW := by
  intro d
  have hN := W.1
  induction d with
  | zero =>
    intro i r s C hd hC H
    unfold wX_runTest_4
    rw [nI_clamp (by omega), hr]
    exact ⟨vp_in_nI (by omega) (by omega), br_t (nI_le (by omega) (by omega)) ⟨vp_in_nI (by omega) (by omega), nm_e (H C s hC)⟩⟩
  | succ d ih =>
    intro i r s C hd hC H
    unfold wX_runTest_4
    rw [nI_clamp (by omega), hr]
    refine ⟨vp_in_nI (by omega) (by omega), br_f (nI_ge (by omega) (by omega)) (br_c (fun h => ?_) (fun h => ⟨vp_in_nI (by omega) (by omega), nm_e ?_⟩))⟩
    · subst h
      refine rx_attempt W hH hW ho hA ht ?_
      intro C' hC'
      refine ⟨vp_in_nI (by omega) (by omega), vp_in_nI (by omega) (by omega), nm_r (e' := upd aM t (aM t + nI (i + 1))) (by rw [rq_uu, pk_us, Int32.add_assoc, nI_1]) (nm_r (nI_1 i) ?_)⟩
      refine ih (i + 1) _ _ C' (by omega) (fun j => ?_) ?_
      · rw [hC' j, hC j, ← nI_1]; grind
      · have e : rq_TR (fun i => rq_AR par aH t (rq_ow (oX t) i)) (d + 1) i 2 = rq_TR (fun i => rq_AR par aH t (rq_ow (oX t) i)) d (i + 1) (rq_AR par aH t (rq_ow (oX t) i)) := if_pos rfl
        rw [e] at H
        exact H
    · rw [rq_TRs h] at H
      exact H C s hC
theorem rx_runTest {post : SX → Prop} {p : Nat → Nat} {o t K : Nat} (W : rq_W N par) (hH : rq_HK aH) (hW : rq_WAY N par aT aW p o) (ho : o ≤ 24) (hA : rq_ANC par p o t) (ht : t < N) (hK : K < 24) (hr : tX t = nI K)
    (H : ∀ (C' : Nat → Int32) (s' : Int32), (∀ j, C' j = aC j + nI (rq_TT par aH tX oX t).2 * rq_dl par aH t j) → post (nI N, rq_S C' 96, nI o, s', aT, aP, aF, aL, aS, aH, tX, oX, gX, aD, upd aR t (rq_TT par aH tX oX t).1, C', upd aM t (aM t + nI (rq_TT par aH tX oX t).2), aK, aW)) :
    wpX_runTest post (nI N, rq_S aC 96, nI o, fS, aT, aP, aF, aL, aS, aH, tX, oX, gX, aD, aR, aC, aM, aK, aW) (nI t) := by
  have e : aM = upd aM t (aM t + nI 0) := by
    funext j
    by_cases q : j = t
    · subst q; rw [pk_us, nI_0, Int32.add_zero]
    · rw [pk_un q]
  refine ⟨K + 1, ?_⟩
  unfold rq_TT at H
  rw [hr, nI_clamp (by omega)] at H
  have z := rx_rt (post := post) (C0 := aC) (aM := aM) (aR := aR) (aP := aP) (aF := aF) (aL := aL) (aS := aS) (oX := oX) (gX := gX) (aD := aD) (aK := aK) W hH hW ho hA ht hK hr K 0 2 fS aC (by omega) (fun j => by rw [nI_0, Int32.zero_mul, Int32.add_zero]) H
  rw [← e] at z
  exact z
theorem rx_enter {post : Int32 → SX → Prop} {x o : Nat} (hx : x < 24) (ho : o < 24)
    (h : post (if rq_wo 1 (aH (x * 4)) = 1 then aF x else -1) (nI N, rq_S (rq_cy aH (x * 4) aC) 96, nI (o + 1), fS, aT, aP, aF, aL, aS, aH, tX, oX, gX, aD, upd aR x (rq_wo 1 (aH (x * 4))), rq_cy aH (x * 4) aC, aM, aK, upd aW o (nI x))) :
    wpX_enter post (nI N, rq_S aC 96, nI o, fS, aT, aP, aF, aL, aS, aH, tX, oX, gX, aD, aR, aC, aM, aK, aW) (nI x) := by
  unfold wpX_enter
  dsimp only
  refine rx_carry (w := 0) hx (by omega) ?_
  dsimp only
  refine rx_worse ?_
  rw [nI_clamp (n := x) (by omega), nI_clamp (n := o) (by omega)]
  refine ⟨vp_in_nI (by omega) (by omega), nm_e ⟨vp_in_nI (by omega) (by omega), nm_e (nm_r (nI_1 o) ⟨vp_in_nI (by omega) (by omega), ?_⟩)⟩⟩
  rw [pk_us, Nat.add_zero]
  refine br_c (fun e => ⟨vp_in_nI (by omega) (by omega), ?_⟩) (fun e => ?_)
  · rw [if_pos e] at h; exact h
  · rw [if_neg e] at h; exact h
theorem rx_leave {post : SX → Prop} {x o : Nat} (hx : x < 24) (ho : o < 24) (hw : aW o = nI x)
    (h : post (nI N, rq_S (rq_cy aH (x * 4 + 1) aC) 96, nI o, fS, aT, aP, aF, aL, aS, aH, tX, oX, gX, aD, upd aR x (rq_wo (aR x) (aH (x * 4 + 1))), rq_cy aH (x * 4 + 1) aC, aM, aK, aW)) :
    wpX_leave post (nI N, rq_S aC 96, nI (o + 1), fS, aT, aP, aF, aL, aS, aH, tX, oX, gX, aD, aR, aC, aM, aK, aW) := by
  unfold wpX_leave
  dsimp only
  refine nm_r (nI_pred o) ⟨vp_in_nI (by omega) (by omega), ?_⟩
  rw [nI_clamp (by omega), hw]
  refine nm_e (rx_carry (w := 1) hx (by omega) ?_)
  dsimp only
  rw [nI_clamp (by omega)]
  refine ⟨vp_in_nI (by omega) (by omega), rx_worse ⟨vp_in_nI (by omega) (by omega), nm_e ?_⟩⟩
  exact h
end
end
section
/-! what a set of nodes adds to results, counts and attempts -/
def rq_UP (N : Nat) (par : Nat → Nat) (aT g aD aH tr o : Nat → Int32) (tg : Int32) (Q : Nat → Prop) (R C M R' C' M' : Nat → Int32) : Prop :=
  (∀ m, R' m = rq_if (Q m ∧ rq_RUN N par aT g aD aH tg m) (rq_res par aT aH tr o m) (R m)) ∧ (∀ m, M' m = rq_if (Q m ∧ rq_RUN N par aT g aD aH tg m ∧ ¬ aT m = 0) (M m + nI (rq_TT par aH tr o m).2) (M m)) ∧ (∀ j, C' j = C j + rq_S (fun m => rq_if (Q m ∧ rq_RUN N par aT g aD aH tg m) (rq_ct par aT aH tr o m j) 0) N)
section
variable {N : Nat} {par : Nat → Nat} {aT aP aD aH g tr o : Nat → Int32} {tg : Int32} {Q Q1 Q2 : Nat → Prop} {R C M R' C' M' R2 C2 M2 : Nat → Int32}
theorem rq_Usp {G : Nat → Int32} (hd : ∀ m, m < N → Q1 m → Q2 m → False) (hQ : ∀ m, m < N → (Q m ↔ Q1 m ∨ Q2 m)) : rq_S (fun m => rq_if (Q m ∧ rq_RUN N par aT g aD aH tg m) (G m) 0) N = rq_S (fun m => rq_if (Q1 m ∧ rq_RUN N par aT g aD aH tg m) (G m) 0) N + rq_S (fun m => rq_if (Q2 m ∧ rq_RUN N par aT g aD aH tg m) (G m) 0) N := by
  rw [← rq_Sa]
  refine rq_Sc N fun m hm => ?_
  show rq_if (Q m ∧ rq_RUN N par aT g aD aH tg m) (G m) 0 = rq_if (Q1 m ∧ rq_RUN N par aT g aD aH tg m) (G m) 0 + rq_if (Q2 m ∧ rq_RUN N par aT g aD aH tg m) (G m) 0
  by_cases r : rq_RUN N par aT g aD aH tg m
  · by_cases q1 : Q1 m
    · rw [rq_t ⟨(hQ m hm).mpr (Or.inl q1), r⟩, rq_t ⟨q1, r⟩, rq_f (fun z => hd m hm q1 z.1), Int32.add_zero]
    · rw [rq_f (P := Q1 m ∧ _) (fun z => q1 z.1), Int32.zero_add]
      exact rq_c ⟨fun z => ⟨((hQ m hm).mp z.1).elim (fun z => absurd z q1) id, z.2⟩, fun z => ⟨(hQ m hm).mpr (Or.inr z.1), z.2⟩⟩
  · rw [rq_f (fun z => r z.2), rq_f (fun z => r z.2), rq_f (fun z => r z.2)]; decide
theorem rq_Uc (hd : ∀ m, m < N → Q1 m → Q2 m → False) (hQ : ∀ m, m < N → (Q m ↔ Q1 m ∨ Q2 m)) (h1 : rq_UP N par aT g aD aH tr o tg Q1 R C M R' C' M') (h2 : rq_UP N par aT g aD aH tr o tg Q2 R' C' M' R2 C2 M2) : rq_UP N par aT g aD aH tr o tg Q R C M R2 C2 M2 := by
  refine ⟨fun m => ?_, fun m => ?_, fun j => ?_⟩
  · rw [h2.1 m, h1.1 m]
    by_cases r : rq_RUN N par aT g aD aH tg m
    · by_cases q1 : Q1 m
      · rw [rq_f (fun z => hd m r.1 q1 z.1), rq_t ⟨q1, r⟩, rq_t ⟨(hQ m r.1).mpr (Or.inl q1), r⟩]
      · rw [rq_f (P := Q1 m ∧ _) (fun z => q1 z.1)]
        exact rq_c ⟨fun z => ⟨(hQ m r.1).mpr (Or.inr z.1), z.2⟩, fun z => ⟨((hQ m r.1).mp z.1).elim (fun z => absurd z q1) id, z.2⟩⟩
    · rw [rq_f (fun z => r z.2), rq_f (fun z => r z.2), rq_f (fun z => r z.2)]
  · rw [h2.2.1 m, h1.2.1 m]
    by_cases r : rq_RUN N par aT g aD aH tg m
    · by_cases q1 : Q1 m
      · rw [rq_f (P := Q2 m ∧ _) (fun z => hd m r.1 q1 z.1)]
        exact rq_c ⟨fun z => ⟨(hQ m r.1).mpr (Or.inl q1), z.2⟩, fun z => ⟨q1, z.2⟩⟩
      · rw [rq_f (P := Q1 m ∧ _) (fun z => q1 z.1)]
        exact rq_c ⟨fun z => ⟨(hQ m r.1).mpr (Or.inr z.1), z.2⟩, fun z => ⟨((hQ m r.1).mp z.1).elim (fun z => absurd z q1) id, z.2⟩⟩
    · rw [rq_f (fun z => r z.2.1), rq_f (fun z => r z.2.1), rq_f (fun z => r z.2.1)]
  · rw [h2.2.2 j, h1.2.2 j, rq_Usp hd hQ, Int32.add_assoc]
theorem rq_U0 (h : ∀ m, rq_RUN N par aT g aD aH tg m → ¬ Q m) : rq_UP N par aT g aD aH tr o tg Q R C M R C M := by
  refine ⟨fun m => ?_, fun m => ?_, fun j => ?_⟩
  · rw [rq_f (fun z => h m z.2 z.1)]
  · rw [rq_f (fun z => h m z.2.1 z.1)]
  · rw [rq_S0 N (fun m _ => rq_f (fun z => h m z.2 z.1)), Int32.add_zero]
theorem rq_Ug (hQ : ∀ m, m < N → (Q m ↔ Q1 m)) (h1 : rq_UP N par aT g aD aH tr o tg Q1 R C M R' C' M') : rq_UP N par aT g aD aH tr o tg Q R C M R' C' M' :=
  rq_Uc (Q2 := fun _ => False) (fun _ _ _ z => z) (fun m hm => (hQ m hm).trans ⟨Or.inl, fun z => z.elim id False.elim⟩) h1 (rq_U0 fun _ _ z => z)
theorem rq_noA (W : rq_W N par) (hP : rq_PP N par aT aP) {x m : Nat} (h : ¬ aT x = 0) (hm : m < N) : ¬ rq_A par x m := fun ha => by
  obtain ⟨y, hy0, hyN, hyx, _⟩ := rq_Acd W m hm ha
  have := (hP.2.2 y hy0 hyN).2
  rw [hyx] at this
  exact h this
theorem rq_Ut (W : rq_W N par) (hP : rq_PP N par aT aP) {x : Nat} (hr : rq_RUN N par aT g aD aH tg x) (ht : ¬ aT x = 0) (hC : ∀ j, C' j = C j + nI (rq_TT par aH tr o x).2 * rq_dl par aH x j) : rq_UP N par aT g aD aH tr o tg (fun m => m = x ∨ rq_A par x m) R C M (upd R x (rq_TT par aH tr o x).1) C' (upd M x (M x + nI (rq_TT par aH tr o x).2)) := by
  have no : ∀ m, m ≠ x → m < N → ¬ (m = x ∨ rq_A par x m) := fun m e hm z => z.elim e (rq_noA W hP ht hm)
  refine ⟨fun m => ?_, fun m => ?_, fun j => ?_⟩
  · by_cases e : m = x
    · subst e
      rw [pk_us, rq_t ⟨Or.inl rfl, hr⟩]
      exact (rq_f ht).symm
    · rw [pk_un e, rq_f (fun z => no m e z.2.1 z.1)]
  · by_cases e : m = x
    · subst e
      rw [pk_us, rq_t ⟨Or.inl rfl, hr, ht⟩]
    · rw [pk_un e, rq_f (fun z => no m e z.2.1.1 z.1)]
  · rw [hC j, rq_S1 (k := x) N hr.1 (fun m hm e => rq_f (fun z => no m e hm z.1)), rq_t ⟨Or.inl rfl, hr⟩]
    unfold rq_ct
    rw [rq_f ht]
theorem rq_Ub (W : rq_W N par) {x : Nat} (hr : rq_RUN N par aT g aD aH tg x) (ht : aT x = 0) (h : rq_UP N par aT g aD aH tr o tg (rq_A par x) (upd R x (rq_wo 1 (aH (x * 4)))) (rq_cy aH (x * 4) C) M R' C' M') : rq_UP N par aT g aD aH tr o tg (fun m => m = x ∨ rq_A par x m) R C M (upd R' x (rq_wo (R' x) (aH (x * 4 + 1)))) (rq_cy aH (x * 4 + 1) C') M' := by
  have nx : ¬ rq_A par x x := rq_Dd1 W hr.1
  refine ⟨fun m => ?_, fun m => ?_, fun j => ?_⟩
  · by_cases e : m = x
    · subst e
      rw [pk_us, rq_t ⟨Or.inl rfl, hr⟩, h.1 m, rq_f (fun z => nx z.1), pk_us, rq_wo1, rq_woS]
      exact (rq_t ht).symm
    · rw [pk_un e, h.1 m, pk_un e]
      exact rq_c ⟨fun z => ⟨Or.inr z.1, z.2⟩, fun z => ⟨z.1.elim (fun z => absurd z e) id, z.2⟩⟩
  · rw [h.2.1 m]
    exact rq_c ⟨fun z => ⟨Or.inr z.1, z.2⟩, fun z => ⟨z.1.elim (fun e => absurd ht (by rw [← e]; exact z.2.2)) id, z.2⟩⟩
  · rw [rq_cyv, h.2.2 j, rq_cyv, rq_Usp (Q1 := fun m => m = x) (Q2 := rq_A par x) (fun m hm e z => nx (by rw [e] at z; exact z)) (fun m hm => Iff.rfl)]
    have s1 : rq_S (fun m => rq_if (m = x ∧ rq_RUN N par aT g aD aH tg m) (rq_ct par aT aH tr o m j) 0) N = rq_if (j = x * 4 ∧ ¬ aH j = 0) 1 0 + rq_if (j = x * 4 + 1 ∧ ¬ aH j = 0) 1 0 := by
      rw [rq_S1 (k := x) N hr.1 (fun m hm e => rq_f (fun z => e z.1)), rq_t ⟨rfl, hr⟩]
      unfold rq_ct
      rw [rq_t ht]
      have := rq_add (P := j = x * 4 ∧ ¬ aH j = 0) (Q := j = x * 4 + 1 ∧ ¬ aH j = 0) (R := (j = x * 4 ∨ j = x * 4 + 1) ∧ ¬ aH j = 0) (x := 0) (fun z z2 => by omega) ⟨fun z => z.1.imp (fun e => ⟨e, z.2⟩) (fun e => ⟨e, z.2⟩), fun z => z.elim (fun z => ⟨Or.inl z.1, z.2⟩) (fun z => ⟨Or.inr z.1, z.2⟩)⟩
      rw [Int32.zero_add, Int32.zero_add] at this
      exact this.symm
    rw [s1]
    grind
theorem rq_TPup (W : rq_W N par) {x m : Nat} (hm : m < N) (h : rq_TP N par aT g aD tg m) (ha : rq_A par x m) : rq_TP N par aT g aD tg x := by
  rcases h with h | ⟨t, ht, h1, h2⟩
  · exact Or.inr ⟨m, hm, ha, h⟩
  · exact Or.inr ⟨t, ht, rq_Atr W t ht ha h1, h2⟩
theorem rq_Us (W : rq_W N par) {x : Nat} (hx : ¬ rq_TP N par aT g aD tg x) : rq_UP N par aT g aD aH tr o tg (fun m => m = x ∨ rq_A par x m) R C M R C M :=
  rq_U0 fun m hr z => z.elim (fun e => hx (by rw [← e]; exact hr.2.1)) (fun z => hx (rq_TPup W hr.1 hr.2.1 z))
end
end
section
/-! X's walk over the tree -/
/-- from node x on (at step st, below the containers on the way, p 0 .. p (o - 1)) the walk does all that x, what is below it and its later sisters ask, and goes on with none -/
def rq_CH (post : SX → Prop) (N : Nat) (par : Nat → Nat) (tg : Int32) (aT aP aF aL aS aH tX oX gX aD aK : Nat → Int32) (x : Nat) : Prop :=
  ∀ (st o : Nat) (p : Nat → Nat) (s : Int32) (R C M V : Nat → Int32), rq_WAY N par aT V p o → rq_ANC par p o x → rq_PS par aH x 0 → st + 2 * rq_K (rq_D N par x) N ≤ 60 →
  (∀ (st' : Nat) (s' : Int32) (R' C' M' V' : Nat → Int32), st' ≤ st + 2 * rq_K (rq_D N par x) N → (∀ i, i < o → V' i = V i) → rq_UP N par aT gX aD aH tX oX tg (rq_D N par x) R C M R' C' M' → wX_walk_13 post (65 - st') (-1) (nI st') (nI N) (rq_S C' 96) (nI o) s' aT aP aF aL aS aH tX oX gX aD R' C' M' aK V') →
  wX_walk_13 post (65 - st) (nI x) (nI st) (nI N) (rq_S C 96) (nI o) s aT aP aF aL aS aH tX oX gX aD R C M aK V
section
variable {N : Nat} {par : Nat → Nat} {fT fO fS tg : Int32} {aT aP aF aL aS aH tX oX gX aD aR aC aM aK aW : Nat → Int32} {post : SX → Prop}
theorem rq_ox {p : Nat → Nat} {o x : Nat} {V : Nat → Int32} (W : rq_W N par) (hW : rq_WAY N par aT V p o) (hA : rq_ANC par p o x) (hx : x < N) : o ≤ x := by
  by_cases h : o = 0
  · omega
  · have h1 := rq_Wge W hW (o - 1) (by omega)
    have h2 := rq_Alt W x hx ((hA (p (o - 1))).mpr ⟨o - 1, by omega, rfl⟩)
    omega
theorem rq_KD (W : rq_W N par) {x : Nat} (h0 : 0 < x) (hx : x < N) : rq_K (rq_D N par x) N = 1 + rq_K (rq_A par x) N + rq_K (rq_DS N par x) N := by
  rw [rq_Kc (Q := fun m => (m = x ∨ rq_A par x m) ∨ rq_DS N par x m) N (fun m _ => rq_Dx hx), rq_Ka (P := fun m => m = x ∨ rq_A par x m) N (fun m hm a b => rq_Dd2 W h0 hm a b), rq_Ka (P := fun m => m = x) N (fun m hm a b => rq_Dd1 W hx (by rw [a] at b; exact b)), rq_K1 N hx]
theorem rq_Wx {p : Nat → Nat} {o x : Nat} {V : Nat → Int32} (hW : rq_WAY N par aT V p o) (hA : rq_ANC par p o x) (hx : x < N) (ht : aT x = 0) : rq_WAY N par aT (upd V o (nI x)) (fun i => if i = o then x else p i) (o + 1) := by
  intro i hi
  by_cases e : i = o
  · subst e
    show (if i = i then x else p i) < N ∧ aT (if i = i then x else p i) = 0 ∧ upd V i (nI x) i = nI (if i = i then x else p i) ∧ ∀ c, rq_A par c (if i = i then x else p i) ↔ _
    rw [if_pos rfl]
    refine ⟨hx, ht, pk_us, fun c => (hA c).trans ⟨fun ⟨j, h1, h2⟩ => ⟨j, h1, ?_⟩, fun ⟨j, h1, h2⟩ => ⟨j, h1, ?_⟩⟩⟩
    · show (if j = i then x else p j) = c
      rw [if_neg (by omega)]; exact h2
    · have h3 : (if j = i then x else p j) = c := h2
      rw [if_neg (by omega)] at h3; exact h3
  · show (if i = o then x else p i) < N ∧ aT (if i = o then x else p i) = 0 ∧ upd V o (nI x) i = nI (if i = o then x else p i) ∧ ∀ c, rq_A par c (if i = o then x else p i) ↔ _
    rw [if_neg e, pk_un e]
    have h := hW i (by omega)
    refine ⟨h.1, h.2.1, h.2.2.1, fun c => (h.2.2.2 c).trans ⟨fun ⟨j, h1, h2⟩ => ⟨j, h1, ?_⟩, fun ⟨j, h1, h2⟩ => ⟨j, h1, ?_⟩⟩⟩
    · show (if j = o then x else p j) = c
      rw [if_neg (by omega)]; exact h2
    · have h3 : (if j = o then x else p j) = c := h2
      rw [if_neg (by omega)] at h3; exact h3
theorem rq_Ax {p : Nat → Nat} {o x f : Nat} (W : rq_W N par) (hA : rq_ANC par p o x) (h0 : 0 < f) (hf : f < N) (hp : par f = x) : rq_ANC par (fun i => if i = o then x else p i) (o + 1) f := by
  intro c
  rw [rq_As W h0 hf, hp, hA c]
  constructor
  · intro h
    rcases h with h | ⟨i, h1, h2⟩
    · exact ⟨o, by omega, by show (if o = o then x else p o) = c; rw [if_pos rfl]; exact h⟩
    · exact ⟨i, by omega, by show (if i = o then x else p i) = c; rw [if_neg (by omega)]; exact h2⟩
  · intro ⟨i, h1, h2⟩
    have h3 : (if i = o then x else p i) = c := h2
    by_cases e : i = o
    · rw [if_pos e] at h3; exact Or.inl h3
    · rw [if_neg e] at h3; exact Or.inr ⟨i, by omega, h3⟩
theorem rx_in {x : Nat} (W : rq_W N par) (hH : rq_HK aH) (hF : (aF x = -1 ∧ ∀ z, 0 < z → z < N → par z ≠ x) ∨ ∃ f, aF x = nI f ∧ rq_fst N par x f) (hT : aT x = 0) (hr : rq_RUN N par aT gX aD aH tg x) (ih : ∀ f, rq_fst N par x f → rq_CH post N par tg aT aP aF aL aS aH tX oX gX aD aK f)
    {st o : Nat} {p : Nat → Nat} {s : Int32} {R C M V : Nat → Int32} (hW : rq_WAY N par aT V p o) (hA : rq_ANC par p o x) (hst : st + 2 * rq_K (rq_A par x) N ≤ 60)
    (G : ∀ (st' : Nat) (s' : Int32) (R' C' M' V' : Nat → Int32), st' ≤ st + 2 * rq_K (rq_A par x) N + 1 → (∀ i, i < o → V' i = V i) → rq_UP N par aT gX aD aH tX oX tg (fun m => m = x ∨ rq_A par x m) R C M R' C' M' → wX_walk_13 post (65 - st') (aS x) (nI st') (nI N) (rq_S C' 96) (nI o) s' aT aP aF aL aS aH tX oX gX aD R' C' M' aK V') :
    wX_walk_13 post (65 - st) (if rq_wo 1 (aH (x * 4)) = 1 then aF x else -1) (nI st) (nI N) (rq_S (rq_cy aH (x * 4) C) 96) (nI (o + 1)) s aT aP aF aL aS aH tX oX gX aD (upd R x (rq_wo 1 (aH (x * 4)))) (rq_cy aH (x * 4) C) M aK (upd V o (nI x)) := by
  have hN := W.1
  have hx := hr.1
  have hox := rq_ox W hW hA hx
  have L : ∀ (st' : Nat) (s' : Int32) (R' C' M' V' : Nat → Int32), st' ≤ st + 2 * rq_K (rq_A par x) N → (∀ i, i < o + 1 → V' i = upd V o (nI x) i) → rq_UP N par aT gX aD aH tX oX tg (rq_A par x) (upd R x (rq_wo 1 (aH (x * 4)))) (rq_cy aH (x * 4) C) M R' C' M' → wX_walk_13 post (65 - st') (-1) (nI st') (nI N) (rq_S C' 96) (nI (o + 1)) s' aT aP aF aL aS aH tX oX gX aD R' C' M' aK V' := by
    intro st' s' R' C' M' V' h1 h2 h3
    have hv : V' o = nI x := (h2 o (by omega)).trans pk_us
    rw [show 65 - st' = (64 - st') + 1 from by omega]
    refine br_f (nI_ge (b := 64) (by omega) (by omega)) (br_f (nI_nle (by omega) (by omega)) (br_f (by decide) ?_))
    rw [nI_pred, nI_clamp (by omega), hv]
    refine ⟨vp_in_nI (by omega) (by omega), nm_e (rx_leave (x := x) (by omega) (by omega) hv ?_)⟩
    dsimp only
    rw [nI_clamp (by omega)]
    refine ⟨vp_in_nI (by omega) (by omega), nm_e (nm_r (nI_1 st') ?_)⟩
    have g := G (st' + 1) s' _ _ M' V' (by omega) (fun i hi => (h2 i (by omega)).trans (pk_un (by omega))) (rq_Ub W hr hT h3)
    rw [show 65 - (st' + 1) = 64 - st' from by omega] at g
    exact g
  by_cases e : rq_wo 1 (aH (x * 4)) = 1
  · rw [if_pos e]
    have hps : aH (x * 4) ≤ 1 := by
      have e' := e
      rw [rq_wo1, rq_ST1] at e'
      exact (rq_le1 (hH _)).mpr e'
    rcases hF with ⟨h1, h2⟩ | ⟨f, h1, h2⟩
    · rw [h1]
      exact L st s _ _ M _ (by omega) (fun i hi => rfl) (rq_U0 fun m hm z => rq_Dnil W h2 hm.1 z)
    · rw [h1]
      have hk : rq_K (rq_A par x) N = rq_K (rq_D N par f) N := rq_Kc N fun m hm => rq_Dfst W h2 hm
      refine ih f h2 st (o + 1) (fun i => if i = o then x else p i) s _ _ M _ (rq_Wx hW hA hx hT) (rq_Ax W hA h2.1 h2.2.1 h2.2.2.1) ?_ (by omega) ?_
      · intro c hc
        rcases (rq_As W h2.1 h2.2.1).mp hc with z | z
        · rw [h2.2.2.1] at z; subst z; exact hps
        · rw [h2.2.2.1] at z; exact hr.2.2 c z
      · intro st' s' R' C' M' V' k1 k2 k3
        exact L st' s' R' C' M' V' (by omega) k2 (rq_Ug (fun m hm => rq_Dfst W h2 hm) k3)
  · rw [if_neg e]
    refine L st s _ _ M _ (by omega) (fun i hi => rfl) (rq_U0 fun m hm z => e ?_)
    have := hm.2.2 x z
    rw [rq_wo1, rq_ST1]
    exact (rq_le1 (hH _)).mp this
theorem rx_chain (W : rq_W N par) (hH : rq_HK aH) (hP : rq_PP N par aT aP)
    (hF : ∀ q, q < N → (aF q = -1 ∧ ∀ z, 0 < z → z < N → par z ≠ q) ∨ ∃ f, aF q = nI f ∧ rq_fst N par q f)
    (hS : ∀ q, 0 < q → q < N → (aS q = -1 ∧ ∀ z, q < z → z < N → par z ≠ par q) ∨ ∃ f, aS q = nI f ∧ rq_nxt N par q f)
    (hK : ∀ q, q < N → (aK q = 0 → ¬ rq_TP N par aT gX aD tg q) ∧ (¬ aK q = 0 → rq_TP N par aT gX aD tg q))
    (hR : ∀ t, t < N → ∃ K, K < 24 ∧ tX t = nI K) :
    ∀ e x, N ≤ x + e → 0 < x → x < N → rq_CH post N par tg aT aP aF aL aS aH tX oX gX aD aK x := by
  intro e
  have hN := W.1
  induction e with
  | zero => intro x h1 h2 h3; omega
  | succ e ih =>
    intro x hxe h0 hx st o p s R C M V hW hA hps hst H
    have hkd := rq_KD W h0 hx
    have hox := rq_ox W hW hA hx
    have ho : 0 < o := by
      obtain ⟨i, hi, _⟩ := (hA (par x)).mp ((rq_As W h0 hx).mpr (Or.inl rfl))
      omega
    have G : ∀ (st' : Nat) (s' : Int32) (R' C' M' V' : Nat → Int32), st' ≤ st + 2 * (1 + rq_K (rq_A par x) N) → (∀ i, i < o → V' i = V i) → rq_UP N par aT gX aD aH tX oX tg (fun m => m = x ∨ rq_A par x m) R C M R' C' M' → wX_walk_13 post (65 - st') (aS x) (nI st') (nI N) (rq_S C' 96) (nI o) s' aT aP aF aL aS aH tX oX gX aD R' C' M' aK V' := by
      intro st' s' R' C' M' V' h1 h2 h3
      rcases hS x h0 hx with ⟨e1, hl⟩ | ⟨y, e1, hy⟩
      · rw [e1]
        exact H st' s' R' C' M' V' (by omega) h2 (rq_Ug (fun m hm => (rq_Dx hx).trans ⟨fun z => z.elim id (fun z => absurd z (rq_Dlast hl)), Or.inl⟩) h3)
      · rw [e1]
        have hk : rq_K (rq_DS N par x) N = rq_K (rq_D N par y) N := rq_Kc N fun m _ => rq_Dnxt hy
        have hxy := hy.1
        have hyN := hy.2.1
        have hA' : rq_ANC par p o y := fun c => by rw [rq_As W (by omega) hyN, hy.2.2.1, ← rq_As W h0 hx]; exact hA c
        refine ih y (by omega) (by omega) hyN st' o p s' R' C' M' V' (fun i hi => by rw [h2 i hi]; exact hW i hi) hA' (fun c hc => hps c ((hA c).mpr ((hA' c).mp hc))) (by omega) ?_
        intro st2 s2 R2 C2 M2 V2 k1 k2 k3
        exact H st2 s2 R2 C2 M2 V2 (by omega) (fun i hi => (k2 i hi).trans (h2 i hi)) (rq_Uc (fun m hm a b => rq_Dd2 W h0 hm a ((rq_Dnxt hy).mpr b)) (fun m hm => (rq_Dx hx).trans (or_congr Iff.rfl (rq_Dnxt hy))) h3 k3)
    rw [show 65 - st = (64 - st) + 1 from by omega]
    refine br_f (nI_ge (b := 64) (by omega) (by omega)) (br_f (nI_nle (by omega) (by omega)) (br_t (nI_pos' (by omega)) ⟨vp_in_nI (by omega) (by omega), ?_⟩))
    rw [nI_clamp (by omega)]
    have e64 : 65 - (st + 1) = 64 - st := by omega
    refine br_c (fun hk => ⟨vp_in_nI (by omega) (by omega), nm_e (nm_r (nI_1 st) ?_)⟩) (fun hk => ⟨vp_in_nI (by omega) (by omega), br_c (fun ht => ?_) (fun ht => ?_)⟩)
    · have g := G (st + 1) s R C M V (by omega) (fun _ _ => rfl) (rq_Us W ((hK x hx).1 hk))
      rw [e64] at g
      exact g
    · have hr : rq_RUN N par aT gX aD aH tg x := ⟨hx, (hK x hx).2 hk, hps⟩
      refine rx_enter (by omega) (by omega) (nm_r (nI_1 st) ?_)
      have g := rx_in (st := st + 1) (s := s) (R := R) (C := C) (M := M) W hH (hF x hx) ht hr (fun f hf => ih f (by have := W.2 f hf.1 hf.2.1; have := hf.2.2.1; omega) hf.1 hf.2.1) hW hA (by omega) (fun st' s' R' C' M' V' k1 k2 k3 => G st' s' R' C' M' V' (by omega) k2 k3)
      rw [e64] at g
      exact g
    · have hr : rq_RUN N par aT gX aD aH tg x := ⟨hx, (hK x hx).2 hk, hps⟩
      obtain ⟨K, hK1, hK2⟩ := hR x hx
      refine rx_runTest W hH hW (by omega) hA hx hK1 hK2 ?_
      intro C' s' hC'
      refine ⟨vp_in_nI (by omega) (by omega), nm_e (nm_r (nI_1 st) ?_)⟩
      have g := G (st + 1) s' _ C' _ V (by omega) (fun _ _ => rfl) (rq_Ut W hP hr ht hC')
      rw [e64] at g
      exact g
theorem rx_walk (W : rq_W N par) (hH : rq_HK aH) (hP : rq_PP N par aT aP)
    (hF : ∀ q, q < N → (aF q = -1 ∧ ∀ z, 0 < z → z < N → par z ≠ q) ∨ ∃ f, aF q = nI f ∧ rq_fst N par q f)
    (hS : ∀ q, 0 < q → q < N → (aS q = -1 ∧ ∀ z, q < z → z < N → par z ≠ par q) ∨ ∃ f, aS q = nI f ∧ rq_nxt N par q f)
    (hS0 : aS 0 = -1)
    (hK : ∀ q, q < N → (aK q = 0 → ¬ rq_TP N par aT gX aD tg q) ∧ (¬ aK q = 0 → rq_TP N par aT gX aD tg q))
    (hR : ∀ t, t < N → ∃ K, K < 24 ∧ tX t = nI K) (h0 : 0 < N) (hp : rq_TP N par aT gX aD tg 0)
    (H : ∀ (s' : Int32) (R' C' M' V' : Nat → Int32), rq_UP N par aT gX aD aH tX oX tg (fun m => m = 0 ∨ rq_A par 0 m) aR aC aM R' C' M' → post (nI N, rq_S C' 96, 0, s', aT, aP, aF, aL, aS, aH, tX, oX, gX, aD, R', C', M', aK, V')) :
    wpX_walk post (nI N, rq_S aC 96, fO, fS, aT, aP, aF, aL, aS, aH, tX, oX, gX, aD, aR, aC, aM, aK, aW) := by
  have hN := W.1
  have hr : rq_RUN N par aT gX aD aH tg 0 := ⟨h0, hp, fun c hc => absurd hc rq_A0⟩
  have kl := rq_Kle (rq_A par 0) N
  unfold wpX_walk
  dsimp only
  refine rx_enter (x := 0) (o := 0) (by omega) (by omega) ⟨65, ?_⟩
  refine rx_in (p := fun i => i) (st := 0) W hH (hF 0 h0) hP.2.1 hr (fun f hf => rx_chain W hH hP hF hS hK hR N f (by omega) hf.1 hf.2.1) (fun i hi => by omega) (fun c => ⟨fun z => absurd z rq_A0, fun ⟨i, hi, _⟩ => by omega⟩) (by omega) ?_
  intro st' s' R' C' M' V' k1 k2 k3
  rw [show 65 - st' = (64 - st') + 1 from by omega]
  exact br_f (nI_ge (b := 64) (by omega) (by omega)) (br_t (by decide) (H s' R' C' M' V' k3))
end
end
section
/-! X's choose, count, run -/
def rq_T1 (par : Nat → Nat) (aD : Nat → Int32) (n : Nat) : Prop := aD n = 0 ∧ ∀ c, rq_A par c n → aD c = 0
section
variable {N : Nat} {par : Nat → Nat} {fT fO fS tg : Int32} {aT aP aF aL aS aH tX oX gX aD aR aC aM aK aW : Nat → Int32}
theorem rq_TPt (W : rq_W N par) (hP : rq_PP N par aT aP) {n : Nat} (h : ¬ aT n = 0) : rq_TP N par aT gX aD tg n ↔ rq_T1 par aD n ∧ ¬ gX n &&& tg = 0 := by
  constructor
  · intro z
    rcases z with z | z
    · exact ⟨⟨z.2.2.1, z.2.2.2⟩, z.2.1⟩
    · exact absurd z (rq_noU W hP h)
  · exact fun z => Or.inl ⟨h, z.2, z.1.1, z.1.2⟩
theorem rq_TPc (W : rq_W N par) {n : Nat} (h : aT n = 0) : rq_TP N par aT gX aD tg n ↔ rq_T1 par aD n ∧ ∃ y, 0 < y ∧ y < N ∧ par y = n ∧ rq_TP N par aT gX aD tg y := by
  constructor
  · intro z
    rcases z with z | ⟨t, ht, h1, h2⟩
    · exact absurd h z.1
    · refine ⟨⟨h2.2.2.2 n h1, fun c hc => h2.2.2.2 c (rq_Atr W t ht hc h1)⟩, ?_⟩
      obtain ⟨y, hy0, hyN, hyx, hy⟩ := rq_Acd W t ht h1
      refine ⟨y, hy0, hyN, hyx, ?_⟩
      rcases hy with hy | hy
      · rw [← hy]; exact Or.inl h2
      · exact Or.inr ⟨t, ht, hy, h2⟩
  · intro ⟨_, y, hy0, hyN, hyx, hy⟩
    rcases hy with hy | ⟨t, ht, h1, h2⟩
    · exact Or.inr ⟨y, hyN, rq_Aup W hy0 hyN hyx hyN (Or.inl rfl), hy⟩
    · exact Or.inr ⟨t, ht, rq_Aup W hy0 hyN hyx ht (Or.inr h1), h2⟩
theorem rq_T1s (W : rq_W N par) {n : Nat} (h0 : 0 < n) (hn : n < N) : rq_T1 par aD n ↔ aD n = 0 ∧ rq_T1 par aD (par n) := by
  constructor
  · intro ⟨h1, h2⟩
    exact ⟨h1, h2 _ ((rq_As W h0 hn).mpr (Or.inl rfl)), fun c hc => h2 c ((rq_As W h0 hn).mpr (Or.inr hc))⟩
  · intro ⟨h1, h2, h3⟩
    refine ⟨h1, fun c hc => ?_⟩
    rcases (rq_As W h0 hn).mp hc with e | e
    · rw [← e]; exact h2
    · exact h3 c e
theorem rx_ctp {post : Int32 → Prop} (hN : N ≤ 24)
    (hS : ∀ q, 0 < q → q < N → (aS q = -1 ∧ ∀ z, q < z → z < N → par z ≠ par q) ∨ ∃ f, aS q = nI f ∧ rq_nxt N par q f) :
    ∀ e c i, N ≤ c + e → 0 < c → c < N → i < c → post (rq_if (∃ y, c ≤ y ∧ y < N ∧ par y = par c ∧ ¬ aK y = 0) 1 0) → wX_childTakesPart_9 post (nI N) fT fO fS aT aP aF aL aS aH tX oX gX aD aR aC aM aK aW (e + 1) (nI c) (nI i) := by
  intro e
  induction e with
  | zero => intro c i h1 h2 h3; omega
  | succ e ih =>
    intro c i hce h0 hc hi hp
    refine br_f (nI_ge (b := 24) (by omega) (by omega)) (br_f (nI_pos (by omega)) ⟨vp_in_nI (by omega) (by omega), ?_⟩)
    rw [nI_clamp (by omega)]
    refine br_c (fun hk => ⟨vp_in_nI (by omega) (by omega), ?_⟩) (fun hk => ?_)
    · rcases hS c h0 hc with ⟨e1, hl⟩ | ⟨y, e1, hy⟩
      · rw [e1]
        rw [rq_f (fun ⟨y, h1, h2, h3, h4⟩ => by
          by_cases q : y = c
          · rw [q] at h4; exact h4 hk
          · exact hl y (by omega) h2 h3)] at hp
        exact nm_e (nm_e (br_c (fun _ => hp) (fun _ => br_t (by decide) hp)))
      · rw [e1]
        have hy1 := hy.1
        refine nm_e (nm_r (nI_1 i) (ih y (i + 1) (by omega) (by omega) hy.2.1 (by omega) ?_))
        rw [rq_c (Q := ∃ y, c ≤ y ∧ y < N ∧ par y = par c ∧ ¬ aK y = 0) ⟨fun ⟨z, h1, h2, h3, h4⟩ => ⟨z, by omega, h2, by rw [h3]; exact hy.2.2.1, h4⟩, fun ⟨z, h1, h2, h3, h4⟩ => by
          by_cases q : z = c
          · rw [q] at h4; exact absurd hk h4
          · exact ⟨z, hy.2.2.2 z (by omega) h2 h3, h2, by rw [h3]; exact hy.2.2.1.symm, h4⟩⟩]
        exact hp
    · rw [rq_t ⟨c, Nat.le_refl c, hc, rfl, hk⟩] at hp
      exact hp
theorem rx_child {post : Int32 → Prop} (hN : N ≤ 24)
    (hF : ∀ q, q < N → (aF q = -1 ∧ ∀ z, 0 < z → z < N → par z ≠ q) ∨ ∃ f, aF q = nI f ∧ rq_fst N par q f)
    (hS : ∀ q, 0 < q → q < N → (aS q = -1 ∧ ∀ z, q < z → z < N → par z ≠ par q) ∨ ∃ f, aS q = nI f ∧ rq_nxt N par q f)
    {q : Nat} (hq : q < N) (hp : post (rq_if (∃ y, 0 < y ∧ y < N ∧ par y = q ∧ ¬ aK y = 0) 1 0)) : wpX_childTakesPart post (nI N, fT, fO, fS, aT, aP, aF, aL, aS, aH, tX, oX, gX, aD, aR, aC, aM, aK, aW) (nI q) := by
  unfold wpX_childTakesPart
  dsimp only
  rw [nI_clamp (by omega)]
  refine ⟨vp_in_nI (by omega) (by omega), ?_⟩
  rcases hF q hq with ⟨e1, hl⟩ | ⟨f, e1, hf⟩
  · rw [e1]
    rw [rq_f (fun ⟨y, h1, h2, h3, h4⟩ => hl y h1 h2 h3)] at hp
    exact nm_e ⟨1, br_f (by decide) (br_t (by decide) hp)⟩
  · rw [e1]
    refine nm_e ⟨N + 1, rx_ctp hN hS N f 0 (by omega) hf.1 hf.2.1 hf.1 ?_⟩
    rw [rq_c (Q := ∃ y, 0 < y ∧ y < N ∧ par y = q ∧ ¬ aK y = 0) ⟨fun ⟨y, h1, h2, h3, h4⟩ => ⟨y, by have := hf.1; omega, h2, by rw [h3]; exact hf.2.2.1, h4⟩, fun ⟨y, h1, h2, h3, h4⟩ => ⟨y, hf.2.2.2 y h1 h2 h3, h2, by rw [h3]; exact hf.2.2.1.symm, h4⟩⟩]
    exact hp
theorem rx_c71 {post : SX → Prop} (W : rq_W N par) (hP : rq_PP N par aT aP)
    (hF : ∀ q, q < N → (aF q = -1 ∧ ∀ z, 0 < z → z < N → par z ≠ q) ∨ ∃ f, aF q = nI f ∧ rq_fst N par q f)
    (hS : ∀ q, 0 < q → q < N → (aS q = -1 ∧ ∀ z, q < z → z < N → par z ≠ par q) ∨ ∃ f, aS q = nI f ∧ rq_nxt N par q f)
    (H : ∀ K : Nat → Int32, (∀ m, m < N → (K m = 0 ↔ ¬ rq_TP N par aT gX aD tg m)) → post (nI N, fT, fO, fS, aT, aP, aF, aL, aS, aH, tX, oX, gX, aD, aR, aC, aM, K, aW)) :
    ∀ (e : Nat) (K : Nat → Int32), e ≤ N → (∀ m, m < e → (K m = 0 ↔ ¬ rq_T1 par aD m)) → (∀ m, e ≤ m → m < N → (K m = 0 ↔ ¬ rq_TP N par aT gX aD tg m)) → wX_choose_71 post tg (nI N) fT fO fS (e + 1) (nI e - 1) aT aP aF aL aS aH tX oX gX aD aR aC aM K aW := by
  intro e
  have hN := W.1
  induction e with
  | zero =>
    intro K he h1 h2
    exact br_t (by decide) (H K (fun m hm => h2 m (by omega) hm))
  | succ e ih =>
    intro K he h1 h2
    have he1 := h1 e (by omega)
    have go : ∀ (v : Int32), (v = 0 ↔ ¬ rq_TP N par aT gX aD tg e) → wX_choose_71 post tg (nI N) fT fO fS (e + 1) (nI e + -1) aT aP aF aL aS aH tX oX gX aD aR aC aM (upd K e v) aW := fun v hv => by
      rw [show nI e + -1 = nI e - 1 from (Int32.sub_eq_add_neg _ _).symm]
      refine ih (upd K e v) (by omega) (fun m hm => ?_) (fun m hm hm2 => ?_)
      · rw [pk_un (by omega)]; exact h1 m (by omega)
      · by_cases q : m = e
        · subst q; rw [pk_us]; exact hv
        · rw [pk_un q]; exact h2 m (by omega) hm2
    have go0 : ¬ rq_TP N par aT gX aD tg e → wX_choose_71 post tg (nI N) fT fO fS (e + 1) (nI e + -1) aT aP aF aL aS aH tX oX gX aD aR aC aM (upd K e (vp_nar .boolean 0)) aW := fun z => go _ ⟨fun _ => z, fun _ => rfl⟩
    have go1 : rq_TP N par aT gX aD tg e → wX_choose_71 post tg (nI N) fT fO fS (e + 1) (nI e + -1) aT aP aF aL aS aH tX oX gX aD aR aC aM (upd K e (vp_nar .boolean 1)) aW := fun z => go _ ⟨fun q => absurd q (by decide), fun q => absurd z q⟩
    rw [nI_pred]
    refine br_f (nI_pos (by omega)) ⟨vp_in_nI (by omega) (by omega), ?_⟩
    rw [nI_clamp (by omega)]
    refine br_c (fun ht => ⟨vp_in_nI (by omega) (by omega), br_c (fun hk => ⟨vp_in_nI (by omega) (by omega), nm_e (nm_e (go0 ?_))⟩) (fun hk => ?_)⟩) (fun ht => ⟨vp_in_nI (by omega) (by omega), br_c (fun hk => ⟨vp_in_nI (by omega) (by omega), nm_e (nm_e (go0 ?_))⟩) (fun hk => ⟨vp_in_nI (by omega) (by omega), br_c (fun hg => ⟨vp_in_nI (by omega) (by omega), nm_e (nm_e (go0 ?_))⟩) (fun hg => ⟨vp_in_nI (by omega) (by omega), nm_e (nm_e (go1 ?_))⟩)⟩)⟩)
    · exact fun z => he1.mp hk ((rq_TPc W ht).mp z).1
    · have t1 : rq_T1 par aD e := Classical.byContradiction fun z => hk (he1.mpr z)
      refine rx_child hN hF hS (by omega) ?_
      have cc : (∃ y, 0 < y ∧ y < N ∧ par y = e ∧ ¬ K y = 0) ↔ rq_TP N par aT gX aD tg e := by
        rw [rq_TPc W ht]
        constructor
        · intro ⟨y, k1, k2, k3, k4⟩
          have := W.2 y k1 k2
          exact ⟨t1, y, k1, k2, k3, Classical.byContradiction fun z => k4 ((h2 y (by omega) k2).mpr z)⟩
        · intro ⟨_, y, k1, k2, k3, k4⟩
          have := W.2 y k1 k2
          exact ⟨y, k1, k2, k3, fun z => (h2 y (by omega) k2).mp z k4⟩
      refine rq_br (fun z => ⟨vp_in_nI (by omega) (by omega), nm_e (nm_e (go0 ?_))⟩) (fun z => ⟨vp_in_nI (by omega) (by omega), nm_e (nm_e (go1 ?_))⟩)
      · exact fun q => z (cc.mpr q)
      · exact cc.mp z
    · exact fun z => he1.mp hk ((rq_TPt W hP ht).mp z).1
    · exact fun z => ((rq_TPt W hP ht).mp z).2 hg
    · exact (rq_TPt W hP ht).mpr ⟨Classical.byContradiction fun z => hk (he1.mpr z), hg⟩
theorem rx_c37 {post : SX → Prop} {J : Int32 → (Nat → Int32) → (Nat → Int32) → (Nat → Int32) → (Nat → Int32) → (Nat → Int32) → (Nat → Int32) → (Nat → Int32) → (Nat → Int32) → (Nat → Int32) → (Nat → Int32) → (Nat → Int32) → (Nat → Int32) → (Nat → Int32) → (Nat → Int32) → (Nat → Int32) → Prop} {n : Nat} (hn : n < 24) (h : J (nI (n + 1)) aT aP aF aL aS aH tX oX gX aD aR aC aM (upd aK n 0) aW) : wX_choose_37 post J tg (nI n) (nI N) fT fO fS aT aP aF aL aS aH tX oX gX aD aR aC aM aK aW := by
  unfold wX_choose_37 wX_choose_42
  rw [nI_clamp (by omega)]
  exact br_f (by decide) ⟨vp_in_nI (by omega) (by omega), nm_r (e' := upd aK n 0) rfl (nm_r (nI_1 n) h)⟩
theorem rx_c41 {post : SX → Prop} {J : Int32 → (Nat → Int32) → (Nat → Int32) → (Nat → Int32) → (Nat → Int32) → (Nat → Int32) → (Nat → Int32) → (Nat → Int32) → (Nat → Int32) → (Nat → Int32) → (Nat → Int32) → (Nat → Int32) → (Nat → Int32) → (Nat → Int32) → (Nat → Int32) → (Nat → Int32) → Prop} {n : Nat} (hn : n < 24) (h : J (nI (n + 1)) aT aP aF aL aS aH tX oX gX aD aR aC aM (upd aK n 1) aW) : wX_choose_41 post J tg (nI n) (nI N) fT fO fS aT aP aF aL aS aH tX oX gX aD aR aC aM aK aW := by
  unfold wX_choose_41 wX_choose_42
  rw [nI_clamp (by omega)]
  exact br_t rfl ⟨vp_in_nI (by omega) (by omega), nm_r (e' := upd aK n 1) rfl (nm_r (nI_1 n) h)⟩
theorem rx_c2 {post : SX → Prop} (W : rq_W N par) (hP : rq_PP N par aT aP)
    (H : ∀ K : Nat → Int32, (∀ m, m < N → (K m = 0 ↔ ¬ rq_T1 par aD m)) → ∃ n, wX_choose_71 post tg (nI N) fT fO fS n (nI N - 1) aT aP aF aL aS aH tX oX gX aD aR aC aM K aW) :
    ∀ (e n : Nat) (K : Nat → Int32), n + e = N → (∀ m, m < n → (K m = 0 ↔ ¬ rq_T1 par aD m)) → wX_choose_2 post tg (nI N) fT fO fS (e + 1) (nI n) aT aP aF aL aS aH tX oX gX aD aR aC aM K aW := by
  intro e
  have hN := W.1
  induction e with
  | zero =>
    intro n K he h1
    obtain rfl : n = N := by omega
    exact br_t (nI_le (by omega) (by omega)) (nm_e (H K h1))
  | succ e ih =>
    intro n K he h1
    have go : ∀ (v : Int32), (v = 0 ↔ ¬ rq_T1 par aD n) → wX_choose_2 post tg (nI N) fT fO fS (e + 1) (nI (n + 1)) aT aP aF aL aS aH tX oX gX aD aR aC aM (upd K n v) aW := fun v hv => by
      refine ih (n + 1) (upd K n v) (by omega) (fun m hm => ?_)
      by_cases q : m = n
      · subst q; rw [pk_us]; exact hv
      · rw [pk_un q]; exact h1 m (by omega)
    have go0 : ¬ rq_T1 par aD n → wX_choose_2 post tg (nI N) fT fO fS (e + 1) (nI (n + 1)) aT aP aF aL aS aH tX oX gX aD aR aC aM (upd K n 0) aW := fun z => go _ ⟨fun _ => z, fun _ => rfl⟩
    have go1 : rq_T1 par aD n → wX_choose_2 post tg (nI N) fT fO fS (e + 1) (nI (n + 1)) aT aP aF aL aS aH tX oX gX aD aR aC aM (upd K n 1) aW := fun z => go _ ⟨fun q => absurd q (by decide), fun q => absurd z q⟩
    refine br_f (nI_ge (by omega) (by omega)) ⟨vp_in_nI (by omega) (by omega), ?_⟩
    rw [nI_clamp (by omega)]
    refine br_c (fun hd => ?_) (fun hd => rx_c37 (by omega) (go0 fun z => hd z.1))
    by_cases h0 : n = 0
    · subst h0
      exact br_t (by decide) (rx_c41 (by omega) (go1 ⟨hd, fun c hc => absurd hc rq_A0⟩))
    · have hpn := W.2 n (by omega) (by omega)
      refine br_f (nI_nle (by omega) (by omega)) ⟨vp_in_nI (by omega) (by omega), ?_⟩
      rw [(hP.2.2 n (by omega) (by omega)).1, nI_clamp (by omega)]
      refine ⟨vp_in_nI (by omega) (by omega), br_c (fun hk => rx_c37 (by omega) (go0 fun z => ?_)) (fun hk => rx_c41 (by omega) (go1 ?_))⟩
      · exact (h1 (par n) hpn).mp hk ((rq_T1s W (by omega) (by omega)).mp z).2
      · exact (rq_T1s W (by omega) (by omega)).mpr ⟨hd, Classical.byContradiction fun z => hk ((h1 (par n) hpn).mpr z)⟩
theorem rx_choose {post : SX → Prop} (W : rq_W N par) (hP : rq_PP N par aT aP)
    (hF : ∀ q, q < N → (aF q = -1 ∧ ∀ z, 0 < z → z < N → par z ≠ q) ∨ ∃ f, aF q = nI f ∧ rq_fst N par q f)
    (hS : ∀ q, 0 < q → q < N → (aS q = -1 ∧ ∀ z, q < z → z < N → par z ≠ par q) ∨ ∃ f, aS q = nI f ∧ rq_nxt N par q f)
    (H : ∀ K : Nat → Int32, (∀ m, m < N → (K m = 0 ↔ ¬ rq_TP N par aT gX aD tg m)) → post (nI N, fT, fO, fS, aT, aP, aF, aL, aS, aH, tX, oX, gX, aD, aR, aC, aM, K, aW)) : wpX_choose post (nI N, fT, fO, fS, aT, aP, aF, aL, aS, aH, tX, oX, gX, aD, aR, aC, aM, aK, aW) tg :=
  ⟨N + 1, rx_c2 W hP (fun K hK => ⟨N + 1, rx_c71 W hP hF hS H N K (Nat.le_refl N) hK (fun m h1 h2 => by omega)⟩) N 0 aK (by omega) (fun m hm => by omega)⟩
theorem rx_ct {post : Int32 → Prop} {v : Int32} (hN : N ≤ 24) (hp : post (rq_S (fun m => rq_if (¬ aT m = 0 ∧ aR m = v) 1 0) N)) : ∀ d i : Nat, i + d = N → wX_count_16 post v (nI N) fT fO fS aT aP aF aL aS aH tX oX gX aD aR aC aM aK aW (d + 1) (rq_S (fun m => rq_if (¬ aT m = 0 ∧ aR m = v) 1 0) i) (nI i) := by
  intro d
  induction d with
  | zero =>
    intro i hd
    obtain rfl : i = N := by omega
    exact br_t (nI_le (by omega) (by omega)) hp
  | succ d ih =>
    intro i hd
    have hs : rq_S (fun m => rq_if (¬ aT m = 0 ∧ aR m = v) 1 0) (i + 1) = rq_S (fun m => rq_if (¬ aT m = 0 ∧ aR m = v) 1 0) i + rq_if (¬ aT i = 0 ∧ aR i = v) 1 0 := rfl
    have hi := ih (i + 1) (by omega)
    rw [hs] at hi
    have no : ¬ (¬ aT i = 0 ∧ aR i = v) → wX_count_16 post v (nI N) fT fO fS aT aP aF aL aS aH tX oX gX aD aR aC aM aK aW (d + 1) (rq_S (fun m => rq_if (¬ aT m = 0 ∧ aR m = v) 1 0) i) (nI (i + 1)) := fun h => by
      rw [rq_f h, Int32.add_zero] at hi; exact hi
    refine br_f (nI_ge (by omega) (by omega)) ⟨vp_in_nI (by omega) (by omega), ?_⟩
    rw [nI_clamp (by omega)]
    refine br_c (fun h => nm_r (nI_1 i) (no fun z => z.1 h)) (fun h => ⟨vp_in_nI (by omega) (by omega), br_c (fun h2 => ?_) (fun h2 => nm_r (nI_1 i) (no fun z => h2 z.2))⟩)
    rw [rq_t ⟨h, h2⟩] at hi
    exact nm_e (nm_r (nI_1 i) hi)
theorem rx_count {post : Int32 → Prop} {v : Int32} (hN : N ≤ 24) (h1 : ¬ v < 1) (h3 : v ≤ 3) (hp : post (rq_S (fun m => rq_if (¬ aT m = 0 ∧ aR m = v) 1 0) N)) : wpX_count post (nI N, fT, fO, fS, aT, aP, aF, aL, aS, aH, tX, oX, gX, aD, aR, aC, aM, aK, aW) v :=
  br_f h1 (br_t h3 ⟨N + 1, rx_ct hN hp N 0 (by omega)⟩)
theorem rx_r30 {post : Int32 → SX → Prop} (hN : N ≤ 24) (hp : wpX_choose (fun u => match u with | (f_nodes_4, f_total_5, f_open_6, f_standing_7, a_isTest_8, a_parent_9, a_firstChild_10, a_lastChild_11, a_sibling_12, a_hooks_13, a_tries_14, a_outcomes_15, a_tagSet_16, a_disabled_17, a_results_18, a_carried_19, a_made_20, a_takesPart_21, a_way_22) => ((((a_takesPart_21 0) = 0 → (wX_run_72 post f_nodes_4 f_total_5 f_open_6 f_standing_7 a_isTest_8 a_parent_9 a_firstChild_10 a_lastChild_11 a_sibling_12 a_hooks_13 a_tries_14 a_outcomes_15 a_tagSet_16 a_disabled_17 a_results_18 a_carried_19 a_made_20 a_takesPart_21 a_way_22)) ∧ (¬ (a_takesPart_21 0) = 0 → (wpX_walk (fun u => match u with | (f_nodes_45, f_total_46, f_open_47, f_standing_48, a_isTest_49, a_parent_50, a_firstChild_51, a_lastChild_52, a_sibling_53, a_hooks_54, a_tries_55, a_outcomes_56, a_tagSet_57, a_disabled_58, a_results_59, a_carried_60, a_made_61, a_takesPart_62, a_way_63) => (wX_run_72 post f_nodes_45 f_total_46 f_open_47 f_standing_48 a_isTest_49 a_parent_50 a_firstChild_51 a_lastChild_52 a_sibling_53 a_hooks_54 a_tries_55 a_outcomes_56 a_tagSet_57 a_disabled_58 a_results_59 a_carried_60 a_made_61 a_takesPart_62 a_way_63)) (f_nodes_4, f_total_5, f_open_6, f_standing_7, a_isTest_8, a_parent_9, a_firstChild_10, a_lastChild_11, a_sibling_12, a_hooks_13, a_tries_14, a_outcomes_15, a_tagSet_16, a_disabled_17, a_results_18, a_carried_19, a_made_20, a_takesPart_21, a_way_22)))))) (nI N, 0, fO, fS, aT, aP, aF, aL, aS, aH, tX, oX, gX, aD, aR, rq_z 96 aC, aM, aK, aW) tg) : ∀ d i : Nat, i + d = 96 → wX_run_30 post tg (nI N) fT fO fS (d + 1) (nI i) aT aP aF aL aS aH tX oX gX aD aR (rq_z i aC) aM aK aW := by
  intro d
  induction d with
  | zero =>
    intro i hd
    obtain rfl : i = 96 := by omega
    exact br_t (nI_le (a := 96) (by omega) (by omega)) hp
  | succ d ih =>
    intro i hd
    refine br_f (nI_ge (b := 96) (by omega) (by omega)) ⟨vp_in_nI (by omega) (by omega), ?_⟩
    rw [nI_clamp (by omega)]
    exact nm_r rq_zs (nm_r (nI_1 i) (ih (i + 1) (by omega)))
theorem rx_r2 {post : Int32 → SX → Prop} (hp : ∃ n, wX_run_30 post tg (nI N) fT fO fS n 0 aT aP aF aL aS aH tX oX gX aD (rq_z 24 aR) aC (rq_z 24 aM) aK aW) : ∀ d i : Nat, i + d = 24 → wX_run_2 post tg (nI N) fT fO fS (d + 1) (nI i) aT aP aF aL aS aH tX oX gX aD (rq_z i aR) aC (rq_z i aM) aK aW := by
  intro d
  induction d with
  | zero =>
    intro i hd
    obtain rfl : i = 24 := by omega
    exact br_t (nI_le (a := 24) (by omega) (by omega)) hp
  | succ d ih =>
    intro i hd
    refine br_f (nI_ge (b := 24) (by omega) (by omega)) ⟨vp_in_nI (by omega) (by omega), ?_⟩
    rw [nI_clamp (by omega)]
    exact nm_r rq_zs ⟨vp_in_nI (by omega) (by omega), nm_r rq_zs (nm_r (nI_1 i) (ih (i + 1) (by omega)))⟩
theorem rx_run {post : Int32 → SX → Prop} (W : rq_W N par) (hH : rq_HK aH) (hP : rq_PP N par aT aP)
    (hF : ∀ q, q < N → (aF q = -1 ∧ ∀ z, 0 < z → z < N → par z ≠ q) ∨ ∃ f, aF q = nI f ∧ rq_fst N par q f)
    (hS : ∀ q, 0 < q → q < N → (aS q = -1 ∧ ∀ z, q < z → z < N → par z ≠ par q) ∨ ∃ f, aS q = nI f ∧ rq_nxt N par q f)
    (hS0 : aS 0 = -1) (hR : ∀ t, t < N → ∃ K, K < 24 ∧ tX t = nI K) (h0 : 0 < N)
    (H : ∀ (o' s' : Int32) (R' C' M' K' V' : Nat → Int32), rq_UP N par aT gX aD aH tX oX tg (fun m => m = 0 ∨ rq_A par 0 m) (rq_z 24 aR) (rq_z 96 aC) (rq_z 24 aM) R' C' M' → post (rq_S (fun m => rq_if (¬ aT m = 0 ∧ R' m = 2) 1 0) N) (nI N, rq_S C' 96, o', s', aT, aP, aF, aL, aS, aH, tX, oX, gX, aD, R', C', M', K', V')) :
    wpX_run post (nI N, fT, fO, fS, aT, aP, aF, aL, aS, aH, tX, oX, gX, aD, aR, aC, aM, aK, aW) tg := by
  have hN := W.1
  have e0 : rq_S (rq_z 96 aC) 96 = 0 := rq_S0 96 fun m hm => if_pos hm
  have z := rx_r2 (post := post) (N := N) (aR := aR) (aM := aM) (fT := fT) (fO := fO) (fS := fS) (aT := aT) (aP := aP) (aF := aF) (aL := aL) (aS := aS) (aH := aH) (tX := tX) (oX := oX) (gX := gX) (aD := aD) (aC := aC) (aK := aK) (aW := aW) (tg := tg) ⟨97, by
    have y := rx_r30 (post := post) (N := N) (aR := rq_z 24 aR) (aM := rq_z 24 aM) (fT := fT) (fO := fO) (fS := fS) (aT := aT) (aP := aP) (aF := aF) (aL := aL) (aS := aS) (aH := aH) (tX := tX) (oX := oX) (gX := gX) (aD := aD) (aC := aC) (aK := aK) (aW := aW) (tg := tg) hN (by
      refine rx_choose W hP hF hS ?_
      intro K hK
      dsimp only
      refine br_c (fun hk => ?_) (fun hk => ?_)
      · refine rx_count hN (by decide) (by decide) ?_
        have h := H fO fS _ _ _ K aW (rq_Us (aH := aH) (tr := tX) (o := oX) (R := rq_z 24 aR) (C := rq_z 96 aC) (M := rq_z 24 aM) W ((hK 0 h0).mp hk))
        rw [e0] at h
        exact h
      · rw [← e0]
        refine rx_walk (tg := tg) W hH hP hF hS hS0 (fun q hq => ⟨fun k => (hK q hq).mp k, fun k => Classical.byContradiction fun z => k ((hK q hq).mpr z)⟩) hR h0 (Classical.byContradiction fun z => hk ((hK 0 h0).mpr z)) ?_
        intro s' R' C' M' V' hU
        exact rx_count hN (by decide) (by decide) (H 0 s' R' C' M' K V' hU)) 96 0 (by omega)
    rw [rq_z0] at y
    exact y⟩ 24 0 (by omega)
  rw [rq_z0, rq_z0] at z
  exact ⟨25, z⟩
end
end
section
/-! the two pictures are one -/
section
variable {N : Nat} {par : Nat → Nat} {tg : Int32} {aT aP aH tX oX gX tY oY gY aD aR aC aM : Nat → Int32} {R C M R' C' M' : Nat → Int32} {Q : Nat → Prop}
theorem rj_ow {x y : Int32} (h : x = y ∨ (x = 1 ∧ y = 0)) {i : Nat} (hi : i < 4) {v : Int32} (hv : v = 2 ∨ v = 3) : rq_ow x i = v ↔ rq_ow y i = v := by
  rcases h with h | ⟨h1, h2⟩
  · rw [h]
  · subst h1 h2
    have hi4 : i = 0 ∨ i = 1 ∨ i = 2 ∨ i = 3 := by omega
    rcases hi4 with e | e | e | e <;> subst e <;> rcases hv with e | e <;> subst e <;> decide
theorem rj_AR {t : Nat} {x y : Int32} (h2 : x = 2 ↔ y = 2) (h3 : x = 3 ↔ y = 3) : rq_AR par aH t x = rq_AR par aH t y :=
  rq_STc (or_congr Iff.rfl (and_congr h2 Iff.rfl)) (or_congr Iff.rfl (and_congr h3 Iff.rfl))
theorem rj_TT {t K : Nat} (hK : K ≤ 4) (h1 : tX t = nI K) (h2 : tX t = tY t) (ho : oX t = oY t ∨ (oX t = 1 ∧ oY t = 0)) : rq_TT par aH tX oX t = rq_TT par aH tY oY t := by
  unfold rq_TT
  rw [← h2, h1, nI_clamp (by omega)]
  exact rq_TRc K 0 2 fun a ha => rj_AR (rj_ow ho (by omega) (Or.inl rfl)) (rj_ow ho (by omega) (Or.inr rfl))
theorem rj_RUN (h0 : aT 0 = 0) (hg : ∀ n, 0 < n → gX n = gY n) : rq_RUN N par aT gX aD aH tg = rq_RUN N par aT gY aD aH tg := by
  have hs : rq_SEL par aT gX aD tg = rq_SEL par aT gY aD tg := by
    funext t
    by_cases e : t = 0
    · subst e
      exact propext ⟨fun z => absurd h0 z.1, fun z => absurd h0 z.1⟩
    · unfold rq_SEL
      rw [hg t (by omega)]
  unfold rq_RUN rq_TP rq_USE
  rw [hs]
theorem rj_UP (h0 : aT 0 = 0) (hg : ∀ n, 0 < n → gX n = gY n) (hT : ∀ t, t < N → ¬ aT t = 0 → rq_TT par aH tX oX t = rq_TT par aH tY oY t) (h : rq_UP N par aT gX aD aH tX oX tg Q R C M R' C' M') : rq_UP N par aT gY aD aH tY oY tg Q R C M R' C' M' := by
  have hr := rj_RUN (N := N) (par := par) (aD := aD) (aH := aH) (tg := tg) h0 hg
  unfold rq_UP at h
  rw [hr] at h
  refine ⟨fun m => ?_, fun m => ?_, fun j => ?_⟩
  · rw [h.1 m]
    by_cases q : Q m ∧ rq_RUN N par aT gY aD aH tg m
    · rw [rq_t q, rq_t q]
      unfold rq_res
      by_cases e : aT m = 0
      · rw [rq_t e, rq_t e]
      · rw [rq_f e, rq_f e, hT m q.2.1 e]
    · rw [rq_f q, rq_f q]
  · rw [h.2.1 m]
    by_cases q : Q m ∧ rq_RUN N par aT gY aD aH tg m ∧ ¬ aT m = 0
    · rw [rq_t q, rq_t q, hT m q.2.1.1 q.2.2]
    · rw [rq_f q, rq_f q]
  · rw [h.2.2 j]
    congr 1
    refine rq_Sc N fun m hm => ?_
    by_cases q : Q m ∧ rq_RUN N par aT gY aD aH tg m
    · rw [rq_t q, rq_t q]
      unfold rq_ct
      by_cases e : aT m = 0
      · rw [rq_t e, rq_t e]
      · rw [rq_f e, rq_f e, hT m q.2.1 e]
    · rw [rq_f q, rq_f q]
theorem rj_all (W : rq_W N par) {m : Nat} : (m = 0 ∨ rq_A par 0 m) ∧ rq_RUN N par aT gY aD aH tg m ↔ rq_RUN N par aT gY aD aH tg m := by
  refine ⟨fun z => z.2, fun z => ⟨?_, z⟩⟩
  by_cases e : m = 0
  · exact Or.inl e
  · exact Or.inr (rq_Art W m (by omega) z.1)
theorem rj_R (W : rq_W N par) (h : rq_UP N par aT gY aD aH tY oY tg (fun m => m = 0 ∨ rq_A par 0 m) (rq_z 24 aR) (rq_z 96 aC) (rq_z 24 aM) R' C' M') : R' = rq_ov 24 (rq_pR N par aT gY aD aH tY oY tg N) aR := by
  have hN := W.1
  funext m
  rw [h.1 m, rq_c (rj_all W)]
  unfold rq_ov rq_z rq_pR
  by_cases e : m < 24
  · rw [if_pos e, if_pos e]
    exact rq_c ⟨fun z => ⟨z.1, z⟩, fun z => z.2⟩
  · rw [if_neg e, if_neg e, rq_f (fun z => by have := z.1; omega)]
theorem rj_M (W : rq_W N par) (h : rq_UP N par aT gY aD aH tY oY tg (fun m => m = 0 ∨ rq_A par 0 m) (rq_z 24 aR) (rq_z 96 aC) (rq_z 24 aM) R' C' M') : M' = rq_ov 24 (rq_pM N par aT gY aD aH tY oY tg N) aM := by
  have hN := W.1
  funext m
  rw [h.2.1 m, ← and_assoc, rq_c (and_congr (rj_all W) Iff.rfl)]
  unfold rq_ov rq_z rq_pM
  by_cases e : m < 24
  · rw [if_pos e, if_pos e, Int32.zero_add]
    exact rq_c ⟨fun z => ⟨z.1.1, z⟩, fun z => z.2⟩
  · rw [if_neg e, if_neg e, rq_f (fun z => by have := z.1.1; omega)]
theorem rj_dl {m j : Nat} : rq_dl par aH m j = rq_if ((rq_A par (j / 4) m ∧ rq_PS par aH (j / 4) 2 ∧ 2 ≤ j % 4 ∧ ¬ aH j = 0) ∨ (j / 4 = m ∧ j % 4 = 0 ∧ rq_PS par aH m 2)) 1 0 := by
  refine rq_c ⟨fun z => ?_, fun z => ?_⟩
  · rcases z with ⟨c, h1, h2, h3, h4⟩ | ⟨h1, h2⟩
    · have e : j / 4 = c := by omega
      rw [e]
      exact Or.inl ⟨h1, h2, by omega, h4⟩
    · exact Or.inr ⟨by omega, by omega, h2⟩
  · rcases z with ⟨h1, h2, h3, h4⟩ | ⟨h1, h2, h3⟩
    · exact Or.inl ⟨j / 4, h1, h2, by omega, h4⟩
    · exact Or.inr ⟨by omega, h3⟩
theorem rj_ct (W : rq_W N par) (hP : rq_PP N par aT aP) {m j : Nat} (hm : m < N) : rq_ct par aT aH tY oY m j = rq_if (aT m = 0) (rq_if (j / 4 = m ∧ j % 4 < 2 ∧ ¬ aH j = 0) 1 0) (nI (rq_TT par aH tY oY m).2 * rq_dl par aH m j) := by
  unfold rq_ct
  by_cases e : aT m = 0
  · rw [rq_t e, rq_t e]
    exact rq_c ⟨fun z => ⟨by omega, by omega, z.2⟩, fun z => ⟨by omega, z.2.2⟩⟩
  · rw [rq_f e, rq_f e]
theorem rj_C (W : rq_W N par) (hP : rq_PP N par aT aP) (h : rq_UP N par aT gY aD aH tY oY tg (fun m => m = 0 ∨ rq_A par 0 m) (rq_z 24 aR) (rq_z 96 aC) (rq_z 24 aM) R' C' M') : C' = rq_ov 96 (rq_pE N par aT gY aD aH tY oY tg (rq_ov 24 (rq_pM N par aT gY aD aH tY oY tg N) aM) N) aC := by
  have hN := W.1
  funext j
  rw [h.2.2 j, rq_Sc (g := fun m => rq_if (rq_RUN N par aT gY aD aH tg m) (rq_ct par aT aH tY oY m j) 0) N (fun m _ => rq_c (rj_all W))]
  -- a node that isn't named by j adds nothing
  have hz : ∀ m, m < N → (aT m = 0 → j / 4 = m → j % 4 < 2 → False) → (¬ aT m = 0 → rq_dl par aH m j = 0) → rq_if (rq_RUN N par aT gY aD aH tg m) (rq_ct par aT aH tY oY m j) 0 = 0 := fun m hm h1 h2 => by
    have e : rq_ct par aT aH tY oY m j = 0 := by
      rw [rj_ct W hP hm]
      by_cases e : aT m = 0
      · rw [rq_t e, rq_f (fun z => h1 e z.1 z.2.1)]
      · rw [rq_f e, h2 e, Int32.mul_zero]
    rw [e]
    by_cases r : rq_RUN N par aT gY aD aH tg m
    · rw [rq_t r]
    · rw [rq_f r]
  unfold rq_ov rq_z
  by_cases hj : j < 96
  · rw [if_pos hj, if_pos hj, Int32.zero_add]
    unfold rq_pE
    by_cases hc : j / 4 < N ∧ aT (j / 4) = 0 ∧ 2 ≤ j % 4
    · rw [rq_t hc]
      by_cases hh : rq_PS par aH (j / 4) 2 ∧ ¬ aH j = 0
      · rw [rq_t hh]
        refine rq_Sc N fun m hm => ?_
        show rq_if (rq_RUN N par aT gY aD aH tg m) (rq_ct par aT aH tY oY m j) 0 = rq_if (rq_A par (j / 4) m) (rq_ov 24 (rq_pM N par aT gY aD aH tY oY tg N) aM m) 0
        have em : rq_ov 24 (rq_pM N par aT gY aD aH tY oY tg N) aM m = rq_if (m < N ∧ rq_RUN N par aT gY aD aH tg m ∧ ¬ aT m = 0) (nI (rq_TT par aH tY oY m).2) 0 := by
          unfold rq_ov rq_pM
          rw [if_pos (by omega)]
        by_cases r : rq_RUN N par aT gY aD aH tg m ∧ ¬ aT m = 0 ∧ rq_A par (j / 4) m
        · rw [em, rq_t r.2.2, rq_t r.1, rq_t (P := m < N ∧ _) ⟨hm, r.1, r.2.1⟩, rj_ct W hP hm, rq_f r.2.1, rj_dl, rq_t (Or.inl ⟨r.2.2, hh.1, hc.2.2, hh.2⟩), Int32.mul_one]
        · have zr : rq_if (rq_A par (j / 4) m) (rq_ov 24 (rq_pM N par aT gY aD aH tY oY tg N) aM m) 0 = 0 := by
            by_cases a : rq_A par (j / 4) m
            · rw [rq_t a, em, rq_f (fun z => r ⟨z.2.1, z.2.2, a⟩)]
            · rw [rq_f a]
          rw [zr]
          by_cases rr : rq_RUN N par aT gY aD aH tg m
          · exact hz m hm (fun _ _ z => by omega) (fun q => by
              rw [rj_dl]
              exact rq_f fun z => z.elim (fun z => r ⟨rr, q, z.1⟩) (fun z => by omega))
          · rw [rq_f rr]
      · rw [rq_f hh]
        refine rq_S0 N fun m hm => hz m hm (fun _ _ z => by omega) (fun q => ?_)
        rw [rj_dl]
        exact rq_f fun z => z.elim (fun z => hh ⟨z.2.1, z.2.2.2⟩) (fun z => by omega)
    · rw [rq_f hc]
      unfold rq_pC
      by_cases hq : j / 4 < N
      · rw [rq_S1 (k := j / 4) N hq (fun m hm e => hz m hm (fun _ z _ => e z.symm) (fun q => by
          rw [rj_dl]
          refine rq_f fun z => z.elim (fun z => ?_) (fun z => e z.1.symm)
          by_cases ec : aT (j / 4) = 0
          · exact hc ⟨hq, ec, z.2.2.1⟩
          · exact rq_noA W hP ec hm z.1))]
        have ec : rq_ct par aT aH tY oY (j / 4) j = rq_c1 par aT aH tY oY j := by
          rw [rj_ct W hP hq]
          unfold rq_c1
          by_cases e : aT (j / 4) = 0
          · rw [rq_t e, rq_t e]
            exact rq_c ⟨fun z => z.2, fun z => ⟨rfl, z⟩⟩
          · rw [rq_f e, rq_f e, rj_dl]
            by_cases k : j % 4 = 0 ∧ rq_PS par aH (j / 4) 2
            · rw [rq_t (Or.inr ⟨rfl, k⟩), rq_t k, Int32.mul_one]
            · rw [rq_f (fun z => z.elim (fun z => rq_Dd1 W hq z.1) (fun z => k z.2)), rq_f k, Int32.mul_zero]
        rw [ec]
        exact rq_c ⟨fun z => ⟨hq, z⟩, fun z => z.2⟩
      · rw [rq_f (fun z => hq z.1)]
        refine rq_S0 N fun m hm => hz m hm (fun _ z _ => hq (by omega)) (fun q => ?_)
        rw [rj_dl]
        refine rq_f fun z => z.elim (fun z => ?_) (fun z => hq (by omega))
        have := rq_Alt W m hm z.1
        omega
  · rw [if_neg hj, if_neg hj]
    rw [rq_S0 N fun m hm => hz m hm (fun _ z _ => by omega) (fun q => by
      rw [rj_dl]
      refine rq_f fun z => z.elim (fun z => ?_) (fun z => by omega)
      have := rq_Alt W m hm z.1
      omega), Int32.add_zero]
theorem rj_v (W : rq_W N par) {m : Nat} : rq_pR N par aT gY aD aH tY oY tg N m = 0 ∨ rq_pR N par aT gY aD aH tY oY tg N m = 1 ∨ rq_pR N par aT gY aD aH tY oY tg N m = 2 ∨ rq_pR N par aT gY aD aH tY oY tg N m = 3 := by
  unfold rq_pR
  by_cases e : m < N ∧ rq_RUN N par aT gY aD aH tg m
  · rw [rq_t e]
    refine Or.inr ?_
    unfold rq_res
    by_cases t : aT m = 0
    · rw [rq_t t]; exact rq_STv _ _
    · rw [rq_f t]
      exact rq_TRv (fun i => rq_STv _ _) _ _ _ (Or.inr (Or.inl rfl))
  · rw [rq_f e]; exact Or.inl rfl
end
end
section
/-! the relation -/
def rk_F (N : Nat) (par : Nat → Nat) (fT : Int32) (aT aP aF aL aS aH tX oX gX aR aC tY oY gY : Nat → Int32) : Prop :=
  rq_W N par ∧ 0 < N ∧ rq_PP N par aT aP ∧
  (∀ q, q < N → (aF q = -1 ∧ ∀ z, 0 < z → z < N → par z ≠ q) ∨ ∃ f, aF q = nI f ∧ rq_fst N par q f) ∧
  (∀ q, q < N → (aL q = -1 ∧ ∀ z, 0 < z → z < N → par z ≠ q) ∨ ∃ l, aL q = nI l ∧ 0 < l ∧ l < N ∧ par l = q ∧ ∀ z, 0 < z → z < N → par z = q → z ≤ l) ∧
  (∀ q, 0 < q → q < N → (aS q = -1 ∧ ∀ z, q < z → z < N → par z ≠ par q) ∨ ∃ f, aS q = nI f ∧ rq_nxt N par q f) ∧
  aS 0 = -1 ∧ rq_HK aH ∧ (∀ t, t < N → ∃ K, K ≤ 4 ∧ tX t = nI K) ∧
  (∀ n, 0 < n → tX n = tY n) ∧ (∀ n, oX n = oY n ∨ (oX n = 1 ∧ oY n = 0)) ∧ (∀ n, 0 < n → gX n = gY n) ∧
  (∀ n, N ≤ n → oY n = 0) ∧ fT = rq_S aC 96 ∧ (∀ n, n < 24 → aR n = 0 ∨ aR n = 1 ∨ aR n = 2 ∨ aR n = 3)
/-- one tree, one set of hooks, one last run; X's links are the children in the order of their numbers -/
def i_Rel (_ : Nat) (u : SX) (v : SY) : Prop := ∃ (N : Nat) (par : Nat → Nat) (fT fO fS : Int32) (aT aP aF aL aS aH tX oX gX aD aR aC aM aK aW tY oY gY : Nat → Int32), u = (nI N, fT, fO, fS, aT, aP, aF, aL, aS, aH, tX, oX, gX, aD, aR, aC, aM, aK, aW) ∧ v = (nI N, aT, aP, aD, aH, tY, oY, gY, aR, aC, aM) ∧ rk_F N par fT aT aP aF aL aS aH tX oX gX aR aC tY oY gY
theorem rk_el {P : SX → SY → Prop} {k : Nat} {u : SX} {v : SY} (h : ∀ (N : Nat) (par : Nat → Nat) (fT fO fS : Int32) (aT aP aF aL aS aH tX oX gX aD aR aC aM aK aW tY oY gY : Nat → Int32), rk_F N par fT aT aP aF aL aS aH tX oX gX aR aC tY oY gY → P (nI N, fT, fO, fS, aT, aP, aF, aL, aS, aH, tX, oX, gX, aD, aR, aC, aM, aK, aW) (nI N, aT, aP, aD, aH, tY, oY, gY, aR, aC, aM)) (I : i_Rel k u v) : P u v := by
  obtain ⟨N, par, fT, fO, fS, aT, aP, aF, aL, aS, aH, tX, oX, gX, aD, aR, aC, aM, aK, aW, tY, oY, gY, hu, hv, hF⟩ := I
  rw [hu, hv]
  exact h N par fT fO fS aT aP aF aL aS aH tX oX gX aD aR aC aM aK aW tY oY gY hF
theorem i_up {k : Nat} {u : SX} {v : SY} (h : i_Rel k u v) : i_Rel (k + 4) u v := h
section
variable {N k : Nat} {par : Nat → Nat} {fT fO fS : Int32} {aT aP aF aL aS aH tX oX gX aD aR aC aM aK aW tY oY gY : Nat → Int32}
theorem rk_in (h : rk_F N par fT aT aP aF aL aS aH tX oX gX aR aC tY oY gY) : i_Rel k (nI N, fT, fO, fS, aT, aP, aF, aL, aS, aH, tX, oX, gX, aD, aR, aC, aM, aK, aW) (nI N, aT, aP, aD, aH, tY, oY, gY, aR, aC, aM) :=
  ⟨N, par, fT, fO, fS, aT, aP, aF, aL, aS, aH, tX, oX, gX, aD, aR, aC, aM, aK, aW, tY, oY, gY, rfl, rfl, h⟩
theorem rx_nn1 {post : Int32 → Prop} {v : Int32} (h : v < 0 ∨ nI N ≤ v) (hp : post 1) : wpX_noNode post (nI N, fT, fO, fS, aT, aP, aF, aL, aS, aH, tX, oX, gX, aD, aR, aC, aM, aK, aW) v :=
  br_c (fun _ => hp) (fun h0 => br_f (fun z => h.elim h0 (fun q => absurd z (Int32.not_lt.mpr q))) hp)
theorem rx_nn0 {post : Int32 → Prop} {q : Nat} (hN : N ≤ 24) (hq : q < N) (hp : post 0) : wpX_noNode post (nI N, fT, fO, fS, aT, aP, aF, aL, aS, aH, tX, oX, gX, aD, aR, aC, aM, aK, aW) (nI q) :=
  br_f (nI_pos (by omega)) (br_t (nI_lt hq (by omega)) hp)
theorem ry_nn1 {post : Int32 → Prop} {v : Int32} (h : v < 0 ∨ nI N ≤ v) (hp : post 1) : wpY_noNode post (nI N, aT, aP, aD, aH, tY, oY, gY, aR, aC, aM) v :=
  br_c (fun _ => hp) (fun h0 => br_f (fun z => h.elim h0 (fun q => absurd z (Int32.not_lt.mpr q))) hp)
theorem ry_nn0 {post : Int32 → Prop} {q : Nat} (hN : N ≤ 24) (hq : q < N) (hp : post 0) : wpY_noNode post (nI N, aT, aP, aD, aH, tY, oY, gY, aR, aC, aM) (nI q) :=
  br_f (nI_pos (by omega)) (br_t (nI_lt hq (by omega)) hp)
theorem rx_nc1 {post : Int32 → Prop} {v : Int32} (h : v < 0 ∨ nI N ≤ v) (hp : post 1) : wpX_noContainer post (nI N, fT, fO, fS, aT, aP, aF, aL, aS, aH, tX, oX, gX, aD, aR, aC, aM, aK, aW) v := by
  unfold wpX_noContainer
  exact rx_nn1 h (br_f (by decide) hp)
theorem rx_nc0 {post : Int32 → Prop} {q : Nat} (hN : N ≤ 24) (hq : q < N) (hp : post (if aT q = 0 then 0 else 1)) : wpX_noContainer post (nI N, fT, fO, fS, aT, aP, aF, aL, aS, aH, tX, oX, gX, aD, aR, aC, aM, aK, aW) (nI q) := by
  unfold wpX_noContainer
  refine rx_nn0 hN hq (br_t rfl ⟨vp_in_nI (by omega) (by omega), ?_⟩)
  rw [nI_clamp (by omega)]
  refine br_c (fun e => ?_) (fun e => ?_)
  · rw [if_pos e] at hp; exact hp
  · rw [if_neg e] at hp; exact hp
theorem rx_nt1 {post : Int32 → Prop} {v : Int32} (h : v < 0 ∨ nI N ≤ v) (hp : post 1) : wpX_noTest post (nI N, fT, fO, fS, aT, aP, aF, aL, aS, aH, tX, oX, gX, aD, aR, aC, aM, aK, aW) v := by
  unfold wpX_noTest
  exact rx_nn1 h (br_f (by decide) hp)
theorem rx_nt0 {post : Int32 → Prop} {q : Nat} (hN : N ≤ 24) (hq : q < N) (hp : post (if aT q = 0 then 1 else 0)) : wpX_noTest post (nI N, fT, fO, fS, aT, aP, aF, aL, aS, aH, tX, oX, gX, aD, aR, aC, aM, aK, aW) (nI q) := by
  unfold wpX_noTest
  refine rx_nn0 hN hq (br_t rfl ⟨vp_in_nI (by omega) (by omega), ?_⟩)
  rw [nI_clamp (by omega)]
  refine br_c (fun e => ?_) (fun e => ?_)
  · rw [if_pos e] at hp; exact hp
  · rw [if_neg e] at hp; exact hp
theorem rk_v {v : Int32} (hN : N ≤ 24) : (v < 0 ∨ nI N ≤ v) ∨ ∃ q, q < N ∧ v = nI q := by
  rcases pk_ix v (n := N) (by omega) with h | h | h
  · exact Or.inl (Or.inl h)
  · exact Or.inl (Or.inr h)
  · exact Or.inr h
theorem rk_03 {v : Int32} (h0 : ¬ v < 0) (h3 : v ≤ 3) : ∃ w, w < 4 ∧ v = nI w := by
  obtain ⟨j, hj, e⟩ := nI_of2 (x := v) (M := 3) (n := 3) (by decide) h0 h3
  exact ⟨j, by omega, e⟩
/-! a new node N under q -/
theorem rk_addT {q : Nat} {b : Int32} (F : rk_F N par fT aT aP aF aL aS aH tX oX gX aR aC tY oY gY) (h24 : N < 24) (hq : q < N) (hT : aT q = 0) {aF2 aL2 aS2 : Nat → Int32}
    (hF2 : ∀ z, z < N + 1 → (aF2 z = -1 ∧ ∀ y, 0 < y → y < N + 1 → (if y = N then q else par y) ≠ z) ∨ ∃ f, aF2 z = nI f ∧ rq_fst (N + 1) (fun y => if y = N then q else par y) z f)
    (hL2 : ∀ z, z < N + 1 → (aL2 z = -1 ∧ ∀ y, 0 < y → y < N + 1 → (if y = N then q else par y) ≠ z) ∨ ∃ l, aL2 z = nI l ∧ 0 < l ∧ l < N + 1 ∧ (if l = N then q else par l) = z ∧ ∀ y, 0 < y → y < N + 1 → (if y = N then q else par y) = z → y ≤ l)
    (hS2 : ∀ x, 0 < x → x < N + 1 → (aS2 x = -1 ∧ ∀ z, x < z → z < N + 1 → (if z = N then q else par z) ≠ (if x = N then q else par x)) ∨ ∃ f, aS2 x = nI f ∧ rq_nxt (N + 1) (fun y => if y = N then q else par y) x f)
    (hS0 : aS2 0 = -1) :
    rk_F (N + 1) (fun y => if y = N then q else par y) fT (upd aT N b) (upd aP N (nI q)) aF2 aL2 aS2 aH (upd tX N 1) (upd oX N 1) (upd gX N 1) aR aC (upd tY N 1) oY (upd gY N 1) := by
  obtain ⟨W, h0, hP, _, _, _, _, hH, hR, ht, ho, hg, hoz, hf, hv⟩ := F
  have pn : ∀ y, y < N → (if y = N then q else par y) = par y := fun y hy => if_neg (by omega)
  refine ⟨⟨by omega, fun n h1 h2 => ?_⟩, by omega, ⟨?_, ?_, fun n h1 h2 => ?_⟩, hF2, hL2, hS2, hS0, hH, fun t h1 => ?_, fun n h1 => ?_, fun n => ?_, fun n h1 => ?_, fun n h1 => hoz n (by omega), hf, hv⟩
  · show (if n = N then q else par n) < n
    by_cases e : n = N
    · rw [if_pos e]; omega
    · rw [if_neg e]; exact W.2 n h1 (by omega)
  · rw [pk_un (by omega)]; exact hP.1
  · rw [pk_un (by omega)]; exact hP.2.1
  · show upd aP N (nI q) n = nI (if n = N then q else par n) ∧ upd aT N b (if n = N then q else par n) = 0
    by_cases e : n = N
    · subst e
      rw [if_pos rfl, pk_us, pk_un (by omega)]
      exact ⟨rfl, hT⟩
    · have := W.2 n h1 (by omega)
      rw [if_neg e, pk_un e, pk_un (by omega)]
      exact hP.2.2 n h1 (by omega)
  · by_cases e : t = N
    · subst e; rw [pk_us]; exact ⟨1, by omega, rfl⟩
    · rw [pk_un e]; exact hR t (by omega)
  · by_cases e : n = N
    · subst e; rw [pk_us, pk_us]
    · rw [pk_un e, pk_un e]; exact ht n h1
  · by_cases e : n = N
    · subst e; rw [pk_us]; exact Or.inr ⟨rfl, hoz n (Nat.le_refl n)⟩
    · rw [pk_un e]; exact ho n
  · by_cases e : n = N
    · subst e; rw [pk_us, pk_us]
    · rw [pk_un e, pk_un e]; exact hg n h1
theorem rk_pq {q y z : Nat} (hy : y < N + 1) (W : rq_W N par) (h0 : 0 < y) : (if y = N then q else par y) = z ↔ (y = N ∧ q = z) ∨ (y < N ∧ par y = z) := by
  by_cases e : y = N
  · rw [if_pos e]
    exact ⟨fun h => Or.inl ⟨e, h⟩, fun h => h.elim (fun h => h.2) (fun h => by omega)⟩
  · rw [if_neg e]
    exact ⟨fun h => Or.inr ⟨by omega, h⟩, fun h => h.elim (fun h => by omega) (fun h => h.2)⟩
/-- a fact on the children of z ≠ q, z < N stays -/
theorem rk_keepF {q z : Nat} {v : Int32} (W : rq_W N par) (hz : z < N) (hzq : z ≠ q) (h : (v = -1 ∧ ∀ y, 0 < y → y < N → par y ≠ z) ∨ ∃ f, v = nI f ∧ rq_fst N par z f) : (v = -1 ∧ ∀ y, 0 < y → y < N + 1 → (if y = N then q else par y) ≠ z) ∨ ∃ f, v = nI f ∧ rq_fst (N + 1) (fun y => if y = N then q else par y) z f := by
  rcases h with ⟨h1, h2⟩ | ⟨f, h1, h2, h3, h4, h5⟩
  · refine Or.inl ⟨h1, fun y k1 k2 k3 => ?_⟩
    rcases (rk_pq k2 W k1).mp k3 with ⟨_, k⟩ | ⟨k, k'⟩
    · omega
    · exact h2 y k1 k k'
  · refine Or.inr ⟨f, h1, h2, by omega, (rk_pq (by omega) W h2).mpr (Or.inr ⟨h3, h4⟩), fun y k1 k2 k3 => ?_⟩
    rcases (rk_pq k2 W k1).mp k3 with ⟨_, k⟩ | ⟨k, k'⟩
    · omega
    · exact h5 y k1 k k'
theorem rk_keepL {q z : Nat} {v : Int32} (W : rq_W N par) (hz : z < N) (hzq : z ≠ q) (h : (v = -1 ∧ ∀ y, 0 < y → y < N → par y ≠ z) ∨ ∃ l, v = nI l ∧ 0 < l ∧ l < N ∧ par l = z ∧ ∀ y, 0 < y → y < N → par y = z → y ≤ l) : (v = -1 ∧ ∀ y, 0 < y → y < N + 1 → (if y = N then q else par y) ≠ z) ∨ ∃ l, v = nI l ∧ 0 < l ∧ l < N + 1 ∧ (if l = N then q else par l) = z ∧ ∀ y, 0 < y → y < N + 1 → (if y = N then q else par y) = z → y ≤ l := by
  rcases h with ⟨h1, h2⟩ | ⟨f, h1, h2, h3, h4, h5⟩
  · refine Or.inl ⟨h1, fun y k1 k2 k3 => ?_⟩
    rcases (rk_pq k2 W k1).mp k3 with ⟨_, k⟩ | ⟨k, k'⟩
    · omega
    · exact h2 y k1 k k'
  · refine Or.inr ⟨f, h1, h2, by omega, (rk_pq (by omega) W h2).mpr (Or.inr ⟨h3, h4⟩), fun y k1 k2 k3 => ?_⟩
    rcases (rk_pq k2 W k1).mp k3 with ⟨_, k⟩ | ⟨k, k'⟩
    · omega
    · exact h5 y k1 k k'
theorem rk_newF {q : Nat} (W : rq_W N par) (hq : q < N) : ∀ y, 0 < y → y < N + 1 → (if y = N then q else par y) ≠ N := fun y k1 k2 k3 => by
  rcases (rk_pq k2 W k1).mp k3 with ⟨_, k⟩ | ⟨k, k'⟩
  · omega
  · have := W.2 y k1 k; omega
theorem rk_newL {q : Nat} {aL : Nat → Int32} (W : rq_W N par) (h0 : 0 < N) (hq : q < N) (hL : ∀ q, q < N → (aL q = -1 ∧ ∀ z, 0 < z → z < N → par z ≠ q) ∨ ∃ l, aL q = nI l ∧ 0 < l ∧ l < N ∧ par l = q ∧ ∀ z, 0 < z → z < N → par z = q → z ≤ l) : ∀ z, z < N + 1 → (upd (upd aL N (-1)) q (nI N) z = -1 ∧ ∀ y, 0 < y → y < N + 1 → (if y = N then q else par y) ≠ z) ∨ ∃ l, upd (upd aL N (-1)) q (nI N) z = nI l ∧ 0 < l ∧ l < N + 1 ∧ (if l = N then q else par l) = z ∧ ∀ y, 0 < y → y < N + 1 → (if y = N then q else par y) = z → y ≤ l := by
  intro z hz
  by_cases e : z = q
  · subst e
    rw [pk_us]
    exact Or.inr ⟨N, rfl, h0, by omega, if_pos rfl, fun y k1 k2 k3 => by omega⟩
  · rw [pk_un e]
    by_cases e2 : z = N
    · subst e2
      rw [pk_us]
      exact Or.inl ⟨rfl, rk_newF W hq⟩
    · rw [pk_un e2]
      exact rk_keepL W (by omega) e (hL z (by omega))
/-- the first child of q -/
theorem rk_add1 {q : Nat} {b : Int32} (F : rk_F N par fT aT aP aF aL aS aH tX oX gX aR aC tY oY gY) (h24 : N < 24) (hq : q < N) (hT : aT q = 0) (hn : ∀ z, 0 < z → z < N → par z ≠ q) :
    rk_F (N + 1) (fun y => if y = N then q else par y) fT (upd aT N b) (upd aP N (nI q)) (upd (upd aF N (-1)) q (nI N)) (upd (upd aL N (-1)) q (nI N)) (upd aS N (-1)) aH (upd tX N 1) (upd oX N 1) (upd gX N 1) aR aC (upd tY N 1) oY (upd gY N 1) := by
  have F' := F
  obtain ⟨W, h0, hP, hF, hL, hS, hS0, _⟩ := F'
  refine rk_addT F h24 hq hT (fun z hz => ?_) (rk_newL W h0 hq hL) (fun x h1 h2 => ?_) (by rw [pk_un (by omega)]; exact hS0)
  · by_cases e : z = q
    · subst e
      rw [pk_us]
      refine Or.inr ⟨N, rfl, h0, by omega, if_pos rfl, fun y k1 k2 k3 => ?_⟩
      rcases (rk_pq k2 W k1).mp k3 with ⟨k, _⟩ | ⟨k, k'⟩
      · omega
      · exact absurd k' (hn y k1 k)
    · rw [pk_un e]
      by_cases e2 : z = N
      · subst e2
        rw [pk_us]
        exact Or.inl ⟨rfl, rk_newF W hq⟩
      · rw [pk_un e2]
        exact rk_keepF W (by omega) e (hF z (by omega))
  · by_cases e : x = N
    · subst e
      rw [pk_us]
      exact Or.inl ⟨rfl, fun z k1 k2 => by omega⟩
    · rw [pk_un e]
      have hx : x < N := by omega
      rcases hS x h1 hx with ⟨k1, k2⟩ | ⟨f, k1, k2, k3, k4, k5⟩
      · refine Or.inl ⟨k1, fun z j1 j2 j3 => ?_⟩
        rw [if_neg e] at j3
        rcases (rk_pq j2 W (by omega)).mp j3 with ⟨_, j⟩ | ⟨j, j'⟩
        · exact hn x h1 hx j.symm
        · exact k2 z j1 j j'
      · refine Or.inr ⟨f, k1, k2, by omega, ?_, fun z j1 j2 j3 => ?_⟩
        · show (if f = N then q else par f) = (if x = N then q else par x)
          rw [if_neg (by omega), if_neg e]; exact k4
        · have j3' : (if z = N then q else par z) = (if x = N then q else par x) := j3
          rw [if_neg e] at j3'
          rcases (rk_pq j2 W (by omega)).mp j3' with ⟨_, j⟩ | ⟨j, j'⟩
          · omega
          · exact k5 z j1 j j'
/-- a further child of q, behind l -/
theorem rk_add2 {q l : Nat} {b : Int32} (F : rk_F N par fT aT aP aF aL aS aH tX oX gX aR aC tY oY gY) (h24 : N < 24) (hq : q < N) (hT : aT q = 0) (l0 : 0 < l) (lN : l < N) (lp : par l = q) (ll : ∀ z, 0 < z → z < N → par z = q → z ≤ l) :
    rk_F (N + 1) (fun y => if y = N then q else par y) fT (upd aT N b) (upd aP N (nI q)) (upd aF N (-1)) (upd (upd aL N (-1)) q (nI N)) (upd (upd aS N (-1)) l (nI N)) aH (upd tX N 1) (upd oX N 1) (upd gX N 1) aR aC (upd tY N 1) oY (upd gY N 1) := by
  have F' := F
  obtain ⟨W, h0, hP, hF, hL, hS, hS0, _⟩ := F'
  refine rk_addT F h24 hq hT (fun z hz => ?_) (rk_newL W h0 hq hL) (fun x h1 h2 => ?_) (by rw [pk_un (by omega), pk_un (by omega)]; exact hS0)
  · by_cases e2 : z = N
    · subst e2
      rw [pk_us]
      exact Or.inl ⟨rfl, rk_newF W hq⟩
    · rw [pk_un e2]
      by_cases e : z = q
      · subst e
        rcases hF z hq with ⟨_, k2⟩ | ⟨f, k1, k2, k3, k4, k5⟩
        · exact absurd lp (k2 l l0 lN)
        · refine Or.inr ⟨f, k1, k2, by omega, ?_, fun y j1 j2 j3 => ?_⟩
          · show (if f = N then z else par f) = z
            rw [if_neg (by omega)]; exact k4
          · rcases (rk_pq j2 W j1).mp j3 with ⟨j, _⟩ | ⟨j, j'⟩
            · omega
            · exact k5 y j1 j j'
      · exact rk_keepF W (by omega) e (hF z (by omega))
  · by_cases e : x = N
    · subst e
      rw [pk_un (by omega), pk_us]
      exact Or.inl ⟨rfl, fun z k1 k2 => by omega⟩
    · by_cases el : x = l
      · subst el
        rw [pk_us]
        refine Or.inr ⟨N, rfl, lN, by omega, ?_, fun z j1 j2 j3 => ?_⟩
        · show (if N = N then q else par N) = (if x = N then q else par x)
          rw [if_pos rfl, if_neg e]; exact lp.symm
        · have j3' : (if z = N then q else par z) = (if x = N then q else par x) := j3
          rw [if_neg e] at j3'
          rcases (rk_pq j2 W (by omega)).mp j3' with ⟨j, _⟩ | ⟨j, j'⟩
          · omega
          · have := ll z (by omega) j (by omega); omega
      · rw [pk_un el, pk_un e]
        have hx : x < N := by omega
        rcases hS x h1 hx with ⟨k1, k2⟩ | ⟨f, k1, k2, k3, k4, k5⟩
        · refine Or.inl ⟨k1, fun z j1 j2 j3 => ?_⟩
          rw [if_neg e] at j3
          rcases (rk_pq j2 W (by omega)).mp j3 with ⟨_, j⟩ | ⟨j, j'⟩
          · have h3 := ll x h1 hx j.symm
            exact k2 l (by omega) lN (by omega)
          · exact k2 z j1 j j'
        · refine Or.inr ⟨f, k1, k2, by omega, ?_, fun z j1 j2 j3 => ?_⟩
          · show (if f = N then q else par f) = (if x = N then q else par x)
            rw [if_neg (by omega), if_neg e]; exact k4
          · have j3' : (if z = N then q else par z) = (if x = N then q else par x) := j3
            rw [if_neg e] at j3'
            rcases (rk_pq j2 W (by omega)).mp j3' with ⟨j, _⟩ | ⟨j, j'⟩
            · omega
            · exact k5 z j1 j j'
end
end
section
/-! the small methods, each by a general post -/
section
variable {N k : Nat} {par : Nat → Nat} {fT fO fS : Int32} {aT aP aF aL aS aH tX oX gX aD aR aC aM aK aW tY oY gY : Nat → Int32}
theorem rx_clear {post : SX → Prop} {n : Nat} {p b : Int32} (hn : n < 24) (h : post (nI N, fT, fO, fS, upd aT n (vp_nar .boolean b), upd aP n p, upd aF n (-1), upd aL n (-1), upd aS n (-1), aH, upd tX n 1, upd oX n 1, upd gX n 1, aD, aR, aC, aM, aK, aW)) : wpX_clearNode post (nI N, fT, fO, fS, aT, aP, aF, aL, aS, aH, tX, oX, gX, aD, aR, aC, aM, aK, aW) (nI n) p b := by
  have hv : vp_in (nI n) 24 := vp_in_nI hn (by omega)
  unfold wpX_clearNode
  dsimp only
  rw [nI_clamp (by omega)]
  exact ⟨hv, nm_e ⟨hv, nm_e ⟨hv, nm_e ⟨hv, nm_e ⟨hv, nm_e ⟨hv, nm_e ⟨hv, nm_e ⟨hv, nm_e h⟩⟩⟩⟩⟩⟩⟩⟩
theorem rx_a65 {post : Int32 → SX → Prop} {q : Nat} {x3 : Int32} (hq : q < 24) (h : post x3 (nI (N + 1), fT, fO, fS, aT, aP, aF, upd aL q x3, aS, aH, tX, oX, gX, aD, aR, aC, aM, aK, aW)) : wX_add_65 post (nI q) x3 (nI N) fT fO fS aT aP aF aL aS aH tX oX gX aD aR aC aM aK aW := by
  unfold wX_add_65
  rw [nI_clamp (by omega)]
  exact ⟨vp_in_nI hq (by omega), nm_e (nm_r (nI_1 N) h)⟩
theorem rx_add {post : Int32 → SX → Prop} {v b : Int32} (F : rk_F N par fT aT aP aF aL aS aH tX oX gX aR aC tY oY gY)
    (hb : ((v < 0 ∨ nI N ≤ v) ∨ ∃ q, q < N ∧ v = nI q ∧ ¬ aT q = 0) → post (-1) (nI N, fT, fO, fS, aT, aP, aF, aL, aS, aH, tX, oX, gX, aD, aR, aC, aM, aK, aW))
    (hf : (∃ q, q < N ∧ v = nI q ∧ aT q = 0) → N = 24 → post (-2) (nI N, fT, fO, fS, aT, aP, aF, aL, aS, aH, tX, oX, gX, aD, aR, aC, aM, aK, aW))
    (hg : ∀ (q : Nat) (aF2 aL2 aS2 : Nat → Int32), q < N → v = nI q → aT q = 0 → N < 24 → rk_F (N + 1) (fun y => if y = N then q else par y) fT (upd aT N (vp_nar .boolean b)) (upd aP N (nI q)) aF2 aL2 aS2 aH (upd tX N 1) (upd oX N 1) (upd gX N 1) aR aC (upd tY N 1) oY (upd gY N 1) → post (nI N) (nI (N + 1), fT, fO, fS, upd aT N (vp_nar .boolean b), upd aP N (nI q), aF2, aL2, aS2, aH, upd tX N 1, upd oX N 1, upd gX N 1, aD, aR, aC, aM, aK, aW)) :
    wpX_add post (nI N, fT, fO, fS, aT, aP, aF, aL, aS, aH, tX, oX, gX, aD, aR, aC, aM, aK, aW) v b := by
  have hN := F.1.1
  unfold wpX_add
  dsimp only
  rcases rk_v (v := v) hN with h | ⟨q, hq, rfl⟩
  · exact rx_nc1 h (br_f (by decide) (hb (Or.inl h)))
  · refine rx_nc0 hN hq ?_
    by_cases hT : aT q = 0
    · rw [if_pos hT]
      refine br_t rfl ?_
      by_cases h24 : N < 24
      · refine br_t (nI_lt (b := 24) h24 (by omega)) (rx_clear (by omega) ?_)
        dsimp only
        rw [nI_clamp (n := q) (by omega), pk_un (by omega)]
        refine ⟨vp_in_nI (by omega) (by omega), ?_⟩
        rcases F.2.2.2.2.1 q hq with ⟨e, hn⟩ | ⟨l, e, l0, lN, lp, ll⟩
        · rw [e]
          exact br_f (by decide) ⟨vp_in_nI (by omega) (by omega), nm_e (rx_a65 (by omega) (hg q _ _ _ hq rfl hT h24 (rk_add1 F h24 hq hT hn)))⟩
        · rw [e]
          refine br_t (nI_pos' (by omega)) ⟨vp_in_nI (by omega) (by omega), vp_in_nI (by omega) (by omega), ?_⟩
          rw [nI_clamp (by omega)]
          exact nm_e (rx_a65 (by omega) (hg q _ _ _ hq rfl hT h24 (rk_add2 F h24 hq hT l0 lN lp ll)))
      · exact br_f (nI_nlt (b := 24) (by omega) (by omega)) (hf ⟨q, hq, rfl, hT⟩ (by omega))
    · rw [if_neg hT]
      exact br_f (by decide) (hb (Or.inr ⟨q, hq, rfl, hT⟩))
theorem ry_addB {post : Int32 → SY → Prop} {v b : Int32} (hN : N ≤ 24) (h : (v < 0 ∨ nI N ≤ v) ∨ ∃ q, q < N ∧ v = nI q ∧ ¬ aT q = 0) (hp : post (-1) (nI N, aT, aP, aD, aH, tY, oY, gY, aR, aC, aM)) : wpY_add post (nI N, aT, aP, aD, aH, tY, oY, gY, aR, aC, aM) v b := by
  unfold wpY_add
  dsimp only
  rcases h with h | ⟨q, hq, rfl, hT⟩
  · exact ry_nn1 h (br_f (by decide) hp)
  · refine ry_nn0 hN hq (br_t rfl ⟨vp_in_nI (by omega) (by omega), ?_⟩)
    rw [nI_clamp (by omega)]
    exact br_f hT hp
theorem ry_addF {post : Int32 → SY → Prop} {v b : Int32} (hN : N = 24) (h : ∃ q, q < N ∧ v = nI q ∧ aT q = 0) (hp : post (-2) (nI N, aT, aP, aD, aH, tY, oY, gY, aR, aC, aM)) : wpY_add post (nI N, aT, aP, aD, aH, tY, oY, gY, aR, aC, aM) v b := by
  unfold wpY_add
  dsimp only
  obtain ⟨q, hq, rfl, hT⟩ := h
  refine ry_nn0 (by omega) hq (br_t rfl ⟨vp_in_nI (by omega) (by omega), ?_⟩)
  rw [nI_clamp (by omega)]
  exact br_t hT (br_t (by rw [hN]; rfl) hp)
theorem ry_addG {post : Int32 → SY → Prop} {b : Int32} {q : Nat} (hN : N < 24) (hq : q < N) (hT : aT q = 0) (hp : post (nI N) (nI (N + 1), upd aT N (vp_nar .boolean b), upd aP N (nI q), aD, aH, upd tY N 1, oY, upd gY N 1, aR, aC, aM)) : wpY_add post (nI N, aT, aP, aD, aH, tY, oY, gY, aR, aC, aM) (nI q) b := by
  have hv : vp_in (nI N) 24 := vp_in_nI hN (by omega)
  unfold wpY_add
  dsimp only
  refine ry_nn0 (by omega) hq (br_t rfl ⟨vp_in_nI (by omega) (by omega), ?_⟩)
  rw [nI_clamp (n := q) (by omega), nI_clamp (n := N) (by omega)]
  refine br_t hT (br_f (fun z => ?_) ⟨hv, nm_e ⟨hv, nm_e ⟨hv, nm_e ⟨hv, nm_e (nm_r (nI_1 N) ?_)⟩⟩⟩⟩)
  · have := (nI_eq (b := 24) (by omega) (by omega)).mp z
    omega
  · rw [nI_pred]
    exact hp
/-- the walk through hook's ranges, alike on both sides -/
theorem rk_hk {A B : Prop} {v2 v3 : Int32} (bad : A) (good : ¬ v2 < 0 → v2 ≤ 3 → ¬ v3 < 0 → v3 ≤ 3 → B) : (v2 < 0 → A) ∧ (¬ v2 < 0 → (3 < v2 → A) ∧ (¬ 3 < v2 → (v3 < 0 → A) ∧ (¬ v3 < 0 → (v3 ≤ 3 → B) ∧ (¬ v3 ≤ 3 → A)))) :=
  br_c (fun _ => bad) (fun h1 => br_c (fun _ => bad) (fun h2 => br_c (fun _ => bad) (fun h3 => br_c (fun h4 => good h1 (Int32.not_lt.mp h2) h3 h4) (fun _ => bad))))
end
end
section
/-! what is owed -/
theorem i_vc0 : wpX_init (fun u => wpY_init (fun v => i_Rel 0 u v)) := by
  unfold wpX_init
  refine rx_clear (N := 1) (n := 0) (by omega) ?_
  dsimp only
  unfold wpY_init
  refine nm_e ?_
  have e : upd (fun _ => 0) 0 (vp_nar .boolean 0) = (fun _ => (0 : Int32)) := by
    funext j
    by_cases h : j = 0
    · subst h; rw [pk_us]; rfl
    · rw [pk_un h]
  rw [e]
  have n1 : ∀ {P : Nat → Prop}, (∀ z, 0 < z → z < 1 → P z) := fun z h1 h2 => by omega
  have u0 : ∀ {q : Nat}, q < 1 → upd (fun _ => (0 : Int32)) 0 (-1) q = -1 := fun {q} h => by
    obtain rfl : q = 0 := by omega
    exact pk_us
  refine rk_in (N := 1) (par := fun _ => 0) ⟨⟨by omega, fun n h1 h2 => by omega⟩, by omega, ⟨pk_us, rfl, fun n h1 h2 => by omega⟩, fun q hq => Or.inl ⟨u0 hq, n1⟩, fun q hq => Or.inl ⟨u0 hq, n1⟩, fun q h1 h2 => by omega, pk_us, fun j => Or.inl rfl, fun t ht => ?_, fun n hn => ?_, fun n => ?_, fun n hn => ?_, fun n hn => rfl, (rq_S0 96 (fun _ _ => rfl)).symm, fun n hn => Or.inl rfl⟩
  · obtain rfl : t = 0 := by omega
    exact ⟨1, by omega, pk_us⟩
  · rw [pk_un (by omega)]
  · by_cases h : n = 0
    · subst h; exact Or.inr ⟨pk_us, rfl⟩
    · rw [pk_un h]; exact Or.inl rfl
  · rw [pk_un (by omega)]
theorem i_vc_container {k : Nat} {u : SX} {v : SY} (I : i_Rel k u v) (hk : k + 4 ≤ 2048) (v1 : Int32) : wpX_container (fun r u' => wpY_container (fun r' v' => r' = r ∧ i_Rel (k + 4) u' v') v v1) u v1 := by
  refine rk_el (P := fun u v => wpX_container (fun r u' => wpY_container (fun r' v' => r' = r ∧ i_Rel (k + 4) u' v') v v1) u v1) ?_ I
  intro N par fT fO fS aT aP aF aL aS aH tX oX gX aD aR aC aM aK aW tY oY gY F
  unfold wpX_container
  dsimp only
  refine rx_add F (fun h => ?_) (fun h h24 => ?_) (fun q aF2 aL2 aS2 hq e hT h24 F2 => ?_)
  · unfold wpY_container
    exact ry_addB F.1.1 h ⟨rfl, rk_in F⟩
  · unfold wpY_container
    exact ry_addF h24 h ⟨rfl, rk_in F⟩
  · subst e
    unfold wpY_container
    exact ry_addG h24 hq hT ⟨rfl, rk_in F2⟩
theorem i_vc_test {k : Nat} {u : SX} {v : SY} (I : i_Rel k u v) (hk : k + 4 ≤ 2048) (v1 : Int32) : wpX_test (fun r u' => wpY_test (fun r' v' => r' = r ∧ i_Rel (k + 4) u' v') v v1) u v1 := by
  refine rk_el (P := fun u v => wpX_test (fun r u' => wpY_test (fun r' v' => r' = r ∧ i_Rel (k + 4) u' v') v v1) u v1) ?_ I
  intro N par fT fO fS aT aP aF aL aS aH tX oX gX aD aR aC aM aK aW tY oY gY F
  unfold wpX_test
  dsimp only
  refine rx_add F (fun h => ?_) (fun h h24 => ?_) (fun q aF2 aL2 aS2 hq e hT h24 F2 => ?_)
  · unfold wpY_test
    exact ry_addB F.1.1 h ⟨rfl, rk_in F⟩
  · unfold wpY_test
    exact ry_addF h24 h ⟨rfl, rk_in F⟩
  · subst e
    unfold wpY_test
    exact ry_addG h24 hq hT ⟨rfl, rk_in F2⟩
theorem i_vc_hook {k : Nat} {u : SX} {v : SY} (I : i_Rel k u v) (hk : k + 4 ≤ 2048) (v1 : Int32) (v2 : Int32) (v3 : Int32) : wpX_hook (fun r u' => wpY_hook (fun r' v' => r' = r ∧ i_Rel (k + 4) u' v') v v1 v2 v3) u v1 v2 v3 := by
  refine rk_el (P := fun u v => wpX_hook (fun r u' => wpY_hook (fun r' v' => r' = r ∧ i_Rel (k + 4) u' v') v v1 v2 v3) u v1 v2 v3) ?_ I
  intro N par fT fO fS aT aP aF aL aS aH tX oX gX aD aR aC aM aK aW tY oY gY F
  have hN := F.1.1
  unfold wpX_hook
  dsimp only
  rcases rk_v (v := v1) hN with h | ⟨q, hq, rfl⟩
  · refine rx_nc1 h (br_f (by decide) ?_)
    unfold wpY_hook
    exact ry_nn1 h (br_f (by decide) ⟨rfl, rk_in F⟩)
  · refine rx_nc0 hN hq ?_
    by_cases hT : aT q = 0
    · rw [if_pos hT]
      refine br_t rfl ?_
      by_cases g : ¬ v2 < 0 ∧ v2 ≤ 3 ∧ ¬ v3 < 0 ∧ v3 ≤ 3
      · obtain ⟨g1, g2, g3, g4⟩ := g
        obtain ⟨w, hw, rfl⟩ := rk_03 g1 g2
        obtain ⟨o, ho, rfl⟩ := rk_03 g3 g4
        have g2' : ¬ (3 : Int32) < nI w := Int32.not_lt.mpr g2
        refine br_f g1 (br_f g2' (br_f g3 (br_t g4 ?_)))
        rw [rq_i4, nI_clamp (by omega)]
        refine ⟨vp_in_nI (by omega) (by omega), nm_e ⟨vp_in_nI (by omega) (by omega), nm_e ?_⟩⟩
        unfold wpY_hook
        refine ry_nn0 hN hq (br_t rfl ⟨vp_in_nI (by omega) (by omega), ?_⟩)
        rw [nI_clamp (n := q) (by omega)]
        refine br_t hT (br_f g1 (br_f g2' (br_f g3 (br_t g4 ?_))))
        rw [rq_i4, nI_clamp (by omega)]
        refine ⟨vp_in_nI (by omega) (by omega), nm_e ⟨vp_in_nI (by omega) (by omega), nm_e ⟨rfl, rk_in (par := par) ?_⟩⟩⟩
        obtain ⟨W, h0, hP, hF, hL, hS, hS0, hH, rest⟩ := F
        refine ⟨W, h0, hP, hF, hL, hS, hS0, fun j => ?_, rest⟩
        by_cases e : j = q * 4 + w
        · subst e
          rw [pk_us]
          have ho4 : o = 0 ∨ o = 1 ∨ o = 2 ∨ o = 3 := by omega
          rcases ho4 with e | e | e | e <;> subst e
          · exact Or.inl rfl
          · exact Or.inr (Or.inl rfl)
          · exact Or.inr (Or.inr (Or.inl rfl))
          · exact Or.inr (Or.inr (Or.inr rfl))
        · rw [pk_un e]; exact hH j
      · refine rk_hk ?_ (fun a b c d => absurd ⟨a, b, c, d⟩ g)
        unfold wpY_hook
        refine ry_nn0 hN hq (br_t rfl ⟨vp_in_nI (by omega) (by omega), ?_⟩)
        rw [nI_clamp (n := q) (by omega)]
        exact br_t hT (rk_hk ⟨rfl, rk_in F⟩ (fun a b c d => absurd ⟨a, b, c, d⟩ g))
    · rw [if_neg hT]
      refine br_f (by decide) ?_
      unfold wpY_hook
      refine ry_nn0 hN hq (br_t rfl ⟨vp_in_nI (by omega) (by omega), ?_⟩)
      rw [nI_clamp (n := q) (by omega)]
      exact br_f hT ⟨rfl, rk_in F⟩
theorem i_vc_body {k : Nat} {u : SX} {v : SY} (I : i_Rel k u v) (hk : k + 4 ≤ 2048) (v1 : Int32) (v2 : Int32) (v3 : Int32) : wpX_body (fun r u' => wpY_body (fun r' v' => r' = r ∧ i_Rel (k + 4) u' v') v v1 v2 v3) u v1 v2 v3 := by
  refine rk_el (P := fun u v => wpX_body (fun r u' => wpY_body (fun r' v' => r' = r ∧ i_Rel (k + 4) u' v') v v1 v2 v3) u v1 v2 v3) ?_ I
  intro N par fT fO fS aT aP aF aL aS aH tX oX gX aD aR aC aM aK aW tY oY gY F
  have hN := F.1.1
  unfold wpX_body
  dsimp only
  rcases rk_v (v := v1) hN with h | ⟨q, hq, rfl⟩
  · refine rx_nt1 h (br_f (by decide) ?_)
    unfold wpY_body
    exact ry_nn1 h (br_f (by decide) ⟨rfl, rk_in F⟩)
  · refine rx_nt0 hN hq ?_
    by_cases hT : aT q = 0
    · rw [if_pos hT]
      refine br_f (by decide) ?_
      unfold wpY_body
      refine ry_nn0 hN hq (br_t rfl ⟨vp_in_nI (by omega) (by omega), ?_⟩)
      rw [nI_clamp (n := q) (by omega)]
      exact br_t hT ⟨rfl, rk_in F⟩
    · rw [if_neg hT]
      refine br_t rfl ?_
      by_cases g1 : v2 < 1
      · refine br_t g1 ?_
        unfold wpY_body
        refine ry_nn0 hN hq (br_t rfl ⟨vp_in_nI (by omega) (by omega), ?_⟩)
        rw [nI_clamp (n := q) (by omega)]
        exact br_f hT (br_t g1 ⟨rfl, rk_in F⟩)
      · by_cases g2 : v2 ≤ 4
        · refine br_f g1 (br_t g2 ?_)
          rw [nI_clamp (n := q) (by omega)]
          refine ⟨vp_in_nI (by omega) (by omega), nm_e ⟨vp_in_nI (by omega) (by omega), nm_e ?_⟩⟩
          unfold wpY_body
          refine ry_nn0 hN hq (br_t rfl ⟨vp_in_nI (by omega) (by omega), ?_⟩)
          rw [nI_clamp (n := q) (by omega)]
          refine br_f hT (br_f g1 (br_t g2 ⟨vp_in_nI (by omega) (by omega), nm_e ⟨vp_in_nI (by omega) (by omega), nm_e ⟨rfl, rk_in (par := par) ?_⟩⟩⟩))
          obtain ⟨W, h0, hP, hF, hL, hS, hS0, hH, hR, ht, ho, hg, hoz, hf, hv⟩ := F
          refine ⟨W, h0, hP, hF, hL, hS, hS0, hH, fun t htN => ?_, fun n hn => ?_, fun n => ?_, hg, fun n hn => ?_, hf, hv⟩
          · by_cases e : t = q
            · subst e
              rw [pk_us]
              exact nI_of2 (M := 4) (by decide) (fun z => g1 (Int32.lt_trans z (by decide))) g2
            · rw [pk_un e]; exact hR t htN
          · by_cases e : n = q
            · subst e; rw [pk_us, pk_us]
            · rw [pk_un e, pk_un e]; exact ht n hn
          · by_cases e : n = q
            · subst e; rw [pk_us, pk_us]; exact Or.inl rfl
            · rw [pk_un e, pk_un e]; exact ho n
          · rw [pk_un (by omega)]; exact hoz n hn
        · refine br_f g1 (br_f g2 ?_)
          unfold wpY_body
          refine ry_nn0 hN hq (br_t rfl ⟨vp_in_nI (by omega) (by omega), ?_⟩)
          rw [nI_clamp (n := q) (by omega)]
          exact br_f hT (br_f g1 (br_f g2 ⟨rfl, rk_in F⟩))
theorem i_vc_tags {k : Nat} {u : SX} {v : SY} (I : i_Rel k u v) (hk : k + 4 ≤ 2048) (v1 : Int32) (v2 : Int32) : wpX_tags (fun r u' => wpY_tags (fun r' v' => r' = r ∧ i_Rel (k + 4) u' v') v v1 v2) u v1 v2 := by
  refine rk_el (P := fun u v => wpX_tags (fun r u' => wpY_tags (fun r' v' => r' = r ∧ i_Rel (k + 4) u' v') v v1 v2) u v1 v2) ?_ I
  intro N par fT fO fS aT aP aF aL aS aH tX oX gX aD aR aC aM aK aW tY oY gY F
  have hN := F.1.1
  unfold wpX_tags
  dsimp only
  rcases rk_v (v := v1) hN with h | ⟨q, hq, rfl⟩
  · refine rx_nt1 h (br_f (by decide) ?_)
    unfold wpY_tags
    exact ry_nn1 h (br_f (by decide) ⟨rfl, rk_in F⟩)
  · refine rx_nt0 hN hq ?_
    by_cases hT : aT q = 0
    · rw [if_pos hT]
      refine br_f (by decide) ?_
      unfold wpY_tags
      refine ry_nn0 hN hq (br_t rfl ⟨vp_in_nI (by omega) (by omega), ?_⟩)
      rw [nI_clamp (n := q) (by omega)]
      exact br_t hT ⟨rfl, rk_in F⟩
    · rw [if_neg hT]
      refine br_t rfl ⟨vp_in_nI (by omega) (by omega), ?_⟩
      rw [nI_clamp (n := q) (by omega)]
      refine nm_e ?_
      unfold wpY_tags
      refine ry_nn0 hN hq (br_t rfl ⟨vp_in_nI (by omega) (by omega), ?_⟩)
      rw [nI_clamp (n := q) (by omega)]
      refine br_f hT ⟨vp_in_nI (by omega) (by omega), nm_e ⟨rfl, rk_in (par := par) ?_⟩⟩
      obtain ⟨W, h0, hP, hF, hL, hS, hS0, hH, hR, ht, ho, hg, rest⟩ := F
      refine ⟨W, h0, hP, hF, hL, hS, hS0, hH, hR, ht, ho, fun n hn => ?_, rest⟩
      by_cases e : n = q
      · subst e; rw [pk_us, pk_us]
      · rw [pk_un e, pk_un e]; exact hg n hn
theorem i_vc_disable {k : Nat} {u : SX} {v : SY} (I : i_Rel k u v) (hk : k + 4 ≤ 2048) (v1 : Int32) (v2 : Int32) : wpX_disable (fun r u' => wpY_disable (fun r' v' => r' = r ∧ i_Rel (k + 4) u' v') v v1 (lw_bz v2)) u v1 (lw_bz v2) := by
  refine rk_el (P := fun u v => wpX_disable (fun r u' => wpY_disable (fun r' v' => r' = r ∧ i_Rel (k + 4) u' v') v v1 (lw_bz v2)) u v1 (lw_bz v2)) ?_ I
  intro N par fT fO fS aT aP aF aL aS aH tX oX gX aD aR aC aM aK aW tY oY gY F
  have hN := F.1.1
  unfold wpX_disable
  dsimp only
  rcases rk_v (v := v1) hN with h | ⟨q, hq, rfl⟩
  · refine rx_nn1 h (br_f (by decide) ?_)
    unfold wpY_disable
    exact ry_nn1 h (br_f (by decide) ⟨rfl, rk_in F⟩)
  · refine rx_nn0 hN hq (br_t rfl ⟨vp_in_nI (by omega) (by omega), ?_⟩)
    rw [nI_clamp (n := q) (by omega)]
    refine br_c (fun hd => ⟨vp_in_nI (by omega) (by omega), nm_e ?_⟩) (fun hd => ⟨vp_in_nI (by omega) (by omega), nm_e ?_⟩)
    · unfold wpY_disable
      refine ry_nn0 hN hq (br_t rfl ⟨vp_in_nI (by omega) (by omega), ?_⟩)
      rw [nI_clamp (n := q) (by omega)]
      refine br_t hd ?_
      unfold wY_disable_24
      rw [nI_clamp (n := q) (by omega)]
      exact ⟨vp_in_nI (by omega) (by omega), nm_e ⟨rfl, rk_in F⟩⟩
    · unfold wpY_disable
      refine ry_nn0 hN hq (br_t rfl ⟨vp_in_nI (by omega) (by omega), ?_⟩)
      rw [nI_clamp (n := q) (by omega)]
      refine br_f hd ?_
      unfold wY_disable_24
      rw [nI_clamp (n := q) (by omega)]
      exact ⟨vp_in_nI (by omega) (by omega), nm_e ⟨rfl, rk_in F⟩⟩
theorem i_vc_run {k : Nat} {u : SX} {v : SY} (I : i_Rel k u v) (hk : k + 4 ≤ 2048) (v1 : Int32) : wpX_run (fun r u' => wpY_run (fun r' v' => r' = r ∧ i_Rel (k + 4) u' v') v v1) u v1 := by
  refine rk_el (P := fun u v => wpX_run (fun r u' => wpY_run (fun r' v' => r' = r ∧ i_Rel (k + 4) u' v') v v1) u v1) ?_ I
  intro N par fT fO fS aT aP aF aL aS aH tX oX gX aD aR aC aM aK aW tY oY gY F
  obtain ⟨W, h0, hP, hF, hL, hS, hS0, hH, hR, ht, ho, hg, hoz, hf, hv⟩ := F
  have t0 : ∀ t, ¬ aT t = 0 → 0 < t := fun t z => Nat.pos_of_ne_zero fun e => z (by rw [e]; exact hP.2.1)
  refine rx_run W hH hP hF hS hS0 (fun t htN => ?_) h0 ?_
  · obtain ⟨K, h1, h2⟩ := hR t htN
    exact ⟨K, by omega, h2⟩
  · intro o' s' R' C' M' K' V' hU
    have hU2 := rj_UP hP.2.1 hg (tY := tY) (oY := oY) (fun t htN z => by
      obtain ⟨K, h1, h2⟩ := hR t htN
      exact rj_TT h1 h2 (ht t (t0 t z)) (ho t)) hU
    have e1 := rj_R W hU2
    have e2 := rj_M W hU2
    have e3 := rj_C W hP hU2
    refine ry_run W hP (fun t htN => ?_) ?_
    · obtain ⟨K, h1, h2⟩ := hR t htN
      exact ⟨K, by omega, fun z => (ht t (t0 t z)).symm.trans h2⟩
    · rw [← e3, ← e1, ← e2]
      refine ⟨rq_Sc N fun m _ => rq_c ⟨fun z => ⟨z.1, z.2.1⟩, fun z => ⟨z.1, z.2, by decide⟩⟩, rk_in ⟨W, h0, hP, hF, hL, hS, hS0, hH, hR, ht, ho, hg, hoz, rfl, fun n hn => ?_⟩⟩
      rw [e1]
      unfold rq_ov
      rw [if_pos hn]
      exact rj_v W
theorem i_vc_result {k : Nat} {u : SX} {v : SY} (I : i_Rel k u v) (hk : k + 4 ≤ 2048) (v1 : Int32) : wpX_result (fun r => wpY_result (fun r' => r' = r ∧ i_Rel (k + 4) u v) v v1) u v1 := by
  refine rk_el (P := fun u v => wpX_result (fun r => wpY_result (fun r' => r' = r ∧ i_Rel (k + 4) u v) v v1) u v1) ?_ I
  intro N par fT fO fS aT aP aF aL aS aH tX oX gX aD aR aC aM aK aW tY oY gY F
  have hN := F.1.1
  unfold wpX_result wpY_result
  dsimp only
  rcases rk_v (v := v1) hN with h | ⟨q, hq, rfl⟩
  · exact rx_nn1 h (br_f (by decide) (ry_nn1 h (br_f (by decide) ⟨rfl, rk_in F⟩)))
  · have hi : vp_in (nI q) 24 := vp_in_nI (by omega) (by omega)
    exact rx_nn0 hN hq (br_t rfl ⟨hi, ry_nn0 hN hq (br_t rfl ⟨hi, rfl, rk_in F⟩)⟩)
theorem i_vc_times {k : Nat} {u : SX} {v : SY} (I : i_Rel k u v) (hk : k + 4 ≤ 2048) (v1 : Int32) (v2 : Int32) : wpX_times (fun r => wpY_times (fun r' => r' = r ∧ i_Rel (k + 4) u v) v v1 v2) u v1 v2 := by
  refine rk_el (P := fun u v => wpX_times (fun r => wpY_times (fun r' => r' = r ∧ i_Rel (k + 4) u v) v v1 v2) u v1 v2) ?_ I
  intro N par fT fO fS aT aP aF aL aS aH tX oX gX aD aR aC aM aK aW tY oY gY F
  have hN := F.1.1
  unfold wpX_times wpY_times
  dsimp only
  rcases rk_v (v := v1) hN with h | ⟨q, hq, rfl⟩
  · exact rx_nn1 h (br_f (by decide) (ry_nn1 h (br_f (by decide) ⟨rfl, rk_in F⟩)))
  · by_cases g1 : v2 < 0
    · exact rx_nn0 hN hq (br_t rfl (br_t g1 (ry_nn0 hN hq (br_t rfl (br_t g1 ⟨rfl, rk_in F⟩)))))
    · by_cases g2 : v2 ≤ 3
      · have hi : vp_in (nI q * 4 + v2) 96 := by
          obtain ⟨w, hw, rfl⟩ := rk_03 g1 g2
          rw [rq_i4]
          exact vp_in_nI (by omega) (by omega)
        exact rx_nn0 hN hq (br_t rfl (br_f g1 (br_t g2 ⟨hi, ry_nn0 hN hq (br_t rfl (br_f g1 (br_t g2 ⟨hi, rfl, rk_in F⟩)))⟩)))
      · exact rx_nn0 hN hq (br_t rfl (br_f g1 (br_f g2 (ry_nn0 hN hq (br_t rfl (br_f g1 (br_f g2 ⟨rfl, rk_in F⟩)))))))
theorem i_vc_count {k : Nat} {u : SX} {v : SY} (I : i_Rel k u v) (hk : k + 4 ≤ 2048) (v1 : Int32) : wpX_count (fun r => wpY_count (fun r' => r' = r ∧ i_Rel (k + 4) u v) v v1) u v1 := by
  refine rk_el (P := fun u v => wpX_count (fun r => wpY_count (fun r' => r' = r ∧ i_Rel (k + 4) u v) v v1) u v1) ?_ I
  intro N par fT fO fS aT aP aF aL aS aH tX oX gX aD aR aC aM aK aW tY oY gY F
  have hN := F.1.1
  obtain ⟨_, _, _, _, _, _, _, _, _, _, _, _, _, _, hv⟩ := id F
  by_cases g : ¬ v1 < 1 ∧ v1 ≤ 3
  · refine rx_count hN g.1 g.2 (ry_count hN ⟨rq_Sc N fun m _ => rq_c ⟨fun z => ⟨z.1, z.2.1⟩, fun z => ⟨z.1, z.2, fun e => g.1 (by rw [e]; decide)⟩⟩, rk_in F⟩)
  · have hz : ∀ {post : Int32 → Prop}, post 0 → wpX_count post (nI N, fT, fO, fS, aT, aP, aF, aL, aS, aH, tX, oX, gX, aD, aR, aC, aM, aK, aW) v1 := fun {post} hp => by
      unfold wpX_count
      exact br_c (fun _ => hp) (fun h1 => br_f (fun h2 => g ⟨h1, h2⟩) hp)
    refine hz (ry_count hN ⟨rq_S0 N fun m hm => rq_f fun z => g ?_, rk_in F⟩)
    rw [← z.2.1]
    have z0 : ¬ aR m = 0 := fun e => z.2.2 (by rw [← z.2.1]; exact e)
    rcases hv m (by omega) with e | e | e | e
    · exact absurd e z0
    · rw [e]; decide
    · rw [e]; decide
    · rw [e]; decide
theorem i_vc_steps {k : Nat} {u : SX} {v : SY} (I : i_Rel k u v) (hk : k + 4 ≤ 2048) : wpX_steps (fun r => wpY_steps (fun r' => r' = r ∧ i_Rel (k + 4) u v) v) u := by
  refine rk_el (P := fun u v => wpX_steps (fun r => wpY_steps (fun r' => r' = r ∧ i_Rel (k + 4) u v) v) u) ?_ I
  intro N par fT fO fS aT aP aF aL aS aH tX oX gX aD aR aC aM aK aW tY oY gY F
  obtain ⟨_, _, _, _, _, _, _, _, _, _, _, _, _, hf, _⟩ := id F
  unfold wpX_steps
  exact ry_steps ⟨hf.symm, rk_in F⟩
theorem i_vc_attempts {k : Nat} {u : SX} {v : SY} (I : i_Rel k u v) (hk : k + 4 ≤ 2048) (v1 : Int32) : wpX_attempts (fun r => wpY_attempts (fun r' => r' = r ∧ i_Rel (k + 4) u v) v v1) u v1 := by
  refine rk_el (P := fun u v => wpX_attempts (fun r => wpY_attempts (fun r' => r' = r ∧ i_Rel (k + 4) u v) v v1) u v1) ?_ I
  intro N par fT fO fS aT aP aF aL aS aH tX oX gX aD aR aC aM aK aW tY oY gY F
  have hN := F.1.1
  unfold wpX_attempts wpY_attempts
  dsimp only
  rcases rk_v (v := v1) hN with h | ⟨q, hq, rfl⟩
  · exact rx_nn1 h (br_f (by decide) (ry_nn1 h (br_f (by decide) ⟨rfl, rk_in F⟩)))
  · have hi : vp_in (nI q) 24 := vp_in_nI (by omega) (by omega)
    exact rx_nn0 hN hq (br_t rfl ⟨hi, ry_nn0 hN hq (br_t rfl ⟨hi, rfl, rk_in F⟩)⟩)
end
