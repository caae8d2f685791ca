section
/-! numbers, bits, sums -/
/-- the number that a place holds -/
def tl_N (a : Nat → Int32) (i : Nat) : Nat := (a i).toNatClampNeg
/-- n places, each holding a number below b -/
def tl_R (a : Nat → Int32) (n b : Nat) : Prop := ∀ i, i < n → ∃ j, j < b ∧ a i = nI j
theorem tl_N_of {a : Nat → Int32} {i j : Nat} (h : a i = nI j) (hj : j < 2 ^ 31) : tl_N a i = j := by
  unfold tl_N
  rw [h, nI_clamp hj]
theorem tl_R_at {a : Nat → Int32} {n b i : Nat} (h : tl_R a n b) (hi : i < n) (hb : b ≤ 2 ^ 31 := by omega) : a i = nI (tl_N a i) ∧ tl_N a i < b := by
  obtain ⟨j, hj, e⟩ := h i hi
  rw [tl_N_of e (by omega)]
  exact ⟨e, hj⟩
theorem tl_R_upd {a : Nat → Int32} {n b k x : Nat} (h : tl_R a n b) (hx : x < b) : tl_R (upd a k (nI x)) n b := by
  intro i hi
  by_cases e : i = k
  · exact ⟨x, hx, by rw [e, pk_us]⟩
  · obtain ⟨j, hj, e2⟩ := h i hi
    exact ⟨j, hj, by rw [pk_un e, e2]⟩
theorem tl_R_mono {a : Nat → Int32} {n b n' b' : Nat} (h : tl_R a n b) (hn : n' ≤ n) (hb : b ≤ b') : tl_R a n' b' := by
  intro i hi
  obtain ⟨j, hj, e⟩ := h i (by omega)
  exact ⟨j, by omega, e⟩
theorem tl_bit : ∀ s, s < 16 → ∀ p, p < 4 → ((nI s >>> (nI p &&& 31)) &&& 1 = 1 ↔ s.testBit p = true) := by decide +kernel
theorem tl_or : ∀ a, a < 16 → ∀ b, b < 16 → nI a ||| nI b = nI (a ||| b) := by decide +kernel
theorem tl_orlt : ∀ a, a < 16 → ∀ b, b < 16 → a ||| b < 16 := by decide +kernel
theorem tl_pk : ∀ a, a < 16 → ∀ b, b < 16 → nI a ||| (nI b <<< ((4 : Int32) &&& 31)) = nI (a + 16 * b) := by decide +kernel
theorem tl_and : ∀ a, a < 16 → ∀ b, b < 16 → (nI a &&& nI b = 0 ↔ ∀ q, q < 4 → ¬ (a.testBit q = true ∧ b.testBit q = true)) := by decide +kernel
theorem tl_and' : ∀ a, a < 16 → ∀ b, b < 16 → (nI a &&& nI b = 0 ↔ a &&& b = 0) := by decide +kernel
theorem tl_lo {x : Nat} (h : x < 256) : nI x &&& 15 = nI (x % 16) := pk_andN (by omega) 4 (by decide)
theorem tl_hi {x : Nat} (h : x < 256) : nI x >>> ((4 : Int32) &&& 31) = nI (x / 16) := pk_shrN (by omega) _ 4 (by decide)
theorem tl_k3 {x : Nat} (h : x < 64) : nI x &&& 3 = nI (x % 4) := pk_andN (by omega) 2 (by decide)
theorem tl_k2 {x : Nat} (h : x < 64) : nI x >>> ((2 : Int32) &&& 31) = nI (x / 4) := pk_shrN (by omega) _ 2 (by decide)
theorem tl_b8 : ∀ x, x < 128 → (nI x).toInt8.toInt32 = nI x := by decide +kernel
theorem tl_s16 : ∀ x, x < 512 → (nI x).toInt16.toInt32 = nI x := by decide +kernel
theorem tl_v8 {x : Nat} (h : x < 128) : vp_nar .byte (nI x) = nI x := by rw [vp_nar_byte, tl_b8 x h]
theorem tl_m2 (m i : Nat) : (2 : Int32) * nI m + nI i = nI (2 * m + i) := by
  show nI 2 * nI m + nI i = _
  rw [pk_mul, nI_add]
theorem tl_m4 (m i : Nat) : (4 : Int32) * nI m + nI i = nI (4 * m + i) := by
  show nI 4 * nI m + nI i = _
  rw [pk_mul, nI_add]
theorem tl_m16 (m i : Nat) : (16 : Int32) * nI m + nI i = nI (16 * m + i) := by
  show nI 16 * nI m + nI i = _
  rw [pk_mul, nI_add]
theorem tl_m256 (m i : Nat) : (256 : Int32) * nI m + nI i = nI (256 * m + i) := by
  show nI 256 * nI m + nI i = _
  rw [pk_mul, nI_add]
theorem tl_s1 {m : Nat} (h : 1 ≤ m) : nI m - 1 = nI (m - 1) := pk_sub (b := 1) h
theorem tl_s2 {m : Nat} (h : 2 ≤ m) : nI m - 2 = nI (m - 2) := pk_sub (b := 2) h
/-- a short that was added up to x -/
def tl_sh (x : Nat) : Int32 := (nI x).toInt16.toInt32
theorem tl_sh_add (x y : Nat) : (tl_sh x + (nI y).toInt16.toInt32).toInt16.toInt32 = tl_sh (x + y) := by
  unfold tl_sh
  rw [Int32.toInt16_add, Int16.toInt16_toInt32, Int16.toInt16_toInt32, ← Int32.toInt16_add, nI_add]
theorem tl_sh_1 (x : Nat) : (tl_sh x + 1).toInt16.toInt32 = tl_sh (x + 1) := tl_sh_add x 1
theorem tl_sh_0 : tl_sh 0 = 0 := by decide
theorem tl_sh_v {x : Nat} (h : x < 512) : tl_sh x = nI x := tl_s16 x h
/-! sums over the numbers below n -/
def tl_sg (f : Nat → Nat) : Nat → Nat
  | 0 => 0
  | n + 1 => tl_sg f n + f n
theorem tl_sg_congr {f g : Nat → Nat} : ∀ n, (∀ i, i < n → f i = g i) → tl_sg f n = tl_sg g n := by
  intro n
  induction n with
  | zero => intro _; rfl
  | succ n ih =>
    intro h
    show tl_sg f n + f n = tl_sg g n + g n
    rw [ih (fun i hi => h i (by omega)), h n (by omega)]
theorem tl_sg_le {f g : Nat → Nat} : ∀ n, (∀ i, i < n → f i ≤ g i) → tl_sg f n ≤ tl_sg g n := by
  intro n
  induction n with
  | zero => intro _; exact Nat.le_refl _
  | succ n ih =>
    intro h
    show tl_sg f n + f n ≤ tl_sg g n + g n
    exact Nat.add_le_add (ih (fun i hi => h i (by omega))) (h n (by omega))
theorem tl_sg_add (f g : Nat → Nat) : ∀ n, tl_sg (fun i => f i + g i) n = tl_sg f n + tl_sg g n := by
  intro n
  induction n with
  | zero => rfl
  | succ n ih =>
    show tl_sg (fun i => f i + g i) n + (f n + g n) = (tl_sg f n + f n) + (tl_sg g n + g n)
    rw [ih]
    omega
theorem tl_sg_app (f : Nat → Nat) (a : Nat) : ∀ b, tl_sg f (a + b) = tl_sg f a + tl_sg (fun j => f (a + j)) b := by
  intro b
  induction b with
  | zero => rfl
  | succ b ih =>
    show tl_sg f (a + b) + f (a + b) = tl_sg f a + (tl_sg (fun j => f (a + j)) b + f (a + b))
    rw [ih]
    omega
theorem tl_sg_blk (f : Nat → Nat) (c : Nat) : ∀ m, tl_sg f (c * m) = tl_sg (fun i => tl_sg (fun o => f (c * i + o)) c) m := by
  intro m
  induction m with
  | zero => rfl
  | succ m ih =>
    rw [Nat.mul_succ, tl_sg_app, ih]
    rfl
theorem tl_sg_0 : ∀ n, tl_sg (fun _ => 0) n = 0 := by
  intro n
  induction n with
  | zero => rfl
  | succ n ih =>
    show tl_sg (fun _ => 0) n + 0 = 0
    rw [ih]
theorem tl_sg_const (c : Nat) : ∀ n, tl_sg (fun _ => c) n = n * c := by
  intro n
  induction n with
  | zero => simp [tl_sg]
  | succ n ih =>
    show tl_sg (fun _ => c) n + c = _
    rw [ih, Nat.succ_mul]
theorem tl_sg_pt (a : Nat) (g : Nat → Nat) : ∀ n, tl_sg (fun p => (if a = p then 1 else 0) * g p) n = if a < n then g a else 0 := by
  intro n
  induction n with
  | zero => rfl
  | succ n ih =>
    show tl_sg (fun p => (if a = p then 1 else 0) * g p) n + (if a = n then 1 else 0) * g n = _
    rw [ih]
    by_cases e : a = n
    · subst e
      simp
    · rw [if_neg e, Nat.zero_mul, Nat.add_zero]
      by_cases h : a < n
      · rw [if_pos h, if_pos (by omega)]
      · rw [if_neg h, if_neg (by omega)]
theorem tl_sg_mulL (c : Nat) (f : Nat → Nat) : ∀ n, tl_sg (fun i => c * f i) n = c * tl_sg f n := by
  intro n
  induction n with
  | zero => rfl
  | succ n ih =>
    show tl_sg (fun i => c * f i) n + c * f n = c * (tl_sg f n + f n)
    rw [ih, Nat.mul_add]
theorem tl_sg_pos {f : Nat → Nat} : ∀ n, 0 < tl_sg f n ↔ ∃ i, i < n ∧ 0 < f i := by
  intro n
  induction n with
  | zero => exact ⟨fun h => absurd h (by simp [tl_sg]), fun ⟨i, hi, _⟩ => absurd hi (by omega)⟩
  | succ n ih =>
    show 0 < tl_sg f n + f n ↔ _
    constructor
    · intro h
      by_cases h0 : 0 < tl_sg f n
      · obtain ⟨i, hi, hf⟩ := ih.mp h0
        exact ⟨i, by omega, hf⟩
      · exact ⟨n, by omega, by omega⟩
    · intro ⟨i, hi, hf⟩
      by_cases e : i = n
      · subst e
        omega
      · have := ih.mpr ⟨i, by omega, hf⟩
        omega
end
section
/-! the two automata: sets over a node, pairs of sets -/
def tl_o1 (f : Nat → Nat) (m s : Nat) : Nat → Nat
  | 0 => 0
  | p + 1 => if s.testBit p = true then tl_o1 f m s p ||| f (4 * m + p) else tl_o1 f m s p
def tl_o2 (f : Nat → Nat) (m a b : Nat) : Nat → Nat
  | 0 => 0
  | k + 1 => if a.testBit (k % 4) = true ∧ b.testBit (k / 4) = true then tl_o2 f m a b k ||| f (16 * m + k) else tl_o2 f m a b k
def tl_P0 (f : Nat → Nat) (l : Nat) : Nat := f l + 16 * f (2 + l)
def tl_P1 (f : Nat → Nat) (x : Nat) : Nat := tl_o1 f 0 (x % 16) 4 + 16 * tl_o1 f 1 (x / 16) 4
def tl_P2 (f : Nat → Nat) (x y : Nat) : Nat := tl_o2 f 0 (x % 16) (y % 16) 16 + 16 * tl_o2 f 1 (x / 16) (y / 16) 16
/-- the set of automaton m in a pair -/
def tl_st (m x : Nat) : Nat := if m = 0 then x % 16 else x / 16
/-- every place of f below n holds a set -/
def tl_B (f : Nat → Nat) (n : Nat) : Prop := ∀ i, i < n → f i < 16
theorem tl_B_R {a : Nat → Int32} {n : Nat} (h : tl_R a n 16) : tl_B (tl_N a) n := fun i hi => (tl_R_at h hi).2
theorem tl_o1_lt {f : Nat → Nat} (hf : tl_B f 8) {m s : Nat} (hm : m < 2) : ∀ n, n ≤ 4 → tl_o1 f m s n < 16 := by
  intro n
  induction n with
  | zero => intro _; show 0 < 16; omega
  | succ n ih =>
    intro hn
    show (if s.testBit n = true then tl_o1 f m s n ||| f (4 * m + n) else tl_o1 f m s n) < 16
    split
    · exact tl_orlt _ (ih (by omega)) _ (hf _ (by omega))
    · exact ih (by omega)
theorem tl_o2_lt {f : Nat → Nat} (hf : tl_B f 32) {m a b : Nat} (hm : m < 2) : ∀ n, n ≤ 16 → tl_o2 f m a b n < 16 := by
  intro n
  induction n with
  | zero => intro _; show 0 < 16; omega
  | succ n ih =>
    intro hn
    show (if a.testBit (n % 4) = true ∧ b.testBit (n / 4) = true then tl_o2 f m a b n ||| f (16 * m + n) else tl_o2 f m a b n) < 16
    split
    · exact tl_orlt _ (ih (by omega)) _ (hf _ (by omega))
    · exact ih (by omega)
theorem tl_P0_lt {f : Nat → Nat} (hf : tl_B f 4) {l : Nat} (hl : l < 2) : tl_P0 f l < 256 := by
  have h1 := hf l (by omega)
  have h2 := hf (2 + l) (by omega)
  unfold tl_P0
  omega
theorem tl_P1_lt {f : Nat → Nat} (hf : tl_B f 8) (x : Nat) : tl_P1 f x < 256 := by
  have h1 := tl_o1_lt hf (m := 0) (s := x % 16) (by omega) 4 (by omega)
  have h2 := tl_o1_lt hf (m := 1) (s := x / 16) (by omega) 4 (by omega)
  unfold tl_P1
  omega
theorem tl_P2_lt {f : Nat → Nat} (hf : tl_B f 32) (x y : Nat) : tl_P2 f x y < 256 := by
  have h1 := tl_o2_lt hf (m := 0) (a := x % 16) (b := y % 16) (by omega) 16 (by omega)
  have h2 := tl_o2_lt hf (m := 1) (a := x / 16) (b := y / 16) (by omega) 16 (by omega)
  unfold tl_P2
  omega
theorem tl_st_lt {m x : Nat} (hx : x < 256) : tl_st m x < 16 := by
  unfold tl_st
  split <;> omega
theorem tl_st_P0 {f : Nat → Nat} (hf : tl_B f 4) {m l : Nat} (hm : m < 2) (hl : l < 2) : tl_st m (tl_P0 f l) = f (2 * m + l) := by
  have h1 := hf l (by omega)
  have h2 := hf (2 + l) (by omega)
  unfold tl_st tl_P0
  split
  · rename_i e
    subst e
    rw [show 2 * 0 + l = l by omega]
    omega
  · have e : m = 1 := by omega
    subst e
    rw [show 2 * 1 + l = 2 + l by omega]
    omega
theorem tl_st_P1 {f : Nat → Nat} (hf : tl_B f 8) {m x : Nat} (hm : m < 2) : tl_st m (tl_P1 f x) = tl_o1 f m (tl_st m x) 4 := by
  have h1 := tl_o1_lt hf (m := 0) (s := x % 16) (by omega) 4 (by omega)
  have h2 := tl_o1_lt hf (m := 1) (s := x / 16) (by omega) 4 (by omega)
  unfold tl_st tl_P1
  split
  · rename_i e
    subst e
    omega
  · have e : m = 1 := by omega
    subst e
    omega
theorem tl_st_P2 {f : Nat → Nat} (hf : tl_B f 32) {m x y : Nat} (hm : m < 2) : tl_st m (tl_P2 f x y) = tl_o2 f m (tl_st m x) (tl_st m y) 16 := by
  have h1 := tl_o2_lt hf (m := 0) (a := x % 16) (b := y % 16) (by omega) 16 (by omega)
  have h2 := tl_o2_lt hf (m := 1) (a := x / 16) (b := y / 16) (by omega) 16 (by omega)
  unfold tl_st tl_P2
  split
  · rename_i e
    subst e
    omega
  · have e : m = 1 := by omega
    subst e
    omega
theorem tl_o1_bit (f : Nat → Nat) (m s q : Nat) : ∀ n, (tl_o1 f m s n).testBit q = true ↔ ∃ p, p < n ∧ s.testBit p = true ∧ (f (4 * m + p)).testBit q = true := by
  intro n
  induction n with
  | zero => exact ⟨fun h => absurd h (by simp [tl_o1]), fun ⟨p, hp, _⟩ => absurd hp (by omega)⟩
  | succ n ih =>
    show (if s.testBit n = true then tl_o1 f m s n ||| f (4 * m + n) else tl_o1 f m s n).testBit q = true ↔ _
    by_cases hb : s.testBit n = true
    · rw [if_pos hb, Nat.testBit_or, Bool.or_eq_true, ih]
      constructor
      · intro h
        cases h with
        | inl h => obtain ⟨p, hp, h1, h2⟩ := h; exact ⟨p, by omega, h1, h2⟩
        | inr h => exact ⟨n, by omega, hb, h⟩
      · intro ⟨p, hp, h1, h2⟩
        by_cases e : p = n
        · subst e
          exact Or.inr h2
        · exact Or.inl ⟨p, by omega, h1, h2⟩
    · rw [if_neg hb, ih]
      constructor
      · intro ⟨p, hp, h1, h2⟩
        exact ⟨p, by omega, h1, h2⟩
      · intro ⟨p, hp, h1, h2⟩
        by_cases e : p = n
        · subst e
          exact absurd h1 hb
        · exact ⟨p, by omega, h1, h2⟩
theorem tl_o2_bit (f : Nat → Nat) (m a b q : Nat) : ∀ n, (tl_o2 f m a b n).testBit q = true ↔ ∃ p, p < n ∧ (a.testBit (p % 4) = true ∧ b.testBit (p / 4) = true) ∧ (f (16 * m + p)).testBit q = true := by
  intro n
  induction n with
  | zero => exact ⟨fun h => absurd h (by simp [tl_o2]), fun ⟨p, hp, _⟩ => absurd hp (by omega)⟩
  | succ n ih =>
    show (if a.testBit (n % 4) = true ∧ b.testBit (n / 4) = true then tl_o2 f m a b n ||| f (16 * m + n) else tl_o2 f m a b n).testBit q = true ↔ _
    by_cases hb : a.testBit (n % 4) = true ∧ b.testBit (n / 4) = true
    · rw [if_pos hb, Nat.testBit_or, Bool.or_eq_true, ih]
      constructor
      · intro h
        cases h with
        | inl h => obtain ⟨p, hp, h1, h2⟩ := h; exact ⟨p, by omega, h1, h2⟩
        | inr h => exact ⟨n, by omega, hb, h⟩
      · intro ⟨p, hp, h1, h2⟩
        by_cases e : p = n
        · subst e
          exact Or.inr h2
        · exact Or.inl ⟨p, by omega, h1, h2⟩
    · rw [if_neg hb, ih]
      constructor
      · intro ⟨p, hp, h1, h2⟩
        exact ⟨p, by omega, h1, h2⟩
      · intro ⟨p, hp, h1, h2⟩
        by_cases e : p = n
        · subst e
          exact absurd h1 hb
        · exact ⟨p, by omega, h1, h2⟩
end
section
/-! the trees of each size in the order of their numbers, over leaves l, one child o, two children t -/
def tl_L {V : Type} (l : Nat → V) (o : V → V) (t : V → V → V) : Nat → Nat → List V
  | 0, _ => []
  | f + 1, s => if s = 0 then [] else if s = 1 then [l 0, l 1] else (tl_L l o t f (s - 1)).map o ++ (List.range (s - 2)).flatMap (fun i => (tl_L l o t f (i + 1)).flatMap (fun a => (tl_L l o t f (s - 2 - i)).map (t a)))
theorem tl_fm {α β : Type} (L : List α) (f g : α → List β) (h : ∀ a, a ∈ L → f a = g a) : L.flatMap f = L.flatMap g := by
  induction L with
  | nil => rfl
  | cons x L ih =>
    rw [List.flatMap_cons, List.flatMap_cons, h x (List.mem_cons_self), ih (fun a ha => h a (List.mem_cons_of_mem _ ha))]
theorem tl_L_0 {V : Type} (l : Nat → V) (o : V → V) (t : V → V → V) : ∀ f, tl_L l o t f 0 = [] := by
  intro f
  cases f with
  | zero => rfl
  | succ f => rfl
theorem tl_L_fuel {V : Type} (l : Nat → V) (o : V → V) (t : V → V → V) : ∀ f s, s ≤ f → ∀ g, s ≤ g → tl_L l o t f s = tl_L l o t g s := by
  intro f
  induction f with
  | zero =>
    intro s hs g hg
    have e : s = 0 := by omega
    subst e
    rw [tl_L_0, tl_L_0]
  | succ f ih =>
    intro s hs g hg
    cases g with
    | zero =>
      have e : s = 0 := by omega
      subst e
      rw [tl_L_0, tl_L_0]
    | succ g =>
      show (if s = 0 then [] else if s = 1 then [l 0, l 1] else (tl_L l o t f (s - 1)).map o ++ (List.range (s - 2)).flatMap (fun i => (tl_L l o t f (i + 1)).flatMap (fun a => (tl_L l o t f (s - 2 - i)).map (t a)))) = (if s = 0 then [] else if s = 1 then [l 0, l 1] else (tl_L l o t g (s - 1)).map o ++ (List.range (s - 2)).flatMap (fun i => (tl_L l o t g (i + 1)).flatMap (fun a => (tl_L l o t g (s - 2 - i)).map (t a))))
      by_cases h0 : s = 0
      · rw [if_pos h0, if_pos h0]
      · rw [if_neg h0, if_neg h0]
        by_cases h1 : s = 1
        · rw [if_pos h1, if_pos h1]
        · rw [if_neg h1, if_neg h1, ih (s - 1) (by omega) g (by omega)]
          congr 1
          apply tl_fm
          intro i hi
          have hi' : i < s - 2 := List.mem_range.mp hi
          rw [ih (i + 1) (by omega) g (by omega), ih (s - 2 - i) (by omega) g (by omega)]
theorem tl_L_1 {V : Type} (l : Nat → V) (o : V → V) (t : V → V → V) (f : Nat) : tl_L l o t (f + 1) 1 = [l 0, l 1] := rfl
theorem tl_L_s {V : Type} (l : Nat → V) (o : V → V) (t : V → V → V) {f s : Nat} (hs : 2 ≤ s) (hf : s ≤ f) : tl_L l o t f s = (tl_L l o t f (s - 1)).map o ++ (List.range (s - 2)).flatMap (fun i => (tl_L l o t f (i + 1)).flatMap (fun a => (tl_L l o t f (s - 2 - i)).map (t a))) := by
  cases f with
  | zero => omega
  | succ f =>
    rw [tl_L_fuel l o t (f + 1) s hf (f + 1 + 1) (by omega)]
    show (if s = 0 then [] else if s = 1 then [l 0, l 1] else _) = _
    rw [if_neg (by omega), if_neg (by omega)]
theorem tl_L_hom {V U : Type} (l : Nat → V) (o : V → V) (t : V → V → V) (l' : Nat → U) (o' : U → U) (t' : U → U → U) (h : V → U) (hl : ∀ i, h (l i) = l' i) (ho : ∀ x, h (o x) = o' (h x)) (ht : ∀ x y, h (t x y) = t' (h x) (h y)) : ∀ f s, (tl_L l o t f s).map h = tl_L l' o' t' f s := by
  intro f
  induction f with
  | zero => intro s; rfl
  | succ f ih =>
    intro s
    show List.map h (if s = 0 then [] else if s = 1 then [l 0, l 1] else (tl_L l o t f (s - 1)).map o ++ (List.range (s - 2)).flatMap (fun i => (tl_L l o t f (i + 1)).flatMap (fun a => (tl_L l o t f (s - 2 - i)).map (t a)))) = (if s = 0 then [] else if s = 1 then [l' 0, l' 1] else (tl_L l' o' t' f (s - 1)).map o' ++ (List.range (s - 2)).flatMap (fun i => (tl_L l' o' t' f (i + 1)).flatMap (fun a => (tl_L l' o' t' f (s - 2 - i)).map (t' a))))
    by_cases h0 : s = 0
    · rw [if_pos h0, if_pos h0]; rfl
    · rw [if_neg h0, if_neg h0]
      by_cases h1 : s = 1
      · rw [if_pos h1, if_pos h1, ← hl 0, ← hl 1]; rfl
      · rw [if_neg h1, if_neg h1, List.map_append, List.map_map, ← ih (s - 1), List.map_map]
        congr 1
        · apply List.map_congr_left
          intro x _
          exact ho x
        · rw [List.map_flatMap]
          apply tl_fm
          intro i _
          rw [List.map_flatMap, ← ih (i + 1), List.flatMap_map]
          apply tl_fm
          intro a _
          rw [List.map_map, ← ih (s - 2 - i), List.map_map]
          apply List.map_congr_left
          intro b _
          exact ht a b
theorem tl_L_mem {V : Type} (l : Nat → V) (o : V → V) (t : V → V → V) {f s : Nat} (hf : s ≤ f) {x : V} (hx : x ∈ tl_L l o t f s) :
    (s = 1 ∧ (x = l 0 ∨ x = l 1)) ∨ (2 ≤ s ∧ ∃ y, y ∈ tl_L l o t f (s - 1) ∧ x = o y) ∨ (∃ i j a b, 1 ≤ i ∧ 1 ≤ j ∧ i + j + 1 = s ∧ a ∈ tl_L l o t f i ∧ b ∈ tl_L l o t f j ∧ x = t a b) := by
  by_cases h0 : s = 0
  · subst h0
    rw [tl_L_0] at hx
    cases hx
  · by_cases h1 : s = 1
    · subst h1
      cases f with
      | zero => omega
      | succ f =>
        rw [tl_L_1] at hx
        left
        refine ⟨rfl, ?_⟩
        cases hx with
        | head => exact Or.inl rfl
        | tail _ hx =>
          cases hx with
          | head => exact Or.inr rfl
          | tail _ hx => cases hx
    · rw [tl_L_s l o t (by omega) hf] at hx
      right
      rcases List.mem_append.mp hx with hx | hx
      · left
        obtain ⟨y, hy, e⟩ := List.mem_map.mp hx
        exact ⟨by omega, y, hy, e.symm⟩
      · right
        obtain ⟨i, hi, hx⟩ := List.mem_flatMap.mp hx
        obtain ⟨a, ha, hx⟩ := List.mem_flatMap.mp hx
        obtain ⟨b, hb, e⟩ := List.mem_map.mp hx
        have hi' : i < s - 2 := List.mem_range.mp hi
        exact ⟨i + 1, s - 2 - i, a, b, by omega, by omega, by omega, ha, hb, e.symm⟩
/-! sums over a list -/
def tl_sm {α : Type} (w : α → Nat) : List α → Nat
  | [] => 0
  | x :: L => w x + tl_sm w L
theorem tl_sm_app {α : Type} (w : α → Nat) (A B : List α) : tl_sm w (A ++ B) = tl_sm w A + tl_sm w B := by
  induction A with
  | nil => show tl_sm w B = 0 + tl_sm w B; omega
  | cons x A ih =>
    show w x + tl_sm w (A ++ B) = w x + tl_sm w A + tl_sm w B
    rw [ih]
    omega
theorem tl_sm_map {α β : Type} (w : β → Nat) (f : α → β) (A : List α) : tl_sm w (A.map f) = tl_sm (fun x => w (f x)) A := by
  induction A with
  | nil => rfl
  | cons x A ih =>
    show w (f x) + tl_sm w (A.map f) = w (f x) + _
    rw [ih]
theorem tl_sm_fm {α β : Type} (w : β → Nat) (g : α → List β) (A : List α) : tl_sm w (A.flatMap g) = tl_sm (fun x => tl_sm w (g x)) A := by
  induction A with
  | nil => rfl
  | cons x A ih =>
    rw [List.flatMap_cons, tl_sm_app, ih]
    rfl
theorem tl_sm_congr {α : Type} {w w' : α → Nat} (A : List α) (h : ∀ x, x ∈ A → w x = w' x) : tl_sm w A = tl_sm w' A := by
  induction A with
  | nil => rfl
  | cons x A ih =>
    show w x + tl_sm w A = w' x + tl_sm w' A
    rw [h x (List.mem_cons_self), ih (fun y hy => h y (List.mem_cons_of_mem _ hy))]
theorem tl_sm_le1 {α : Type} {w : α → Nat} (A : List α) (h : ∀ x, w x ≤ 1) : tl_sm w A ≤ A.length := by
  induction A with
  | nil => exact Nat.le_refl _
  | cons x A ih =>
    show w x + tl_sm w A ≤ A.length + 1
    have := h x
    omega
theorem tl_sm_mem {α : Type} {w : α → Nat} {A : List α} {x : α} (h : x ∈ A) : w x ≤ tl_sm w A := by
  induction A with
  | nil => cases h
  | cons y A ih =>
    show w x ≤ w y + tl_sm w A
    cases h with
    | head => omega
    | tail _ h =>
      have := ih h
      omega
theorem tl_sm_range (w : Nat → Nat) : ∀ n, tl_sm w (List.range n) = tl_sg w n := by
  intro n
  induction n with
  | zero => rfl
  | succ n ih =>
    rw [List.range_succ, tl_sm_app, ih]
    rfl
theorem tl_sm_sg {α : Type} (g : α → Nat → Nat) (A : List α) : ∀ n, tl_sg (fun p => tl_sm (fun x => g x p) A) n = tl_sm (fun x => tl_sg (g x) n) A := by
  intro n
  induction A with
  | nil => exact tl_sg_0 n
  | cons x A ih =>
    show tl_sg (fun p => g x p + tl_sm (fun x => g x p) A) n = tl_sg (g x) n + _
    rw [tl_sg_add, ih]
/-- how many of the list have the pair p -/
def tl_c {α : Type} (π : α → Nat) (A : List α) (p : Nat) : Nat := tl_sm (fun x => if π x = p then 1 else 0) A
theorem tl_c_le {α : Type} (π : α → Nat) (A : List α) (p : Nat) : tl_c π A p ≤ A.length := tl_sm_le1 A (fun x => by split <;> omega)
theorem tl_c_pos {α : Type} {π : α → Nat} {A : List α} {x : α} (h : x ∈ A) : 0 < tl_c π A (π x) := by
  have := tl_sm_mem (w := fun y => if π y = π x then 1 else 0) h
  rw [if_pos rfl] at this
  exact this
theorem tl_c_app {α : Type} (π : α → Nat) (A B : List α) (p : Nat) : tl_c π (A ++ B) p = tl_c π A p + tl_c π B p := tl_sm_app _ A B
/-- adding up by pairs is adding up over the list -/
theorem tl_c_sum {α : Type} (π : α → Nat) (g : Nat → Nat) (A : List α) {n : Nat} (h : ∀ x, x ∈ A → π x < n) : tl_sg (fun p => tl_c π A p * g p) n = tl_sm (fun x => g (π x)) A := by
  induction A with
  | nil =>
    show tl_sg (fun p => 0 * g p) n = 0
    rw [tl_sg_congr (g := fun _ => 0) n (fun i _ => Nat.zero_mul _), tl_sg_0]
  | cons x A ih =>
    show tl_sg (fun p => ((if π x = p then 1 else 0) + tl_c π A p) * g p) n = g (π x) + tl_sm (fun x => g (π x)) A
    rw [tl_sg_congr (g := fun p => (if π x = p then 1 else 0) * g p + tl_c π A p * g p) n (fun i _ => Nat.add_mul _ _ _), tl_sg_add, tl_sg_pt, if_pos (h x (List.mem_cons_self)), ih (fun y hy => h y (List.mem_cons_of_mem _ hy))]
/-! the k-th of a list by weights -/
def tl_pick {α : Type} (L : List α) (w : α → Nat) (k : Nat) (x : α) (k' : Nat) : Prop := ∃ A B, L = A ++ x :: B ∧ k = tl_sm w A + k' ∧ k' < w x
theorem tl_pick_l {α : Type} {L M : List α} {w : α → Nat} {k k' : Nat} {x : α} (h : tl_pick L w k x k') : tl_pick (L ++ M) w k x k' := by
  obtain ⟨A, B, e, h1, h2⟩ := h
  exact ⟨A, B ++ M, by rw [e, List.append_assoc]; rfl, h1, h2⟩
theorem tl_pick_r {α : Type} {L M : List α} {w : α → Nat} {k k' : Nat} {x : α} (h : tl_pick M w k x k') : tl_pick (L ++ M) w (tl_sm w L + k) x k' := by
  obtain ⟨A, B, e, h1, h2⟩ := h
  exact ⟨L ++ A, B, by rw [e, List.append_assoc], by rw [h1, tl_sm_app]; omega, h2⟩
theorem tl_pick_map {α β : Type} {L : List α} {w : β → Nat} {f : α → β} {k k' : Nat} {x : α} (h : tl_pick L (fun y => w (f y)) k x k') : tl_pick (L.map f) w k (f x) k' := by
  obtain ⟨A, B, e, h1, h2⟩ := h
  exact ⟨A.map f, B.map f, by rw [e, List.map_append]; rfl, by rw [tl_sm_map]; exact h1, h2⟩
theorem tl_pick_fm {α β : Type} {L : List α} {w : β → Nat} {g : α → List β} {k k1 k2 : Nat} {a : α} {y : β} (h : tl_pick L (fun x => tl_sm w (g x)) k a k1) (h' : tl_pick (g a) w k1 y k2) : tl_pick (L.flatMap g) w k y k2 := by
  obtain ⟨A, B, e, h1, h2⟩ := h
  obtain ⟨C, D, e', h3, h4⟩ := h'
  refine ⟨A.flatMap g ++ C, D ++ B.flatMap g, ?_, ?_, h4⟩
  · rw [e, List.flatMap_append, List.flatMap_cons, e']
    simp [List.append_assoc]
  · rw [tl_sm_app, tl_sm_fm]
    omega
theorem tl_pick_mem {α : Type} {L : List α} {w : α → Nat} {k k' : Nat} {x : α} (h : tl_pick L w k x k') : x ∈ L := by
  obtain ⟨A, B, e, _, _⟩ := h
  rw [e]
  exact List.mem_append.mpr (Or.inr List.mem_cons_self)
theorem tl_pick_congr {α : Type} {L : List α} {w w' : α → Nat} {k k' : Nat} {x : α} (hw : ∀ y, y ∈ L → w y = w' y) (h : tl_pick L w k x k') : tl_pick L w' k x k' := by
  have hm := tl_pick_mem h
  obtain ⟨A, B, e, h1, h2⟩ := h
  refine ⟨A, B, e, ?_, by rw [← hw x hm]; exact h2⟩
  rw [h1, tl_sm_congr A (fun y hy => hw y (by rw [e]; exact List.mem_append.mpr (Or.inl hy)))]
/-- in which order two picks stand -/
theorem tl_pick_lt {α : Type} {L : List α} {w : α → Nat} {A B A' B' : List α} {x x' : α} (e : L = A ++ x :: B) (e' : L = A' ++ x' :: B') (h : A.length < A'.length) : tl_sm w A + w x ≤ tl_sm w A' := by
  have h1 : A' = A ++ x :: (A'.drop (A.length + 1)) := by
    have t1 : L.take A'.length = A' := by rw [e', List.take_left]
    have t2 : A' = (A ++ x :: B).take A'.length := by rw [← e, t1]
    have t3 : A'.take (A.length + 1) = A ++ [x] := by
      rw [t2, List.take_take, Nat.min_eq_left (by omega), show A ++ x :: B = (A ++ [x]) ++ B by simp, show A.length + 1 = (A ++ [x]).length by simp, List.take_left]
    have t4 := List.take_append_drop (A.length + 1) A'
    rw [t3] at t4
    simpa using t4.symm
  rw [h1, tl_sm_app]
  show _ ≤ tl_sm w A + (w x + _)
  omega
end
section
/-! the trees with their letters, pairs, sizes and numbers -/
def tl_all (n : Nat) : Nat := [0, 2, 2, 6, 14, 42, 122, 382, 1206, 3922, 12914, 43190, 145950].getD n 0
/-- the products all i * all (n - 1 - i), 1 ≤ i < j -/
def tl_q (n j : Nat) : Nat := tl_sg (fun i => tl_all (i + 1) * tl_all (n - 2 - i)) (j - 1)
theorem tl_all_s : ∀ n, n < 13 → 2 ≤ n → tl_all (n - 1) + tl_q n (n - 1) = tl_all n := by decide +kernel
def tl_u0 (f1 : Nat → Nat) (i : Nat) : Nat × Nat × Nat := (tl_P0 f1 i, 1, i)
def tl_u1 (f2 : Nat → Nat) (x : Nat × Nat × Nat) : Nat × Nat × Nat := (tl_P1 f2 x.1, x.2.1 + 1, x.2.2)
def tl_u2 (f3 : Nat → Nat) (x y : Nat × Nat × Nat) : Nat × Nat × Nat := (tl_P2 f3 x.1 y.1, x.2.1 + y.2.1 + 1, tl_all (x.2.1 + y.2.1) + x.2.2 * tl_all y.2.1 + y.2.2 + tl_q (x.2.1 + y.2.1 + 1) x.2.1)
def tl_l0 (f1 : Nat → Nat) (i : Nat) : List Nat × Nat × Nat × Nat := ([i], tl_u0 f1 i)
def tl_l1 (f2 : Nat → Nat) (x : List Nat × Nat × Nat × Nat) : List Nat × Nat × Nat × Nat := (2 :: x.1, tl_u1 f2 x.2)
def tl_l2 (f3 : Nat → Nat) (x y : List Nat × Nat × Nat × Nat) : List Nat × Nat × Nat × Nat := (3 :: (x.1 ++ y.1), tl_u2 f3 x.2 y.2)
def tl_LL (f1 f2 f3 : Nat → Nat) (s : Nat) : List (List Nat × Nat × Nat × Nat) := tl_L (tl_l0 f1) (tl_l1 f2) (tl_l2 f3) 8 s
def tl_r0 (i : Nat) : Nat × Nat := (1, i)
def tl_r1 (x : Nat × Nat) : Nat × Nat := (x.1 + 1, x.2)
def tl_r2 (x y : Nat × Nat) : Nat × Nat := (x.1 + y.1 + 1, tl_all (x.1 + y.1) + x.2 * tl_all y.1 + y.2 + tl_q (x.1 + y.1 + 1) x.1)
theorem tl_rtab : ∀ s, s < 8 → tl_L tl_r0 tl_r1 tl_r2 8 s = (List.range (tl_all s)).map (fun r => (s, r)) := by decide +kernel
theorem tl_LL_r (f1 f2 f3 : Nat → Nat) {s : Nat} (hs : s ≤ 7) : (tl_LL f1 f2 f3 s).map (fun x => x.2.2) = (List.range (tl_all s)).map (fun r => (s, r)) := by
  rw [← tl_rtab s (by omega)]
  exact tl_L_hom (tl_l0 f1) (tl_l1 f2) (tl_l2 f3) tl_r0 tl_r1 tl_r2 (fun x => x.2.2) (fun _ => rfl) (fun _ => rfl) (fun _ _ => rfl) 8 s
theorem tl_LL_len (f1 f2 f3 : Nat → Nat) {s : Nat} (hs : s ≤ 7) : (tl_LL f1 f2 f3 s).length = tl_all s := by
  have h := congrArg List.length (tl_LL_r f1 f2 f3 hs)
  rw [List.length_map, List.length_map, List.length_range] at h
  exact h
theorem tl_all_le : ∀ s, s < 8 → tl_all s ≤ 382 := by decide +kernel
theorem tl_LL_382 (f1 f2 f3 : Nat → Nat) {s : Nat} (hs : s ≤ 7) : (tl_LL f1 f2 f3 s).length ≤ 382 := by
  rw [tl_LL_len f1 f2 f3 hs]
  exact tl_all_le s (by omega)
theorem tl_LL_0 (f1 f2 f3 : Nat → Nat) : tl_LL f1 f2 f3 0 = [] := rfl
theorem tl_LL_1 (f1 f2 f3 : Nat → Nat) : tl_LL f1 f2 f3 1 = [tl_l0 f1 0, tl_l0 f1 1] := rfl
theorem tl_LL_s (f1 f2 f3 : Nat → Nat) {s : Nat} (h2 : 2 ≤ s) (hs : s ≤ 7) : tl_LL f1 f2 f3 s = (tl_LL f1 f2 f3 (s - 1)).map (tl_l1 f2) ++ (List.range (s - 2)).flatMap (fun i => (tl_LL f1 f2 f3 (i + 1)).flatMap (fun a => (tl_LL f1 f2 f3 (s - 2 - i)).map (tl_l2 f3 a))) := tl_L_s _ _ _ h2 (by omega)
theorem tl_LL_mem {f1 f2 f3 : Nat → Nat} {s : Nat} (hs : s ≤ 7) {x : List Nat × Nat × Nat × Nat} (hx : x ∈ tl_LL f1 f2 f3 s) :
    (s = 1 ∧ (x = tl_l0 f1 0 ∨ x = tl_l0 f1 1)) ∨ (2 ≤ s ∧ ∃ y, y ∈ tl_LL f1 f2 f3 (s - 1) ∧ x = tl_l1 f2 y) ∨ (∃ i j a b, 1 ≤ i ∧ 1 ≤ j ∧ i + j + 1 = s ∧ a ∈ tl_LL f1 f2 f3 i ∧ b ∈ tl_LL f1 f2 f3 j ∧ x = tl_l2 f3 a b) := tl_L_mem _ _ _ (by omega) hx
theorem tl_LL_pair {f1 f2 f3 : Nat → Nat} (h1 : tl_B f1 4) (h2 : tl_B f2 8) (h3 : tl_B f3 32) {s : Nat} (hs : s ≤ 7) {x : List Nat × Nat × Nat × Nat} (hx : x ∈ tl_LL f1 f2 f3 s) : x.2.1 < 256 := by
  rcases tl_LL_mem hs hx with ⟨_, e⟩ | ⟨_, y, _, e⟩ | ⟨i, j, a, b, _, _, _, _, _, e⟩
  · rcases e with e | e
    · rw [e]; exact tl_P0_lt h1 (by omega)
    · rw [e]; exact tl_P0_lt h1 (by omega)
  · rw [e]; exact tl_P1_lt h2 _
  · rw [e]; exact tl_P2_lt h3 _ _
theorem tl_LL_word {f1 f2 f3 : Nat → Nat} : ∀ s, s ≤ 7 → ∀ x, x ∈ tl_LL f1 f2 f3 s → x.1.length = s := by
  intro s
  induction s using Nat.strongRecOn with
  | ind s ih =>
    intro hs x hx
    rcases tl_LL_mem hs hx with ⟨e1, e⟩ | ⟨h2, y, hy, e⟩ | ⟨i, j, a, b, hi, hj, hij, ha, hb, e⟩
    · subst e1
      rcases e with e | e <;> (rw [e]; rfl)
    · rw [e]
      show y.1.length + 1 = s
      rw [ih (s - 1) (by omega) (by omega) y hy]
      omega
    · rw [e]
      show (a.1 ++ b.1).length + 1 = s
      rw [List.length_append, ih i (by omega) (by omega) a ha, ih j (by omega) (by omega) b hb]
      omega
/-- a member's number is its place -/
theorem tl_range_at : ∀ (A B : List (Nat × Nat)) (x : Nat × Nat) (s c n : Nat), (List.range' c n).map (fun r => (s, r)) = A ++ x :: B → x = (s, c + A.length) := by
  intro A
  induction A with
  | nil =>
    intro B x s c n h
    cases n with
    | zero => exact absurd h (by simp)
    | succ n =>
      rw [List.range'_succ, List.map_cons] at h
      have := (List.cons.inj h).1
      exact this.symm
  | cons y A ih =>
    intro B x s c n h
    cases n with
    | zero => exact absurd h (by simp)
    | succ n =>
      rw [List.range'_succ, List.map_cons, List.cons_append] at h
      have := ih B x s (c + 1) n (List.cons.inj h).2
      rw [this]
      show (s, c + 1 + A.length) = (s, c + (A.length + 1))
      rw [show c + 1 + A.length = c + (A.length + 1) by omega]
theorem tl_LL_at {f1 f2 f3 : Nat → Nat} {s : Nat} (hs : s ≤ 7) {A B : List (List Nat × Nat × Nat × Nat)} {x : List Nat × Nat × Nat × Nat} (e : tl_LL f1 f2 f3 s = A ++ x :: B) : x.2.2 = (s, A.length) := by
  have h := tl_LL_r f1 f2 f3 hs
  rw [e, List.map_append, List.map_cons, List.range_eq_range'] at h
  have := tl_range_at _ _ _ s 0 _ h.symm
  rw [this, List.length_map, Nat.zero_add]
theorem tl_LL_size {f1 f2 f3 : Nat → Nat} {s : Nat} (hs : s ≤ 7) {x : List Nat × Nat × Nat × Nat} (hx : x ∈ tl_LL f1 f2 f3 s) : x.2.2.1 = s := by
  obtain ⟨A, B, e⟩ := List.append_of_mem hx
  rw [tl_LL_at hs e]
/-! values at the nodes: c the letters, a and b the children -/
def tl_rc {U : Type} (op : Nat → U → U → U) (d : U) (c a b : Nat → Nat) : Nat → Nat → U
  | 0, _ => d
  | n + 1, k => op (c k) (tl_rc op d c a b n (a k)) (tl_rc op d c a b n (b k))
/-- nodes below m: children stand before -/
def tl_K (c a b : Nat → Nat) (m : Nat) : Prop := ∀ k, k < m → c k < 4 ∧ (2 ≤ c k → a k < k) ∧ (c k = 3 → b k < k)
theorem tl_rc_st {U : Type} {op : Nat → U → U → U} {d : U} {c a b : Nat → Nat} {m : Nat} (h : tl_K c a b m) (h0 : ∀ i x y x' y', i < 2 → op i x y = op i x' y') (h2 : ∀ x y y', op 2 x y = op 2 x y') : ∀ k, k < m → ∀ n, k < n → tl_rc op d c a b n k = tl_rc op d c a b (k + 1) k := by
  intro k
  induction k using Nat.strongRecOn with
  | ind k ih =>
    intro hk n hn
    obtain ⟨k1, k2, k3⟩ := h k hk
    cases n with
    | zero => omega
    | succ n =>
      show op (c k) (tl_rc op d c a b n (a k)) (tl_rc op d c a b n (b k)) = op (c k) (tl_rc op d c a b k (a k)) (tl_rc op d c a b k (b k))
      by_cases hc : c k < 2
      · exact h0 _ _ _ _ _ hc
      · have ha := k2 (by omega)
        rw [ih (a k) ha (by omega) n (by omega), ih (a k) ha (by omega) k ha]
        by_cases hc2 : c k = 2
        · rw [hc2]
          exact h2 _ _ _
        · have hb := k3 (by omega)
          rw [ih (b k) hb (by omega) n (by omega), ih (b k) hb (by omega) k hb]
theorem tl_rc_eq {U : Type} {op : Nat → U → U → U} {d : U} {c a b : Nat → Nat} {m : Nat} (h : tl_K c a b m) (h0 : ∀ i x y x' y', i < 2 → op i x y = op i x' y') (h2 : ∀ x y y', op 2 x y = op 2 x y') {N : Nat} (hN : m ≤ N) : ∀ k, k < m → tl_rc op d c a b N k = op (c k) (tl_rc op d c a b N (a k)) (tl_rc op d c a b N (b k)) := by
  intro k hk
  obtain ⟨k1, k2, k3⟩ := h k hk
  rw [tl_rc_st h h0 h2 k hk N (by omega)]
  show op (c k) (tl_rc op d c a b k (a k)) (tl_rc op d c a b k (b k)) = _
  by_cases hc : c k < 2
  · exact h0 _ _ _ _ _ hc
  · have ha := k2 (by omega)
    rw [tl_rc_st h h0 h2 (a k) (by omega) k ha, tl_rc_st h h0 h2 (a k) (by omega) N (by omega)]
    by_cases hc2 : c k = 2
    · rw [hc2]
      exact h2 _ _ _
    · have hb := k3 (by omega)
      rw [tl_rc_st h h0 h2 (b k) (by omega) k hb, tl_rc_st h h0 h2 (b k) (by omega) N (by omega)]
/-- pair, size and number of a node -/
def tl_op (f1 f2 f3 : Nat → Nat) (i : Nat) (x y : Nat × Nat × Nat) : Nat × Nat × Nat := if i < 2 then tl_u0 f1 i else if i = 2 then tl_u1 f2 x else tl_u2 f3 x y
theorem tl_op_0 {f1 f2 f3 : Nat → Nat} {i : Nat} {x y : Nat × Nat × Nat} (h : i < 2) : tl_op f1 f2 f3 i x y = tl_u0 f1 i := if_pos h
theorem tl_op_2 {f1 f2 f3 : Nat → Nat} {x y : Nat × Nat × Nat} : tl_op f1 f2 f3 2 x y = tl_u1 f2 x := rfl
theorem tl_op_3 {f1 f2 f3 : Nat → Nat} {x y : Nat × Nat × Nat} : tl_op f1 f2 f3 3 x y = tl_u2 f3 x y := rfl
def tl_va (f1 f2 f3 c a b : Nat → Nat) (k : Nat) : Nat × Nat × Nat := tl_rc (tl_op f1 f2 f3) (0, 0, 0) c a b 12 k
/-- f has, at the nodes below m, what its letters and children give -/
def tl_Sat (f1 f2 f3 c a b : Nat → Nat) (m : Nat) (f : Nat → Nat × Nat × Nat) : Prop := ∀ k, k < m → f k = tl_op f1 f2 f3 (c k) (f (a k)) (f (b k))
theorem tl_va_sat {f1 f2 f3 c a b : Nat → Nat} {m : Nat} (h : tl_K c a b m) (hm : m ≤ 12) : tl_Sat f1 f2 f3 c a b m (tl_va f1 f2 f3 c a b) :=
  tl_rc_eq h (fun i x y x' y' hi => by rw [tl_op_0 hi, tl_op_0 hi]) (fun x y y' => rfl) hm
theorem tl_va_pair {f1 f2 f3 c a b : Nat → Nat} {m : Nat} (h : tl_K c a b m) (hm : m ≤ 12) (h1 : tl_B f1 4) (h2 : tl_B f2 8) (h3 : tl_B f3 32) : ∀ k, k < m → (tl_va f1 f2 f3 c a b k).1 < 256 := by
  intro k hk
  rw [tl_va_sat h hm k hk]
  by_cases hc : c k < 2
  · rw [tl_op_0 hc]; exact tl_P0_lt h1 hc
  · by_cases hc2 : c k = 2
    · rw [hc2]; exact tl_P1_lt h2 _
    · have : c k = 3 := by have := (h k hk).1; omega
      rw [this]; exact tl_P2_lt h3 _ _
/-! runs -/
def tl_bt (s q : Nat) : Nat := if s.testBit q = true then 1 else 0
theorem tl_bt_le (s q : Nat) : tl_bt s q ≤ 1 := by unfold tl_bt; split <;> omega
theorem tl_bt_pos (s q : Nat) : 0 < tl_bt s q ↔ s.testBit q = true := by
  unfold tl_bt
  split <;> simp_all
def tl_wop (f1 f2 f3 : Nat → Nat) (m i : Nat) (x y : Nat → Nat) : Nat → Nat := fun q => if i < 2 then tl_bt (f1 (2 * m + i)) q else if i = 2 then tl_sg (fun p => tl_bt (f2 (4 * m + p)) q * x p) 4 else tl_sg (fun p => tl_bt (f3 (16 * m + p)) q * (x (p % 4) * y (p / 4))) 16
theorem tl_wop_0 {f1 f2 f3 : Nat → Nat} {m i q : Nat} {x y : Nat → Nat} (h : i < 2) : tl_wop f1 f2 f3 m i x y q = tl_bt (f1 (2 * m + i)) q := if_pos h
theorem tl_wop_2 {f1 f2 f3 : Nat → Nat} {m q : Nat} {x y : Nat → Nat} : tl_wop f1 f2 f3 m 2 x y q = tl_sg (fun p => tl_bt (f2 (4 * m + p)) q * x p) 4 := rfl
theorem tl_wop_3 {f1 f2 f3 : Nat → Nat} {m q : Nat} {x y : Nat → Nat} : tl_wop f1 f2 f3 m 3 x y q = tl_sg (fun p => tl_bt (f3 (16 * m + p)) q * (x (p % 4) * y (p / 4))) 16 := rfl
def tl_ws (f1 f2 f3 : Nat → Nat) (m : Nat) (c a b : Nat → Nat) (k : Nat) : Nat → Nat := tl_rc (tl_wop f1 f2 f3 m) (fun _ => 0) c a b 12 k
theorem tl_ws_eq {f1 f2 f3 c a b : Nat → Nat} {mm m : Nat} (h : tl_K c a b m) (hm : m ≤ 12) : ∀ k, k < m → tl_ws f1 f2 f3 mm c a b k = tl_wop f1 f2 f3 mm (c k) (tl_ws f1 f2 f3 mm c a b (a k)) (tl_ws f1 f2 f3 mm c a b (b k)) :=
  tl_rc_eq h (fun i x y x' y' hi => by funext q; rw [tl_wop_0 hi, tl_wop_0 hi]) (fun x y y' => rfl) hm
/-- a state can be had just if some run gives it -/
theorem tl_ws_pos {f1 f2 f3 c a b : Nat → Nat} {mm m : Nat} (h : tl_K c a b m) (hm : m ≤ 12) (h1 : tl_B f1 4) (h2 : tl_B f2 8) (h3 : tl_B f3 32) (hmm : mm < 2) : ∀ k, k < m → ∀ q, q < 4 → (0 < tl_ws f1 f2 f3 mm c a b k q ↔ (tl_st mm (tl_va f1 f2 f3 c a b k).1).testBit q = true) := by
  intro k
  induction k using Nat.strongRecOn with
  | ind k ih =>
    intro hk q hq
    obtain ⟨k1, k2, k3⟩ := h k hk
    rw [tl_ws_eq h hm k hk, tl_va_sat h hm k hk]
    by_cases hc : c k < 2
    · rw [tl_wop_0 hc, tl_op_0 hc, tl_bt_pos]
      show _ ↔ (tl_st mm (tl_P0 f1 (c k))).testBit q = true
      rw [tl_st_P0 h1 hmm hc]
    · have ha := k2 (by omega)
      by_cases hc2 : c k = 2
      · rw [hc2, tl_wop_2, tl_op_2, tl_sg_pos]
        show _ ↔ (tl_st mm (tl_P1 f2 (tl_va f1 f2 f3 c a b (a k)).1)).testBit q = true
        rw [tl_st_P1 h2 hmm, tl_o1_bit]
        constructor
        · intro ⟨p, hp, hh⟩
          have hh' := Nat.pos_of_mul_pos_left hh
          have hh'' := Nat.pos_of_mul_pos_right hh
          exact ⟨p, hp, (ih (a k) ha (by omega) p hp).mp (by first | exact hh' | exact hh''), (tl_bt_pos _ _).mp (by first | exact hh' | exact hh'')⟩
        · intro ⟨p, hp, hb, hf⟩
          exact ⟨p, hp, Nat.mul_pos ((tl_bt_pos _ _).mpr hf) ((ih (a k) ha (by omega) p hp).mpr hb)⟩
      · have hc3 : c k = 3 := by omega
        have hb := k3 hc3
        rw [hc3, tl_wop_3, tl_op_3, tl_sg_pos]
        show _ ↔ (tl_st mm (tl_P2 f3 (tl_va f1 f2 f3 c a b (a k)).1 (tl_va f1 f2 f3 c a b (b k)).1)).testBit q = true
        rw [tl_st_P2 h3 hmm, tl_o2_bit]
        constructor
        · intro ⟨p, hp, hh⟩
          have hx : 0 < tl_bt (f3 (16 * mm + p)) q := Nat.pos_of_ne_zero (fun z => by rw [z, Nat.zero_mul] at hh; omega)
          have hy : 0 < tl_ws f1 f2 f3 mm c a b (a k) (p % 4) := Nat.pos_of_ne_zero (fun z => by rw [z, Nat.zero_mul, Nat.mul_zero] at hh; omega)
          have hz : 0 < tl_ws f1 f2 f3 mm c a b (b k) (p / 4) := Nat.pos_of_ne_zero (fun z => by rw [z, Nat.mul_zero, Nat.mul_zero] at hh; omega)
          exact ⟨p, hp, ⟨(ih (a k) ha (by omega) _ (by omega)).mp hy, (ih (b k) hb (by omega) _ (by omega)).mp hz⟩, (tl_bt_pos _ _).mp hx⟩
        · intro ⟨p, hp, ⟨hx, hy⟩, hf⟩
          exact ⟨p, hp, Nat.mul_pos ((tl_bt_pos _ _).mpr hf) (Nat.mul_pos ((ih (a k) ha (by omega) _ (by omega)).mpr hx) ((ih (b k) hb (by omega) _ (by omega)).mpr hy))⟩
/-- how many runs there can be -/
theorem tl_ws_le {f1 f2 f3 c a b z : Nat → Nat} {mm m : Nat} (h : tl_K c a b m) (hm : m ≤ 12) (hz : ∀ k, k < m → 1 ≤ z k ∧ z k = (if c k < 2 then 1 else if c k = 2 then z (a k) + 1 else z (a k) + z (b k) + 1)) : ∀ k, k < m → ∀ q, tl_ws f1 f2 f3 mm c a b k q ≤ 4 ^ (z k - 1) := by
  intro k
  induction k using Nat.strongRecOn with
  | ind k ih =>
    intro hk q
    obtain ⟨k1, k2, k3⟩ := h k hk
    obtain ⟨z1, z2⟩ := hz k hk
    rw [tl_ws_eq h hm k hk]
    by_cases hc : c k < 2
    · rw [tl_wop_0 hc]
      exact Nat.le_trans (tl_bt_le _ _) (Nat.one_le_pow _ _ (by omega))
    · have ha := k2 (by omega)
      have za := (hz (a k) (by omega)).1
      rw [if_neg hc] at z2
      by_cases hc2 : c k = 2
      · rw [if_pos hc2] at z2
        rw [hc2, tl_wop_2]
        have e : 4 ^ (z k - 1) = 4 * 4 ^ (z (a k) - 1) := by
          rw [z2, show z (a k) + 1 - 1 = (z (a k) - 1) + 1 by omega, Nat.pow_succ, Nat.mul_comm]
        rw [e, ← tl_sg_const (4 ^ (z (a k) - 1)) 4]
        refine tl_sg_le 4 (fun p hp => ?_)
        exact Nat.le_trans (Nat.mul_le_mul (tl_bt_le _ _) (ih (a k) ha (by omega) p)) (by rw [Nat.one_mul]; exact Nat.le_refl _)
      · have hc3 : c k = 3 := by omega
        have hb := k3 hc3
        have zb := (hz (b k) (by omega)).1
        rw [if_neg hc2] at z2
        rw [hc3, tl_wop_3]
        have e : 4 ^ (z k - 1) = 16 * (4 ^ (z (a k) - 1) * 4 ^ (z (b k) - 1)) := by
          rw [z2, ← Nat.pow_add, show (16 : Nat) = 4 ^ 2 from rfl, ← Nat.pow_add]
          congr 1
          omega
        rw [e, ← tl_sg_const (4 ^ (z (a k) - 1) * 4 ^ (z (b k) - 1)) 16]
        refine tl_sg_le 16 (fun p hp => ?_)
        exact Nat.le_trans (Nat.mul_le_mul (tl_bt_le _ _) (Nat.mul_le_mul (ih (a k) ha (by omega) _) (ih (b k) hb (by omega) _))) (by rw [Nat.one_mul]; exact Nat.le_refl _)
end
section
/-! walks: tests of arguments, sets and pairs -/
theorem tw_badKind {post : Int32 → Prop} {v1 v2 v3 v4 v5 v6 v7 : Int32} {a1 a2 a3 a4 a5 a6 a7 a8 a9 a10 a11 a12 a13 a14 a15 a16 a17 a18 a19 a20 a21 : Nat → Int32} {x : Int32} {k : Nat} (hx : x = nI k) (hk : k < 7) (H : post 0) : wpX_badKind post (v1, v2, v3, v4, v5, v6, v7, a1, a2, a3, a4, a5, a6, a7, a8, a9, a10, a11, a12, a13, a14, a15, a16, a17, a18, a19, a20, a21) x := by
  subst hx
  exact br_f (nI_pos (by omega)) (br_t (nI_le (b := 6) (by omega) (by omega)) H)
theorem tw_badAutomaton {post : Int32 → Prop} {v1 v2 v3 v4 v5 v6 v7 : Int32} {a1 a2 a3 a4 a5 a6 a7 a8 a9 a10 a11 a12 a13 a14 a15 a16 a17 a18 a19 a20 a21 : Nat → Int32} {x : Int32} {k : Nat} (hx : x = nI k) (hk : k < 2) (H : post 0) : wpX_badAutomaton post (v1, v2, v3, v4, v5, v6, v7, a1, a2, a3, a4, a5, a6, a7, a8, a9, a10, a11, a12, a13, a14, a15, a16, a17, a18, a19, a20, a21) x := by
  subst hx
  exact br_f (nI_pos (by omega)) (br_t (nI_le (b := 1) (by omega) (by omega)) H)
theorem tw_badSet {post : Int32 → Prop} {v1 v2 v3 v4 v5 v6 v7 : Int32} {a1 a2 a3 a4 a5 a6 a7 a8 a9 a10 a11 a12 a13 a14 a15 a16 a17 a18 a19 a20 a21 : Nat → Int32} {x : Int32} {k : Nat} (hx : x = nI k) (hk : k < 16) (H : post 0) : wpX_badSet post (v1, v2, v3, v4, v5, v6, v7, a1, a2, a3, a4, a5, a6, a7, a8, a9, a10, a11, a12, a13, a14, a15, a16, a17, a18, a19, a20, a21) x := by
  subst hx
  exact br_f (nI_pos (by omega)) (br_t (nI_le (b := 15) (by omega) (by omega)) H)
theorem tw_overOne {post : Int32 → Prop} {v1 v2 v3 v4 v5 v6 v7 : Int32} {a1 a2 a3 a4 a5 a6 a7 a8 a9 a10 a11 a12 a13 a14 a15 a16 a17 a18 a19 a20 a21 : Nat → Int32} {x y : Int32} {m t : Nat} (hx : x = nI m) (hy : y = nI t) (hm : m < 2) (ht : t < 16) (h2 : tl_R a2 8 16)
    (H : post (nI (tl_o1 (tl_N a2) m t 4))) : wpX_overOne post (v1, v2, v3, v4, v5, v6, v7, a1, a2, a3, a4, a5, a6, a7, a8, a9, a10, a11, a12, a13, a14, a15, a16, a17, a18, a19, a20, a21) x y := by
  subst hx
  subst hy
  refine pk_loop (σ := Unit) (fun n i _ => wX_overOne_5 post (nI m) (nI t) v1 v2 v3 v4 v5 v6 v7 a1 a2 a3 a4 a5 a6 a7 a8 a9 a10 a11 a12 a13 a14 a15 a16 a17 a18 a19 a20 a21 n (nI (tl_o1 (tl_N a2) m t i)) (nI i)) (fun _ _ => True) 4 0 () (by omega) trivial
    (fun n _ _ => pk_le 4 4 (fun _ => H) (fun z => absurd z (by omega)))
    (fun n i _ hi _ hw => pk_le 4 i (fun z => absurd z (by omega)) (fun _ => ?_))
  have hw' : wX_overOne_5 post (nI m) (nI t) v1 v2 v3 v4 v5 v6 v7 a1 a2 a3 a4 a5 a6 a7 a8 a9 a10 a11 a12 a13 a14 a15 a16 a17 a18 a19 a20 a21 n (nI (tl_o1 (tl_N a2) m t (i + 1))) (nI (i + 1)) := hw () trivial
  refine ek_if (tl_bit t ht i hi) (fun z => ?_) (fun z => ?_)
  · rw [show tl_o1 (tl_N a2) m t (i + 1) = tl_o1 (tl_N a2) m t i ||| tl_N a2 (4 * m + i) from if_pos z] at hw'
    refine ⟨pk_in (4 * m + i) 8 (by omega) (tl_m4 m i), nm_r ?_ (nm_r (nI_1 i) hw')⟩
    rw [pk_cl (4 * m + i) (tl_m4 m i), (tl_R_at h2 (show 4 * m + i < 8 by omega)).1, tl_or _ (tl_o1_lt (tl_B_R h2) hm i (by omega)) _ (tl_R_at h2 (show 4 * m + i < 8 by omega)).2]
  · rw [show tl_o1 (tl_N a2) m t (i + 1) = tl_o1 (tl_N a2) m t i from if_neg z] at hw'
    exact nm_r (nI_1 i) hw'
theorem tw_overTwo {post : Int32 → Prop} {v1 v2 v3 v4 v5 v6 v7 : Int32} {a1 a2 a3 a4 a5 a6 a7 a8 a9 a10 a11 a12 a13 a14 a15 a16 a17 a18 a19 a20 a21 : Nat → Int32} {x y z : Int32} {m s t : Nat} (hx : x = nI m) (hy : y = nI s) (hz : z = nI t) (hm : m < 2) (hs : s < 16) (ht : t < 16) (h3 : tl_R a3 32 16)
    (H : post (nI (tl_o2 (tl_N a3) m s t 16))) : wpX_overTwo post (v1, v2, v3, v4, v5, v6, v7, a1, a2, a3, a4, a5, a6, a7, a8, a9, a10, a11, a12, a13, a14, a15, a16, a17, a18, a19, a20, a21) x y z := by
  subst hx
  subst hy
  subst hz
  refine pk_loop (σ := Unit) (fun n i _ => wX_overTwo_6 post (nI m) (nI s) (nI t) v1 v2 v3 v4 v5 v6 v7 a1 a2 a3 a4 a5 a6 a7 a8 a9 a10 a11 a12 a13 a14 a15 a16 a17 a18 a19 a20 a21 n (nI (tl_o2 (tl_N a3) m s t i)) (nI i)) (fun _ _ => True) 16 0 () (by omega) trivial
    (fun n _ _ => pk_le 16 16 (fun _ => H) (fun z => absurd z (by omega)))
    (fun n i _ hi _ hw => pk_le 16 i (fun z => absurd z (by omega)) (fun _ => ?_))
  have hw' : wX_overTwo_6 post (nI m) (nI s) (nI t) v1 v2 v3 v4 v5 v6 v7 a1 a2 a3 a4 a5 a6 a7 a8 a9 a10 a11 a12 a13 a14 a15 a16 a17 a18 a19 a20 a21 n (nI (tl_o2 (tl_N a3) m s t (i + 1))) (nI (i + 1)) := hw () trivial
  have c1 : ((nI s >>> ((nI i &&& 3) &&& 31)) &&& 1) = 1 ↔ s.testBit (i % 4) = true := by
    rw [tl_k3 (by omega)]
    exact tl_bit s hs _ (by omega)
  have c2 : ((nI t >>> ((nI i >>> ((2 : Int32) &&& 31)) &&& 31)) &&& 1) = 1 ↔ t.testBit (i / 4) = true := by
    rw [tl_k2 (by omega)]
    exact tl_bit t ht _ (by omega)
  have no : ¬ (s.testBit (i % 4) = true ∧ t.testBit (i / 4) = true) → wX_overTwo_42 post (wX_overTwo_6 post (nI m) (nI s) (nI t) v1 v2 v3 v4 v5 v6 v7 a1 a2 a3 a4 a5 a6 a7 a8 a9 a10 a11 a12 a13 a14 a15 a16 a17 a18 a19 a20 a21 n) (nI m) (nI s) (nI t) (nI (tl_o2 (tl_N a3) m s t i)) (nI i) 0 v1 v2 v3 v4 v5 v6 v7 a1 a2 a3 a4 a5 a6 a7 a8 a9 a10 a11 a12 a13 a14 a15 a16 a17 a18 a19 a20 a21 := by
    intro z
    rw [show tl_o2 (tl_N a3) m s t (i + 1) = tl_o2 (tl_N a3) m s t i from if_neg z] at hw'
    exact br_t rfl (nm_r (nI_1 i) hw')
  refine ek_if c1 (fun z1 => ek_if c2 (fun z2 => ?_) (fun z2 => no (fun z => z2 z.2))) (fun z1 => no (fun z => z1 z.1))
  rw [show tl_o2 (tl_N a3) m s t (i + 1) = tl_o2 (tl_N a3) m s t i ||| tl_N a3 (16 * m + i) from if_pos ⟨z1, z2⟩] at hw'
  refine br_f (by decide) ⟨pk_in (16 * m + i) 32 (by omega) (tl_m16 m i), nm_r ?_ (nm_r (nI_1 i) hw')⟩
  rw [pk_cl (16 * m + i) (tl_m16 m i), (tl_R_at h3 (show 16 * m + i < 32 by omega)).1, tl_or _ (tl_o2_lt (tl_B_R h3) hm i (by omega)) _ (tl_R_at h3 (show 16 * m + i < 32 by omega)).2]
theorem tw_onePair {post : Int32 → Prop} {v1 v2 v3 v4 v5 v6 v7 : Int32} {a1 a2 a3 a4 a5 a6 a7 a8 a9 a10 a11 a12 a13 a14 a15 a16 a17 a18 a19 a20 a21 : Nat → Int32} {y : Int32} {x : Nat} (hy : y = nI x) (hx : x < 256) (h2 : tl_R a2 8 16) (H : post (nI (tl_P1 (tl_N a2) x))) : wpX_onePair post (v1, v2, v3, v4, v5, v6, v7, a1, a2, a3, a4, a5, a6, a7, a8, a9, a10, a11, a12, a13, a14, a15, a16, a17, a18, a19, a20, a21) y := by
  subst hy
  unfold wpX_onePair
  refine tw_overOne (m := 0) rfl (tl_lo hx) (by omega) (by omega) h2 (tw_overOne (m := 1) rfl (tl_hi hx) (by omega) (by omega) h2 ?_)
  exact ek_v (P := post) (tl_pk _ (tl_o1_lt (tl_B_R h2) (by omega) 4 (by omega)) _ (tl_o1_lt (tl_B_R h2) (by omega) 4 (by omega))) H
theorem tw_twoPair {post : Int32 → Prop} {v1 v2 v3 v4 v5 v6 v7 : Int32} {a1 a2 a3 a4 a5 a6 a7 a8 a9 a10 a11 a12 a13 a14 a15 a16 a17 a18 a19 a20 a21 : Nat → Int32} {x' y' : Int32} {x y : Nat} (hx' : x' = nI x) (hy' : y' = nI y) (hx : x < 256) (hy : y < 256) (h3 : tl_R a3 32 16) (H : post (nI (tl_P2 (tl_N a3) x y))) : wpX_twoPair post (v1, v2, v3, v4, v5, v6, v7, a1, a2, a3, a4, a5, a6, a7, a8, a9, a10, a11, a12, a13, a14, a15, a16, a17, a18, a19, a20, a21) x' y' := by
  subst hx'
  subst hy'
  unfold wpX_twoPair
  refine tw_overTwo (m := 0) rfl (tl_lo hx) (tl_lo hy) (by omega) (by omega) (by omega) h3 (tw_overTwo (m := 1) rfl (tl_hi hx) (tl_hi hy) (by omega) (by omega) (by omega) h3 ?_)
  exact ek_v (P := post) (tl_pk _ (tl_o2_lt (tl_B_R h3) (by omega) 16 (by omega)) _ (tl_o2_lt (tl_B_R h3) (by omega) 16 (by omega))) H
theorem tw_leafPair {post : Int32 → Prop} {v1 v2 v3 v4 v5 v6 v7 : Int32} {a1 a2 a3 a4 a5 a6 a7 a8 a9 a10 a11 a12 a13 a14 a15 a16 a17 a18 a19 a20 a21 : Nat → Int32} {y : Int32} {l : Nat} (hy : y = nI l) (hl : l < 2) (h1 : tl_R a1 4 16) (H : post (nI (tl_P0 (tl_N a1) l))) : wpX_leafPair post (v1, v2, v3, v4, v5, v6, v7, a1, a2, a3, a4, a5, a6, a7, a8, a9, a10, a11, a12, a13, a14, a15, a16, a17, a18, a19, a20, a21) y := by
  subst hy
  have e2 : (2 : Int32) + nI l = nI (2 + l) := nI_add 2 l
  refine And.intro (pk_in l 4 (by omega)) (And.intro (pk_in (2 + l) 4 (by omega) e2) ?_)
  refine ek_v (P := post) ?_ H
  rw [nI_clamp (show l < 2 ^ 31 by omega), pk_cl (2 + l) e2, (tl_R_at h1 (show l < 4 by omega)).1, (tl_R_at h1 (show 2 + l < 4 by omega)).1]
  exact tl_pk _ (tl_R_at h1 (show l < 4 by omega)).2 _ (tl_R_at h1 (show 2 + l < 4 by omega)).2
end
section
/-! counting -/
def tl_cc (f1 f2 f3 : Nat → Nat) (s p : Nat) : Nat := tl_c (fun x => x.2.1) (tl_LL f1 f2 f3 s) p
theorem tl_cc_le (f1 f2 f3 : Nat → Nat) {s : Nat} (hs : s ≤ 7) (p : Nat) : tl_cc f1 f2 f3 s p ≤ 382 := Nat.le_trans (tl_c_le _ _ _) (tl_LL_382 f1 f2 f3 hs)
/-- the counts are known -/
def tl_CT (a1 a2 a3 a14 : Nat → Int32) : Prop := ∀ s, s ≤ 7 → ∀ p, p < 256 → a14 (256 * s + p) = nI (tl_cc (tl_N a1) (tl_N a2) (tl_N a3) s p)
/-- rows below n are known, row n is being added up, those above hold nothing -/
def tl_Row (f1 f2 f3 : Nat → Nat) (n : Nat) (acc : Nat → Nat) (a14 : Nat → Int32) : Prop := (∀ s, s < n → s ≤ 7 → ∀ p, p < 256 → a14 (256 * s + p) = nI (tl_cc f1 f2 f3 s p)) ∧ (n ≤ 7 → ∀ q, q < 256 → a14 (256 * n + q) = tl_sh (acc q)) ∧ (∀ s, n < s → s ≤ 7 → ∀ p, p < 256 → a14 (256 * s + p) = 0)
theorem tl_Row_congr {f1 f2 f3 : Nat → Nat} {n : Nat} {acc acc' : Nat → Nat} {a : Nat → Int32} (e : ∀ q, q < 256 → acc q = acc' q) (h : tl_Row f1 f2 f3 n acc a) : tl_Row f1 f2 f3 n acc' a :=
  ⟨h.1, fun hn q hq => by rw [← e q hq]; exact h.2.1 hn q hq, h.2.2⟩
theorem tl_Row_upd {f1 f2 f3 : Nat → Nat} {n : Nat} {acc : Nat → Nat} {a : Nat → Int32} (hn : n ≤ 7) (h : tl_Row f1 f2 f3 n acc a) {r y : Nat} {z : Int32} (hr : r < 256) (hz : z = tl_sh (acc r + y)) : tl_Row f1 f2 f3 n (fun q => acc q + (if r = q then y else 0)) (upd a (256 * n + r) z) := by
  refine ⟨fun s hs hs7 p hp => ?_, fun _ q hq => ?_, fun s hs hs7 p hp => ?_⟩
  · rw [pk_un (by omega)]
    exact h.1 s hs hs7 p hp
  · by_cases e : r = q
    · subst e
      show _ = tl_sh (acc r + (if r = r then y else 0))
      rw [pk_us, if_pos rfl]
      exact hz
    · show _ = tl_sh (acc q + (if r = q then y else 0))
      rw [pk_un (by omega), if_neg e, Nat.add_zero]
      exact h.2.1 hn q hq
  · rw [pk_un (by omega)]
    exact h.2.2 s hs hs7 p hp
theorem tl_Row_next {f1 f2 f3 : Nat → Nat} {n : Nat} {a : Nat → Int32} (h : tl_Row f1 f2 f3 n (tl_cc f1 f2 f3 n) a) : tl_Row f1 f2 f3 (n + 1) (fun _ => 0) a := by
  refine ⟨fun s hs hs7 p hp => ?_, fun hn q hq => ?_, fun s hs hs7 p hp => h.2.2 s (by omega) hs7 p hp⟩
  · by_cases e : s = n
    · subst e
      rw [h.2.1 hs7 p hp]
      exact tl_sh_v (by have := tl_cc_le f1 f2 f3 hs7 p; omega)
    · exact h.1 s (by omega) hs7 p hp
  · rw [tl_sh_0]
    exact h.2.2 (n + 1) (by omega) hn q hq
theorem tl_Row_CT {a1 a2 a3 a : Nat → Int32} {acc : Nat → Nat} (h : tl_Row (tl_N a1) (tl_N a2) (tl_N a3) 8 acc a) : tl_CT a1 a2 a3 a := fun s hs p hp => h.1 s (by omega) hs p hp
/-- what the first children of size i with pair one bring to the pair r at size n -/
def tl_t2 (f1 f2 f3 : Nat → Nat) (n i one r j : Nat) : Nat := tl_sg (fun o => if tl_P2 f3 one o = r then tl_cc f1 f2 f3 i one * tl_cc f1 f2 f3 (n - 1 - i) o else 0) j
def tl_t1 (f1 f2 f3 : Nat → Nat) (n r j : Nat) : Nat := tl_sg (fun p => if tl_P1 f2 p = r then tl_cc f1 f2 f3 (n - 1) p else 0) j
def tl_t3 (f1 f2 f3 : Nat → Nat) (n r j : Nat) : Nat := tl_sg (fun k => tl_t2 f1 f2 f3 n ((256 + k) / 256) ((256 + k) % 256) r 256) j
theorem tl_ite (a b x : Nat) : (if a = b then x else 0) = x * (if a = b then 1 else 0) := by
  split
  · rw [Nat.mul_one]
  · rfl
theorem tl_t2_s {f1 f2 f3 : Nat → Nat} (h1 : tl_B f1 4) (h2 : tl_B f2 8) (h3 : tl_B f3 32) {n i : Nat} (hn : n ≤ 7) (one r : Nat) : tl_t2 f1 f2 f3 n i one r 256 = tl_cc f1 f2 f3 i one * tl_sm (fun b => if tl_P2 f3 one b.2.1 = r then 1 else 0) (tl_LL f1 f2 f3 (n - 1 - i)) := by
  unfold tl_t2
  rw [tl_sg_congr (g := fun o => tl_cc f1 f2 f3 i one * (tl_cc f1 f2 f3 (n - 1 - i) o * (if tl_P2 f3 one o = r then 1 else 0))) 256 (fun o _ => by rw [tl_ite, Nat.mul_assoc]), tl_sg_mulL]
  congr 1
  exact tl_c_sum (fun x : List Nat × Nat × Nat × Nat => x.2.1) (fun p => if tl_P2 f3 one p = r then 1 else 0) _ (fun x hx => tl_LL_pair h1 h2 h3 (by omega) hx)
theorem tl_t3_s {f1 f2 f3 : Nat → Nat} (h1 : tl_B f1 4) (h2 : tl_B f2 8) (h3 : tl_B f3 32) {n i : Nat} (hn : n ≤ 7) (hi : i < n - 2) (r : Nat) : tl_sg (fun o => tl_t2 f1 f2 f3 n ((256 + (256 * i + o)) / 256) ((256 + (256 * i + o)) % 256) r 256) 256 = tl_sm (fun x => if x.2.1 = r then 1 else 0) ((tl_LL f1 f2 f3 (i + 1)).flatMap (fun a => (tl_LL f1 f2 f3 (n - 2 - i)).map (tl_l2 f3 a))) := by
  rw [tl_sm_fm]
  have e1 : tl_sm (fun a => tl_sm (fun x : List Nat × Nat × Nat × Nat => if x.2.1 = r then 1 else 0) ((tl_LL f1 f2 f3 (n - 2 - i)).map (tl_l2 f3 a))) (tl_LL f1 f2 f3 (i + 1)) = tl_sm (fun a => (fun one => tl_sm (fun b => if tl_P2 f3 one b.2.1 = r then 1 else 0) (tl_LL f1 f2 f3 (n - 2 - i))) a.2.1) (tl_LL f1 f2 f3 (i + 1)) := by
    refine tl_sm_congr _ (fun a _ => ?_)
    rw [tl_sm_map]
    rfl
  rw [e1, ← tl_c_sum (fun x : List Nat × Nat × Nat × Nat => x.2.1) (fun one => tl_sm (fun b => if tl_P2 f3 one b.2.1 = r then 1 else 0) (tl_LL f1 f2 f3 (n - 2 - i))) (tl_LL f1 f2 f3 (i + 1)) (n := 256) (fun x hx => tl_LL_pair h1 h2 h3 (by omega) hx)]
  refine tl_sg_congr _ (fun o ho => ?_)
  rw [show (256 + (256 * i + o)) / 256 = i + 1 by omega, show (256 + (256 * i + o)) % 256 = o by omega, tl_t2_s h1 h2 h3 hn, show n - 1 - (i + 1) = n - 2 - i by omega]
  rfl
theorem tl_cc_s {f1 f2 f3 : Nat → Nat} (h1 : tl_B f1 4) (h2 : tl_B f2 8) (h3 : tl_B f3 32) {n : Nat} (hn2 : 2 ≤ n) (hn : n ≤ 7) (r : Nat) : tl_t1 f1 f2 f3 n r 256 + tl_t3 f1 f2 f3 n r (256 * (n - 2)) = tl_cc f1 f2 f3 n r := by
  unfold tl_cc
  rw [tl_LL_s f1 f2 f3 hn2 hn, tl_c_app]
  congr 1
  · unfold tl_t1 tl_cc
    rw [tl_sg_congr (g := fun p => tl_c (fun x => x.2.1) (tl_LL f1 f2 f3 (n - 1)) p * (if tl_P1 f2 p = r then 1 else 0)) 256 (fun i _ => tl_ite _ _ _), tl_c_sum (fun x : List Nat × Nat × Nat × Nat => x.2.1) (fun p => if tl_P1 f2 p = r then 1 else 0) _ (fun x hx => tl_LL_pair h1 h2 h3 (by omega) hx)]
    unfold tl_c
    rw [tl_sm_map]
    rfl
  · unfold tl_t3 tl_c
    rw [tl_sm_fm, tl_sm_range, tl_sg_blk]
    exact tl_sg_congr _ (fun i hi => tl_t3_s h1 h2 h3 hn hi r)
theorem tl_cc_1 {f1 f2 f3 : Nat → Nat} (r : Nat) : tl_sg (fun l => if tl_P0 f1 l = r then 1 else 0) 2 = tl_cc f1 f2 f3 1 r := by
  show 0 + (if tl_P0 f1 0 = r then 1 else 0) + (if tl_P0 f1 1 = r then 1 else 0) = (if tl_P0 f1 0 = r then 1 else 0) + ((if tl_P0 f1 1 = r then 1 else 0) + 0)
  omega
/-- counts with two children: one pair of the first child -/
theorem tw_cwt {post : St1 → Prop} {v1 v2 v3 v4 v5 v6 v7 : Int32} {a1 a2 a3 a4 a5 a6 a7 a8 a9 a10 a11 a12 a13 a14 a15 a16 a17 a18 a19 a20 a21 : Nat → Int32} {x y z : Int32} {n i one : Nat} {acc : Nat → Nat} (hx : x = nI n) (hy : y = nI i) (hz : z = nI one) (hn : n ≤ 7) (hi1 : 1 ≤ i) (hi : i + 2 ≤ n) (ho : one < 256) (h3 : tl_R a3 32 16)
    (h : tl_Row (tl_N a1) (tl_N a2) (tl_N a3) n acc a14)
    (H : ∀ s, tl_Row (tl_N a1) (tl_N a2) (tl_N a3) n (fun r => acc r + tl_t2 (tl_N a1) (tl_N a2) (tl_N a3) n i one r 256) s → post (v1, v2, v3, v4, v5, v6, v7, a1, a2, a3, a4, a5, a6, a7, a8, a9, a10, a11, a12, a13, s, a15, a16, a17, a18, a19, a20, a21)) : wpX_countWithTwo post (v1, v2, v3, v4, v5, v6, v7, a1, a2, a3, a4, a5, a6, a7, a8, a9, a10, a11, a12, a13, a14, a15, a16, a17, a18, a19, a20, a21) x y z := by
  subst hx
  subst hy
  subst hz
  have ix : (256 : Int32) * nI i + nI one = nI (256 * i + one) := tl_m256 i one
  refine And.intro (pk_in (256 * i + one) 2048 (by omega) ix) (nm_r (e' := nI (tl_cc (tl_N a1) (tl_N a2) (tl_N a3) i one)) ?_ ?_)
  · rw [pk_cl (256 * i + one) ix]
    exact h.1 i (by omega) (by omega) one ho
  refine pk_loop (fun n' j s => wX_countWithTwo_17 post (nI n) (nI i) (nI one) (nI (tl_cc (tl_N a1) (tl_N a2) (tl_N a3) i one)) v1 v2 v3 v4 v5 v6 v7 n' (nI j) a1 a2 a3 a4 a5 a6 a7 a8 a9 a10 a11 a12 a13 s a15 a16 a17 a18 a19 a20 a21) (fun j s => tl_Row (tl_N a1) (tl_N a2) (tl_N a3) n (fun r => acc r + tl_t2 (tl_N a1) (tl_N a2) (tl_N a3) n i one r j) s) 256 0 a14 (by omega) (tl_Row_congr (fun q _ => rfl) h)
    (fun n' s hs => pk_le 256 256 (fun _ => H s hs) (fun z => absurd z (by omega)))
    (fun n' j s hj hs hw => pk_le 256 j (fun z => absurd z (by omega)) (fun _ => ?_))
  have e1 : nI n - 1 - nI i = nI (n - 1 - i) := by rw [tl_s1 (by omega), pk_sub (by omega)]
  have e2 : (256 : Int32) * (nI n - 1 - nI i) + nI j = nI (256 * (n - 1 - i) + j) := by rw [e1, tl_m256]
  have b1 := tl_cc_le (tl_N a1) (tl_N a2) (tl_N a3) (show i ≤ 7 by omega) one
  have b2 := tl_cc_le (tl_N a1) (tl_N a2) (tl_N a3) (show n - 1 - i ≤ 7 by omega) j
  have b3 := Nat.mul_le_mul b1 b2
  refine And.intro (pk_in (256 * (n - 1 - i) + j) 2048 (by omega) e2) (nm_r (e' := nI (tl_cc (tl_N a1) (tl_N a2) (tl_N a3) i one * tl_cc (tl_N a1) (tl_N a2) (tl_N a3) (n - 1 - i) j)) ?_ ?_)
  · rw [pk_cl (256 * (n - 1 - i) + j) e2, hs.1 (n - 1 - i) (by omega) (by omega) j hj, pk_mul]
  refine pk_le (tl_cc (tl_N a1) (tl_N a2) (tl_N a3) i one * tl_cc (tl_N a1) (tl_N a2) (tl_N a3) (n - 1 - i) j) 0 (fun z => ?_) (fun z => ?_)
  · refine nm_r (nI_1 j) (hw s (tl_Row_congr (fun q _ => ?_) hs))
    show acc q + tl_t2 (tl_N a1) (tl_N a2) (tl_N a3) n i one q j = acc q + (tl_t2 (tl_N a1) (tl_N a2) (tl_N a3) n i one q j + (if tl_P2 (tl_N a3) one j = q then tl_cc (tl_N a1) (tl_N a2) (tl_N a3) i one * tl_cc (tl_N a1) (tl_N a2) (tl_N a3) (n - 1 - i) j else 0))
    rw [Nat.le_zero.mp z]
    split <;> omega
  · have hp := tl_P2_lt (tl_B_R h3) one j
    have e3 := tl_m256 n (tl_P2 (tl_N a3) one j)
    refine tw_twoPair rfl rfl ho hj h3 (And.intro (pk_in (256 * n + tl_P2 (tl_N a3) one j) 2048 (by omega) e3) (And.intro (pk_in (256 * n + tl_P2 (tl_N a3) one j) 2048 (by omega) e3) (nm_e (nm_r (nI_1 j) (hw _ ?_)))))
    rw [pk_cl (256 * n + tl_P2 (tl_N a3) one j) e3]
    refine tl_Row_congr (fun q _ => Nat.add_assoc _ _ _) (tl_Row_upd hn hs hp (y := tl_cc (tl_N a1) (tl_N a2) (tl_N a3) i one * tl_cc (tl_N a1) (tl_N a2) (tl_N a3) (n - 1 - i) j) ?_)
    rw [hs.2.1 hn _ hp]
    exact tl_sh_add _ _
theorem tw_countSize {post : St1 → Prop} {v1 v2 v3 v4 v5 v6 v7 : Int32} {a1 a2 a3 a4 a5 a6 a7 a8 a9 a10 a11 a12 a13 a14 a15 a16 a17 a18 a19 a20 a21 : Nat → Int32} {x : Int32} {n : Nat} (hx : x = nI n) (hn2 : 2 ≤ n) (hn : n ≤ 7) (h1 : tl_R a1 4 16) (h2 : tl_R a2 8 16) (h3 : tl_R a3 32 16)
    (h : tl_Row (tl_N a1) (tl_N a2) (tl_N a3) n (fun _ => 0) a14)
    (H : ∀ s, tl_Row (tl_N a1) (tl_N a2) (tl_N a3) (n + 1) (fun _ => 0) s → post (v1, v2, v3, v4, v5, v6, v7, a1, a2, a3, a4, a5, a6, a7, a8, a9, a10, a11, a12, a13, s, a15, a16, a17, a18, a19, a20, a21)) : wpX_countSize post (v1, v2, v3, v4, v5, v6, v7, a1, a2, a3, a4, a5, a6, a7, a8, a9, a10, a11, a12, a13, a14, a15, a16, a17, a18, a19, a20, a21) x := by
  subst hx
  have e1 : nI n - 1 = nI (n - 1) := tl_s1 (by omega)
  refine pk_loop (fun n' j s => wX_countSize_2 post (nI n) v1 v2 v3 v4 v5 v6 v7 n' (nI j) a1 a2 a3 a4 a5 a6 a7 a8 a9 a10 a11 a12 a13 s a15 a16 a17 a18 a19 a20 a21) (fun j s => tl_Row (tl_N a1) (tl_N a2) (tl_N a3) n (fun r => tl_t1 (tl_N a1) (tl_N a2) (tl_N a3) n r j) s) 256 0 a14 (by omega) h
    (fun n' s hs => pk_le 256 256 (fun _ => ?_) (fun z => absurd z (by omega)))
    (fun n' j s hj hs hw => pk_le 256 j (fun z => absurd z (by omega)) (fun _ => ?_))
  · have e2 : (256 : Int32) * (nI n - 1) = nI (256 * (n - 1)) := by
      rw [e1]
      exact pk_mul 256 (n - 1)
    refine pk_loop (fun n' k s => wX_countSize_64 post (nI n) n' (nI k) v1 v2 v3 v4 v5 v6 v7 a1 a2 a3 a4 a5 a6 a7 a8 a9 a10 a11 a12 a13 s a15 a16 a17 a18 a19 a20 a21) (fun k s => 256 ≤ k ∧ tl_Row (tl_N a1) (tl_N a2) (tl_N a3) n (fun r => tl_t1 (tl_N a1) (tl_N a2) (tl_N a3) n r 256 + tl_t3 (tl_N a1) (tl_N a2) (tl_N a3) n r (k - 256)) s) (256 * (n - 1)) 256 s (by omega) ⟨Nat.le_refl _, hs⟩
      (fun n' s hs => pk_le (256 * (n - 1)) (256 * (n - 1)) (fun _ => H s (tl_Row_next (tl_Row_congr (fun q _ => ?_) hs.2))) (fun z => absurd z (by omega)) e2)
      (fun n' k s hk hs hw => pk_le (256 * (n - 1)) k (fun z => absurd z (by omega)) (fun _ => ?_) e2)
    · rw [show 256 * (n - 1) - 256 = 256 * (n - 2) by omega]
      exact tl_cc_s (tl_B_R h1) (tl_B_R h2) (tl_B_R h3) hn2 hn q
    · obtain ⟨hk2, hs⟩ := hs
      have hv : s k = nI (tl_cc (tl_N a1) (tl_N a2) (tl_N a3) (k / 256) (k % 256)) := by
        have := hs.1 (k / 256) (by omega) (by omega) (k % 256) (by omega)
        rw [show 256 * (k / 256) + k % 256 = k by omega] at this
        exact this
      have b1 := tl_cc_le (tl_N a1) (tl_N a2) (tl_N a3) (show k / 256 ≤ 7 by omega) (k % 256)
      refine And.intro (pk_in k 2048 (by omega)) (pk_le (tl_cc (tl_N a1) (tl_N a2) (tl_N a3) (k / 256) (k % 256)) 0 (fun z => ?_) (fun z => ?_) (by rw [nI_clamp (by omega)]; exact hv))
      · refine nm_r (nI_1 k) (hw s ⟨by omega, tl_Row_congr (fun q _ => ?_) hs⟩)
        rw [show k + 1 - 256 = (k - 256) + 1 by omega]
        show tl_t1 (tl_N a1) (tl_N a2) (tl_N a3) n q 256 + tl_t3 (tl_N a1) (tl_N a2) (tl_N a3) n q (k - 256) = tl_t1 (tl_N a1) (tl_N a2) (tl_N a3) n q 256 + (tl_t3 (tl_N a1) (tl_N a2) (tl_N a3) n q (k - 256) + tl_t2 (tl_N a1) (tl_N a2) (tl_N a3) n ((256 + (k - 256)) / 256) ((256 + (k - 256)) % 256) q 256)
        rw [show 256 + (k - 256) = k by omega, tl_t2_s (tl_B_R h1) (tl_B_R h2) (tl_B_R h3) hn, Nat.le_zero.mp z, Nat.zero_mul]
        omega
      · refine And.intro (by decide) (And.intro (by decide) (tw_cwt rfl (pk_div (d := 256) (by omega) (by omega) (by omega)) (pk_rem (d := 256) (by omega) (by omega) (by omega)) hn (by omega) (by omega) (by omega) h3 hs (fun s' hs' => nm_r (nI_1 k) (hw s' ⟨by omega, tl_Row_congr (fun q _ => ?_) hs'⟩))))
        rw [show k + 1 - 256 = (k - 256) + 1 by omega]
        show tl_t1 (tl_N a1) (tl_N a2) (tl_N a3) n q 256 + tl_t3 (tl_N a1) (tl_N a2) (tl_N a3) n q (k - 256) + tl_t2 (tl_N a1) (tl_N a2) (tl_N a3) n (k / 256) (k % 256) q 256 = tl_t1 (tl_N a1) (tl_N a2) (tl_N a3) n q 256 + (tl_t3 (tl_N a1) (tl_N a2) (tl_N a3) n q (k - 256) + tl_t2 (tl_N a1) (tl_N a2) (tl_N a3) n ((256 + (k - 256)) / 256) ((256 + (k - 256)) % 256) q 256)
        rw [show 256 + (k - 256) = k by omega]
        omega
  · have e2 : (256 : Int32) * (nI n - 1) + nI j = nI (256 * (n - 1) + j) := by rw [e1, tl_m256]
    have b2 := tl_cc_le (tl_N a1) (tl_N a2) (tl_N a3) (show n - 1 ≤ 7 by omega) j
    refine And.intro (pk_in (256 * (n - 1) + j) 2048 (by omega) e2) (nm_r (e' := nI (tl_cc (tl_N a1) (tl_N a2) (tl_N a3) (n - 1) j)) ?_ ?_)
    · rw [pk_cl (256 * (n - 1) + j) e2, hs.1 (n - 1) (by omega) (by omega) j hj]
    refine pk_le (tl_cc (tl_N a1) (tl_N a2) (tl_N a3) (n - 1) j) 0 (fun z => ?_) (fun z => ?_)
    · refine nm_r (nI_1 j) (hw s (tl_Row_congr (fun q _ => ?_) hs))
      show tl_t1 (tl_N a1) (tl_N a2) (tl_N a3) n q j = tl_t1 (tl_N a1) (tl_N a2) (tl_N a3) n q j + (if tl_P1 (tl_N a2) j = q then tl_cc (tl_N a1) (tl_N a2) (tl_N a3) (n - 1) j else 0)
      rw [Nat.le_zero.mp z]
      split <;> omega
    · have hp := tl_P1_lt (tl_B_R h2) j
      have e3 := tl_m256 n (tl_P1 (tl_N a2) j)
      refine tw_onePair rfl hj h2 (And.intro (pk_in (256 * n + tl_P1 (tl_N a2) j) 2048 (by omega) e3) (And.intro (pk_in (256 * n + tl_P1 (tl_N a2) j) 2048 (by omega) e3) (nm_e (nm_r (nI_1 j) (hw _ ?_)))))
      rw [pk_cl (256 * n + tl_P1 (tl_N a2) j) e3]
      refine tl_Row_congr (fun q _ => rfl) (tl_Row_upd hn hs hp (y := tl_cc (tl_N a1) (tl_N a2) (tl_N a3) (n - 1) j) ?_)
      rw [hs.2.1 hn _ hp]
      exact tl_sh_add _ _
theorem tw_find {post : St1 → Prop} {v1 v2 v3 v4 v5 v6 v7 : Int32} {a1 a2 a3 a4 a5 a6 a7 a8 a9 a10 a11 a12 a13 a14 a15 a16 a17 a18 a19 a20 a21 : Nat → Int32} (h1 : tl_R a1 4 16) (h2 : tl_R a2 8 16) (h3 : tl_R a3 32 16) (hk : v3 = 0 ∨ (v3 = 1 ∧ tl_CT a1 a2 a3 a14))
    (H : ∀ s, tl_CT a1 a2 a3 s → post (v1, v2, 1, v4, v5, v6, v7, a1, a2, a3, a4, a5, a6, a7, a8, a9, a10, a11, a12, a13, s, a15, a16, a17, a18, a19, a20, a21)) : wpX_find post (v1, v2, v3, v4, v5, v6, v7, a1, a2, a3, a4, a5, a6, a7, a8, a9, a10, a11, a12, a13, a14, a15, a16, a17, a18, a19, a20, a21) := by
  rcases hk with hk | ⟨hk, hc⟩
  · refine br_t hk ?_
    refine pk_loop (fun n' j s => wX_find_15 post v1 v2 1 v4 v5 v6 v7 n' (nI j) a1 a2 a3 a4 a5 a6 a7 a8 a9 a10 a11 a12 a13 s a15 a16 a17 a18 a19 a20 a21) (fun j s => ∀ i, i < j → s i = 0) 2048 0 a14 (by omega) (fun i hi => absurd hi (by omega))
      (fun n' s hs => pk_le 2048 2048 (fun _ => ?_) (fun z => absurd z (by omega)))
      (fun n' j s hj hs hw => pk_le 2048 j (fun z => absurd z (by omega)) (fun _ => And.intro (pk_in j 2048 hj) (nm_e (nm_r (nI_1 j) (hw _ (fun i hi => ?_))))))
    · have r0 : tl_Row (tl_N a1) (tl_N a2) (tl_N a3) 1 (fun _ => 0) s := by
        refine ⟨fun t ht _ p hp => ?_, fun _ q hq => ?_, fun t ht ht7 p hp => hs _ (by omega)⟩
        · have e : t = 0 := by omega
          subst e
          rw [hs _ (by omega)]
          rfl
        · rw [tl_sh_0]
          exact hs _ (by omega)
      refine pk_loop (fun n' l s => wX_find_37 post v1 v2 1 v4 v5 v6 v7 n' (nI l) a1 a2 a3 a4 a5 a6 a7 a8 a9 a10 a11 a12 a13 s a15 a16 a17 a18 a19 a20 a21) (fun l s => tl_Row (tl_N a1) (tl_N a2) (tl_N a3) 1 (fun r => tl_sg (fun l => if tl_P0 (tl_N a1) l = r then 1 else 0) l) s) 2 0 s (by omega) r0
        (fun n' s hs => pk_le 2 2 (fun _ => ?_) (fun z => absurd z (by omega)))
        (fun n' l s hl hs hw => pk_le 2 l (fun z => absurd z (by omega)) (fun _ => ?_))
      · have r1 : tl_Row (tl_N a1) (tl_N a2) (tl_N a3) 2 (fun _ => 0) s := tl_Row_next (tl_Row_congr (fun q _ => tl_cc_1 q) hs)
        exact pk_loop (fun n' n s => wX_find_71 post n' (nI n) v1 v2 1 v4 v5 v6 v7 a1 a2 a3 a4 a5 a6 a7 a8 a9 a10 a11 a12 a13 s a15 a16 a17 a18 a19 a20 a21) (fun n s => 2 ≤ n ∧ tl_Row (tl_N a1) (tl_N a2) (tl_N a3) n (fun _ => 0) s) 8 2 s (by omega) ⟨Nat.le_refl _, r1⟩
          (fun n' s hs => pk_lt 7 8 (fun _ => H s (tl_Row_CT hs.2)) (fun z => absurd z (by omega)))
          (fun n' n s hn hs hw => pk_lt 7 n (fun z => absurd z (by omega)) (fun _ => tw_countSize rfl hs.1 (by omega) h1 h2 h3 hs.2 (fun s' hs' => nm_r (nI_1 n) (hw s' ⟨by omega, hs'⟩))))
      · have hp := tl_P0_lt (tl_B_R h1) hl
        have e3 : (256 : Int32) + nI (tl_P0 (tl_N a1) l) = nI (256 * 1 + tl_P0 (tl_N a1) l) := nI_add 256 _
        refine tw_leafPair rfl hl h1 (And.intro (pk_in (256 * 1 + tl_P0 (tl_N a1) l) 2048 (by omega) e3) (And.intro (pk_in (256 * 1 + tl_P0 (tl_N a1) l) 2048 (by omega) e3) (nm_e (nm_r (nI_1 l) (hw _ ?_)))))
        rw [pk_cl (256 * 1 + tl_P0 (tl_N a1) l) e3]
        refine tl_Row_congr (fun q _ => rfl) (tl_Row_upd (by omega) hs hp (y := 1) ?_)
        rw [hs.2.1 (by omega) _ hp]
        exact tl_sh_1 _
    · by_cases e : i = j
      · rw [e, nI_clamp (by omega), pk_us]
      · rw [pk_un (by rw [nI_clamp (by omega)]; exact e)]
        exact hs i (by omega)
  · subst hk
    exact br_f (by decide) (H a14 hc)
end
section
/-! which pairs a kind takes; counts -/
def tl_is (e0 e1 k p : Nat) : Bool :=
  let a := (p % 16 &&& e0) != 0
  let b := (p / 16 &&& e1) != 0
  match k with
  | 0 => a
  | 1 => b
  | 2 => a && b
  | 3 => a || b
  | 4 => a && !b
  | 5 => !a && !b
  | _ => true
def tl_in (e0 e1 k p : Nat) : Nat := if tl_is e0 e1 k p = true then 1 else 0
def tl_ik (k x z : Nat) : Nat :=
  match k with
  | 0 => x
  | 1 => z
  | 2 => if x = 0 then 0 else if z = 0 then 0 else 1
  | 3 => if x = 0 then (if z = 0 then 0 else 1) else 1
  | 4 => if x = 0 then 0 else if z = 0 then 1 else 0
  | 5 => if x = 0 then (if z = 0 then 1 else 0) else 0
  | _ => 1
theorem tl_in_ik {e0 e1 k p x z : Nat} (hx : x = if p % 16 &&& e0 = 0 then 0 else 1) (hz : z = if p / 16 &&& e1 = 0 then 0 else 1) : tl_in e0 e1 k p = tl_ik k x z := by
  subst hx
  subst hz
  unfold tl_in tl_is tl_ik
  by_cases ha : p % 16 &&& e0 = 0 <;> by_cases hb : p / 16 &&& e1 = 0 <;> (rw [show ((p % 16 &&& e0) != 0) = _ from rfl]; match k with
    | 0 => simp [ha, hb]
    | 1 => simp [ha, hb]
    | 2 => simp [ha, hb]
    | 3 => simp [ha, hb]
    | 4 => simp [ha, hb]
    | 5 => simp [ha, hb]
    | (k + 6) => simp [ha, hb])
theorem tw_is38 {post : Int32 → Prop} {v1 v2 v3 v4 v5 v6 v7 : Int32} {a1 a2 a3 a4 a5 a6 a7 a8 a9 a10 a11 a12 a13 a14 a15 a16 a17 a18 a19 a20 a21 : Nat → Int32} : ∀ k, k < 7 → ∀ x, x < 2 → ∀ z, z < 2 → post (nI (tl_ik k x z)) → wX_isOf_38 post (nI k) (nI x) (nI z) v1 v2 v3 v4 v5 v6 v7 a1 a2 a3 a4 a5 a6 a7 a8 a9 a10 a11 a12 a13 a14 a15 a16 a17 a18 a19 a20 a21 := by
  intro k hk x hx z hz H
  unfold wX_isOf_38
  match k, hk, x, hx, z, hz, H with
  | 0, _, 0, _, 0, _, H => repeat (first | exact H | refine br_t (by decide) ?_ | refine br_f (by decide) ?_ | refine And.intro (by rfl) ?_)
  | 0, _, 0, _, 1, _, H => repeat (first | exact H | refine br_t (by decide) ?_ | refine br_f (by decide) ?_ | refine And.intro (by rfl) ?_)
  | 0, _, 1, _, 0, _, H => repeat (first | exact H | refine br_t (by decide) ?_ | refine br_f (by decide) ?_ | refine And.intro (by rfl) ?_)
  | 0, _, 1, _, 1, _, H => repeat (first | exact H | refine br_t (by decide) ?_ | refine br_f (by decide) ?_ | refine And.intro (by rfl) ?_)
  | 1, _, 0, _, 0, _, H => repeat (first | exact H | refine br_t (by decide) ?_ | refine br_f (by decide) ?_ | refine And.intro (by rfl) ?_)
  | 1, _, 0, _, 1, _, H => repeat (first | exact H | refine br_t (by decide) ?_ | refine br_f (by decide) ?_ | refine And.intro (by rfl) ?_)
  | 1, _, 1, _, 0, _, H => repeat (first | exact H | refine br_t (by decide) ?_ | refine br_f (by decide) ?_ | refine And.intro (by rfl) ?_)
  | 1, _, 1, _, 1, _, H => repeat (first | exact H | refine br_t (by decide) ?_ | refine br_f (by decide) ?_ | refine And.intro (by rfl) ?_)
  | 2, _, 0, _, 0, _, H => repeat (first | exact H | refine br_t (by decide) ?_ | refine br_f (by decide) ?_ | refine And.intro (by rfl) ?_)
  | 2, _, 0, _, 1, _, H => repeat (first | exact H | refine br_t (by decide) ?_ | refine br_f (by decide) ?_ | refine And.intro (by rfl) ?_)
  | 2, _, 1, _, 0, _, H => repeat (first | exact H | refine br_t (by decide) ?_ | refine br_f (by decide) ?_ | refine And.intro (by rfl) ?_)
  | 2, _, 1, _, 1, _, H => repeat (first | exact H | refine br_t (by decide) ?_ | refine br_f (by decide) ?_ | refine And.intro (by rfl) ?_)
  | 3, _, 0, _, 0, _, H => repeat (first | exact H | refine br_t (by decide) ?_ | refine br_f (by decide) ?_ | refine And.intro (by rfl) ?_)
  | 3, _, 0, _, 1, _, H => repeat (first | exact H | refine br_t (by decide) ?_ | refine br_f (by decide) ?_ | refine And.intro (by rfl) ?_)
  | 3, _, 1, _, 0, _, H => repeat (first | exact H | refine br_t (by decide) ?_ | refine br_f (by decide) ?_ | refine And.intro (by rfl) ?_)
  | 3, _, 1, _, 1, _, H => repeat (first | exact H | refine br_t (by decide) ?_ | refine br_f (by decide) ?_ | refine And.intro (by rfl) ?_)
  | 4, _, 0, _, 0, _, H => repeat (first | exact H | refine br_t (by decide) ?_ | refine br_f (by decide) ?_ | refine And.intro (by rfl) ?_)
  | 4, _, 0, _, 1, _, H => repeat (first | exact H | refine br_t (by decide) ?_ | refine br_f (by decide) ?_ | refine And.intro (by rfl) ?_)
  | 4, _, 1, _, 0, _, H => repeat (first | exact H | refine br_t (by decide) ?_ | refine br_f (by decide) ?_ | refine And.intro (by rfl) ?_)
  | 4, _, 1, _, 1, _, H => repeat (first | exact H | refine br_t (by decide) ?_ | refine br_f (by decide) ?_ | refine And.intro (by rfl) ?_)
  | 5, _, 0, _, 0, _, H => repeat (first | exact H | refine br_t (by decide) ?_ | refine br_f (by decide) ?_ | refine And.intro (by rfl) ?_)
  | 5, _, 0, _, 1, _, H => repeat (first | exact H | refine br_t (by decide) ?_ | refine br_f (by decide) ?_ | refine And.intro (by rfl) ?_)
  | 5, _, 1, _, 0, _, H => repeat (first | exact H | refine br_t (by decide) ?_ | refine br_f (by decide) ?_ | refine And.intro (by rfl) ?_)
  | 5, _, 1, _, 1, _, H => repeat (first | exact H | refine br_t (by decide) ?_ | refine br_f (by decide) ?_ | refine And.intro (by rfl) ?_)
  | 6, _, 0, _, 0, _, H => repeat (first | exact H | refine br_t (by decide) ?_ | refine br_f (by decide) ?_ | refine And.intro (by rfl) ?_)
  | 6, _, 0, _, 1, _, H => repeat (first | exact H | refine br_t (by decide) ?_ | refine br_f (by decide) ?_ | refine And.intro (by rfl) ?_)
  | 6, _, 1, _, 0, _, H => repeat (first | exact H | refine br_t (by decide) ?_ | refine br_f (by decide) ?_ | refine And.intro (by rfl) ?_)
  | 6, _, 1, _, 1, _, H => repeat (first | exact H | refine br_t (by decide) ?_ | refine br_f (by decide) ?_ | refine And.intro (by rfl) ?_)
theorem tw_is19 {post : Int32 → Prop} {v1 v2 v3 v4 v5 v6 v7 : Int32} {a1 a2 a3 a4 a5 a6 a7 a8 a9 a10 a11 a12 a13 a14 a15 a16 a17 a18 a19 a20 a21 : Nat → Int32} {k p e0 e1 x : Nat} (hk : k < 7) (hp : p < 256) (h1 : a4 1 = nI e1) (hb1 : e1 < 16) (hx : x = if p % 16 &&& e0 = 0 then 0 else 1) (H : post (nI (tl_in e0 e1 k p))) : wX_isOf_19 post (nI k) (nI p) (nI x) v1 v2 v3 v4 v5 v6 v7 a1 a2 a3 a4 a5 a6 a7 a8 a9 a10 a11 a12 a13 a14 a15 a16 a17 a18 a19 a20 a21 := by
  have c : (nI p >>> ((4 : Int32) &&& 31)) &&& (a4 1) = 0 ↔ p / 16 &&& e1 = 0 := by
    rw [tl_hi hp, h1]
    exact tl_and' _ (by omega) _ hb1
  have x2 : x < 2 := by rw [hx]; split <;> omega
  refine ek_if c (fun z => tw_is38 k hk x x2 0 (by omega) ?_) (fun z => tw_is38 k hk x x2 1 (by omega) ?_)
  · rw [← tl_in_ik hx (if_pos z).symm]
    exact H
  · rw [← tl_in_ik hx (if_neg z).symm]
    exact H
theorem tw_isOf {post : Int32 → Prop} {v1 v2 v3 v4 v5 v6 v7 : Int32} {a1 a2 a3 a4 a5 a6 a7 a8 a9 a10 a11 a12 a13 a14 a15 a16 a17 a18 a19 a20 a21 : Nat → Int32} {x y : Int32} {k p e0 e1 : Nat} (hx : x = nI k) (hy : y = nI p) (hk : k < 7) (hp : p < 256) (h0 : a4 0 = nI e0) (h1 : a4 1 = nI e1) (hb0 : e0 < 16) (hb1 : e1 < 16) (H : post (nI (tl_in e0 e1 k p))) : wpX_isOf post (v1, v2, v3, v4, v5, v6, v7, a1, a2, a3, a4, a5, a6, a7, a8, a9, a10, a11, a12, a13, a14, a15, a16, a17, a18, a19, a20, a21) x y := by
  subst hx
  subst hy
  have c : (nI p &&& 15) &&& (a4 0) = 0 ↔ p % 16 &&& e0 = 0 := by
    rw [tl_lo hp, h0]
    exact tl_and' _ (by omega) _ hb0
  exact ek_if c (fun z => tw_is19 (x := 0) hk hp h1 hb1 (if_pos z).symm H) (fun z => tw_is19 (x := 1) hk hp h1 hb1 (if_neg z).symm H)
/-- how many trees of size n there are of kind k -/
def tl_cn (f1 f2 f3 : Nat → Nat) (e0 e1 k n : Nat) : Nat := tl_sm (fun x => tl_in e0 e1 k x.2.1) (tl_LL f1 f2 f3 n)
theorem tl_in_le (e0 e1 k p : Nat) : tl_in e0 e1 k p ≤ 1 := by unfold tl_in; split <;> omega
theorem tl_cn_le (f1 f2 f3 : Nat → Nat) (e0 e1 k : Nat) {n : Nat} (hn : n ≤ 7) : tl_cn f1 f2 f3 e0 e1 k n ≤ 382 := Nat.le_trans (tl_sm_le1 _ (fun x => tl_in_le _ _ _ _)) (tl_LL_382 f1 f2 f3 hn)
theorem tw_countOf {post : Int32 → Prop} {v1 v2 v3 v4 v5 v6 v7 : Int32} {a1 a2 a3 a4 a5 a6 a7 a8 a9 a10 a11 a12 a13 a14 a15 a16 a17 a18 a19 a20 a21 : Nat → Int32} {x y : Int32} {k n e0 e1 : Nat} (hx : x = nI k) (hy : y = nI n) (hk : k < 7) (hn : n ≤ 7) (r1 : tl_R a1 4 16) (r2 : tl_R a2 8 16) (r3 : tl_R a3 32 16) (h0 : a4 0 = nI e0) (h1 : a4 1 = nI e1) (hb0 : e0 < 16) (hb1 : e1 < 16) (hc : tl_CT a1 a2 a3 a14) (H : post (nI (tl_cn (tl_N a1) (tl_N a2) (tl_N a3) e0 e1 k n))) : wpX_countOf post (v1, v2, v3, v4, v5, v6, v7, a1, a2, a3, a4, a5, a6, a7, a8, a9, a10, a11, a12, a13, a14, a15, a16, a17, a18, a19, a20, a21) x y := by
  subst hx
  subst hy
  have hH : post (nI (tl_sg (fun p => tl_cc (tl_N a1) (tl_N a2) (tl_N a3) n p * tl_in e0 e1 k p) 256)) := by
    have e := tl_c_sum (fun x : List Nat × Nat × Nat × Nat => x.2.1) (fun p => tl_in e0 e1 k p) (tl_LL (tl_N a1) (tl_N a2) (tl_N a3) n) (n := 256) (fun x hx => tl_LL_pair (tl_B_R r1) (tl_B_R r2) (tl_B_R r3) hn hx)
    unfold tl_cc
    rw [e]
    exact H
  refine pk_loop (σ := Unit) (fun n' i _ => wX_countOf_5 post (nI k) (nI n) v1 v2 v3 v4 v5 v6 v7 a1 a2 a3 a4 a5 a6 a7 a8 a9 a10 a11 a12 a13 a14 a15 a16 a17 a18 a19 a20 a21 n' (nI (tl_sg (fun p => tl_cc (tl_N a1) (tl_N a2) (tl_N a3) n p * tl_in e0 e1 k p) i)) (nI i)) (fun _ _ => True) 256 0 () (by omega) trivial
    (fun n _ _ => pk_le 256 256 (fun _ => hH) (fun z => absurd z (by omega)))
    (fun n' i _ hi _ hw => pk_le 256 i (fun z => absurd z (by omega)) (fun _ => tw_isOf rfl rfl hk hi h0 h1 hb0 hb1 ?_))
  have hw' : wX_countOf_5 post (nI k) (nI n) v1 v2 v3 v4 v5 v6 v7 a1 a2 a3 a4 a5 a6 a7 a8 a9 a10 a11 a12 a13 a14 a15 a16 a17 a18 a19 a20 a21 n' (nI (tl_sg (fun p => tl_cc (tl_N a1) (tl_N a2) (tl_N a3) n p * tl_in e0 e1 k p) i + tl_cc (tl_N a1) (tl_N a2) (tl_N a3) n i * tl_in e0 e1 k i)) (nI (i + 1)) := hw () trivial
  have hin := tl_in_le e0 e1 k i
  refine pk_eq (tl_in e0 e1 k i) 0 (fun z => ?_) (fun z => ?_)
  · rw [z, Nat.mul_zero, Nat.add_zero] at hw'
    exact nm_r (nI_1 i) hw'
  · rw [show tl_in e0 e1 k i = 1 by omega, Nat.mul_one, ← nI_add] at hw'
    refine And.intro (pk_in (256 * n + i) 2048 (by omega) (tl_m256 n i)) (nm_r ?_ (nm_r (nI_1 i) hw'))
    rw [pk_cl (256 * n + i) (tl_m256 n i), hc n hn i hi]
theorem tw_count {post : Int32 → St1 → Prop} {v1 v2 v3 v4 v5 v6 v7 : Int32} {a1 a2 a3 a4 a5 a6 a7 a8 a9 a10 a11 a12 a13 a14 a15 a16 a17 a18 a19 a20 a21 : Nat → Int32} {x y : Int32} {k n e0 e1 : Nat} (hx : x = nI k) (hy : y = nI n) (hk : k < 7) (hn1 : 1 ≤ n) (hn : n ≤ 7) (r1 : tl_R a1 4 16) (r2 : tl_R a2 8 16) (r3 : tl_R a3 32 16) (h0 : a4 0 = nI e0) (h1 : a4 1 = nI e1) (hb0 : e0 < 16) (hb1 : e1 < 16) (hkn : v3 = 0 ∨ (v3 = 1 ∧ tl_CT a1 a2 a3 a14))
    (H : ∀ s, tl_CT a1 a2 a3 s → post (nI (tl_cn (tl_N a1) (tl_N a2) (tl_N a3) e0 e1 k n)) (v1, v2, 1, v4, v5, v6, v7, a1, a2, a3, a4, a5, a6, a7, a8, a9, a10, a11, a12, a13, s, a15, a16, a17, a18, a19, a20, a21)) : wpX_count post (v1, v2, v3, v4, v5, v6, v7, a1, a2, a3, a4, a5, a6, a7, a8, a9, a10, a11, a12, a13, a14, a15, a16, a17, a18, a19, a20, a21) x y := by
  subst hx
  subst hy
  unfold wpX_count
  refine tw_badKind rfl hk (br_t rfl (br_f (nI_nlt (b := 1) hn1 (by omega)) (br_t (nI_le (b := 7) hn (by omega)) ?_)))
  refine tw_find r1 r2 r3 hkn (fun s hs => ?_)
  exact tw_countOf rfl rfl hk hn r1 r2 r3 h0 h1 hb0 hb1 hs (H s hs)
theorem tl_sm_add {α : Type} (w w' : α → Nat) (A : List α) : tl_sm w A + tl_sm w' A = tl_sm (fun x => w x + w' x) A := by
  induction A with
  | nil => rfl
  | cons x A ih =>
    show w x + tl_sm w A + (w' x + tl_sm w' A) = w x + w' x + tl_sm (fun x => w x + w' x) A
    rw [← ih]
    omega
theorem tl_in_3 (e0 e1 p : Nat) : tl_in e0 e1 0 p + tl_in e0 e1 1 p = tl_in e0 e1 2 p + tl_in e0 e1 3 p ∧ tl_in e0 e1 4 p + tl_in e0 e1 2 p = tl_in e0 e1 0 p ∧ tl_in e0 e1 3 p + tl_in e0 e1 5 p = tl_in e0 e1 6 p := by
  rw [tl_in_ik (k := 0) rfl rfl, tl_in_ik (k := 1) rfl rfl, tl_in_ik (k := 2) rfl rfl, tl_in_ik (k := 3) rfl rfl, tl_in_ik (k := 4) rfl rfl, tl_in_ik (k := 5) rfl rfl, tl_in_ik (k := 6) rfl rfl]
  by_cases ha : p % 16 &&& e0 = 0
  · rw [if_pos ha]
    by_cases hb : p / 16 &&& e1 = 0
    · rw [if_pos hb]
      decide
    · rw [if_neg hb]
      decide
  · rw [if_neg ha]
    by_cases hb : p / 16 &&& e1 = 0
    · rw [if_pos hb]
      decide
    · rw [if_neg hb]
      decide
theorem tl_cn_3 (f1 f2 f3 : Nat → Nat) (e0 e1 n : Nat) : tl_cn f1 f2 f3 e0 e1 0 n + tl_cn f1 f2 f3 e0 e1 1 n = tl_cn f1 f2 f3 e0 e1 2 n + tl_cn f1 f2 f3 e0 e1 3 n ∧ tl_cn f1 f2 f3 e0 e1 4 n + tl_cn f1 f2 f3 e0 e1 2 n = tl_cn f1 f2 f3 e0 e1 0 n ∧ tl_cn f1 f2 f3 e0 e1 3 n + tl_cn f1 f2 f3 e0 e1 5 n = tl_cn f1 f2 f3 e0 e1 6 n := by
  unfold tl_cn
  rw [tl_sm_add, tl_sm_add, tl_sm_add, tl_sm_add]
  exact ⟨tl_sm_congr _ (fun x _ => (tl_in_3 e0 e1 _).1), tl_sm_congr _ (fun x _ => (tl_in_3 e0 e1 _).2.1), tl_sm_congr _ (fun x _ => (tl_in_3 e0 e1 _).2.2)⟩
theorem tw_counts {post : Int32 → St1 → Prop} {v1 v2 v3 v4 v5 v6 v7 : Int32} {a1 a2 a3 a4 a5 a6 a7 a8 a9 a10 a11 a12 a13 a14 a15 a16 a17 a18 a19 a20 a21 : Nat → Int32} {y : Int32} {n e0 e1 : Nat} (hy : y = nI n) (hn1 : 1 ≤ n) (hn : n ≤ 7) (r1 : tl_R a1 4 16) (r2 : tl_R a2 8 16) (r3 : tl_R a3 32 16) (h0 : a4 0 = nI e0) (h1 : a4 1 = nI e1) (hb0 : e0 < 16) (hb1 : e1 < 16) (hkn : v3 = 0 ∨ (v3 = 1 ∧ tl_CT a1 a2 a3 a14))
    (H : ∀ s, tl_CT a1 a2 a3 s → post 1 (v1, v2, 1, v4, v5, v6, v7, a1, a2, a3, a4, a5, a6, a7, a8, a9, a10, a11, a12, a13, s, a15, a16, a17, a18, a19, a20, a21)) : wpL_counts post (v1, v2, v3, v4, v5, v6, v7, a1, a2, a3, a4, a5, a6, a7, a8, a9, a10, a11, a12, a13, a14, a15, a16, a17, a18, a19, a20, a21) y := by
  subst hy
  obtain ⟨c1, c2, c3⟩ := tl_cn_3 (tl_N a1) (tl_N a2) (tl_N a3) e0 e1 n
  unfold wpL_counts
  refine tw_count (k := 2) rfl rfl (by omega) hn1 hn r1 r2 r3 h0 h1 hb0 hb1 hkn (fun s hs => ?_)
  refine tw_count (k := 3) rfl rfl (by omega) hn1 hn r1 r2 r3 h0 h1 hb0 hb1 (Or.inr ⟨rfl, hs⟩) (fun s hs => ?_)
  refine tw_count (k := 0) rfl rfl (by omega) hn1 hn r1 r2 r3 h0 h1 hb0 hb1 (Or.inr ⟨rfl, hs⟩) (fun s hs => ?_)
  refine tw_count (k := 1) rfl rfl (by omega) hn1 hn r1 r2 r3 h0 h1 hb0 hb1 (Or.inr ⟨rfl, hs⟩) (fun s hs => ?_)
  refine br_t (by rw [nI_add, nI_add, c1]) ?_
  refine tw_count (k := 4) rfl rfl (by omega) hn1 hn r1 r2 r3 h0 h1 hb0 hb1 (Or.inr ⟨rfl, hs⟩) (fun s hs => ?_)
  refine tw_count (k := 0) rfl rfl (by omega) hn1 hn r1 r2 r3 h0 h1 hb0 hb1 (Or.inr ⟨rfl, hs⟩) (fun s hs => ?_)
  refine br_t (by rw [nI_add, c2]) ?_
  refine tw_count (k := 5) rfl rfl (by omega) hn1 hn r1 r2 r3 h0 h1 hb0 hb1 (Or.inr ⟨rfl, hs⟩) (fun s hs => ?_)
  refine tw_count (k := 6) rfl rfl (by omega) hn1 hn r1 r2 r3 h0 h1 hb0 hb1 (Or.inr ⟨rfl, hs⟩) (fun s hs => ?_)
  exact br_t (by rw [nI_add, c3]) (H s hs)
end
section
/-! trees on the stack -/
theorem tl_N_us {a : Nat → Int32} {k v : Nat} (h : v < 2 ^ 31) : tl_N (upd a k (nI v)) k = v := tl_N_of pk_us h
theorem tl_N_un {a : Nat → Int32} {k j : Nat} {x : Int32} (h : j ≠ k) : tl_N (upd a k x) j = tl_N a j := by
  unfold tl_N
  rw [pk_un h]
/-- m nodes, h trees on the stack -/
def tl_T (m h : Nat) (a5 a6 a7 a8 a9 : Nat → Int32) : Prop :=
  m ≤ 12 ∧ h ≤ m ∧ tl_R a5 m 4 ∧ tl_R a6 m 12 ∧ tl_R a7 m 12 ∧ tl_R a8 m 13 ∧ tl_R a9 h m ∧ tl_K (tl_N a5) (tl_N a6) (tl_N a7) m ∧
  (∀ k, k < m → 1 ≤ tl_N a8 k ∧ tl_N a8 k = (if tl_N a5 k < 2 then 1 else if tl_N a5 k = 2 then tl_N a8 (tl_N a6 k) + 1 else tl_N a8 (tl_N a6 k) + tl_N a8 (tl_N a7 k) + 1)) ∧
  tl_sg (fun j => tl_N a8 (tl_N a9 j)) h ≤ m
theorem tl_T_0 {a5 a6 a7 a8 a9 : Nat → Int32} : tl_T 0 0 a5 a6 a7 a8 a9 :=
  ⟨by omega, by omega, fun i hi => absurd hi (by omega), fun i hi => absurd hi (by omega), fun i hi => absurd hi (by omega), fun i hi => absurd hi (by omega), fun i hi => absurd hi (by omega), fun i hi => absurd hi (by omega), fun i hi => absurd hi (by omega), by show 0 ≤ 0; omega⟩
theorem tl_R_put {a : Nat → Int32} {m b x : Nat} (h : tl_R a m b) (hx : x < b) : tl_R (upd a m (nI x)) (m + 1) b := by
  intro i hi
  by_cases e : i = m
  · exact ⟨x, hx, by rw [e, pk_us]⟩
  · obtain ⟨j, hj, e2⟩ := h i (by omega)
    exact ⟨j, hj, by rw [pk_un e, e2]⟩
theorem tl_T_put {m h h0 c x y z : Nat} {a5 a6 a7 a8 a9 : Nat → Int32} (T : tl_T m h a5 a6 a7 a8 a9) (hm : m < 12) (hh : h0 ≤ h) (hc : c < 4) (hx : x < 12) (hy : y < 12) (hx2 : 2 ≤ c → x < m) (hy3 : c = 3 → y < m) (hz : z = if c < 2 then 1 else if c = 2 then tl_N a8 x + 1 else tl_N a8 x + tl_N a8 y + 1) (hs : tl_sg (fun j => tl_N a8 (tl_N a9 j)) h0 + z ≤ m + 1) : tl_T (m + 1) (h0 + 1) (upd a5 m (nI c)) (upd a6 m (nI x)) (upd a7 m (nI y)) (upd a8 m (nI z)) (upd a9 h0 (nI m)) := by
  obtain ⟨t1, t2, t5, t6, t7, t8, t9, tk, tz, ts⟩ := T
  have z1 : 1 ≤ z := by rw [hz]; split; · omega
                        split <;> omega
  have n5 : ∀ k, k < m → tl_N (upd a5 m (nI c)) k = tl_N a5 k := fun k hk => tl_N_un (by omega)
  have n6 : ∀ k, k < m → tl_N (upd a6 m (nI x)) k = tl_N a6 k := fun k hk => tl_N_un (by omega)
  have n7 : ∀ k, k < m → tl_N (upd a7 m (nI y)) k = tl_N a7 k := fun k hk => tl_N_un (by omega)
  have n8 : ∀ k, k < m → tl_N (upd a8 m (nI z)) k = tl_N a8 k := fun k hk => tl_N_un (by omega)
  have m5 : tl_N (upd a5 m (nI c)) m = c := tl_N_us (by omega)
  have m6 : tl_N (upd a6 m (nI x)) m = x := tl_N_us (by omega)
  have m7 : tl_N (upd a7 m (nI y)) m = y := tl_N_us (by omega)
  have m8 : tl_N (upd a8 m (nI z)) m = z := tl_N_us (by omega)
  refine ⟨by omega, by omega, tl_R_put t5 hc, tl_R_put t6 hx, tl_R_put t7 hy, tl_R_put t8 (by omega), ?_, ?_, ?_, ?_⟩
  · intro j hj
    by_cases e : j = h0
    · exact ⟨m, by omega, by rw [e, pk_us]⟩
    · obtain ⟨i, hi, e2⟩ := t9 j (by omega)
      exact ⟨i, by omega, by rw [pk_un e, e2]⟩
  · intro k hk
    by_cases e : k = m
    · subst e
      rw [m5, m6, m7]
      exact ⟨hc, hx2, hy3⟩
    · rw [n5 k (by omega), n6 k (by omega), n7 k (by omega)]
      exact tk k (by omega)
  · intro k hk
    by_cases e : k = m
    · subst e
      rw [m5, m6, m7, m8]
      refine ⟨z1, ?_⟩
      by_cases hc2 : c < 2
      · rw [if_pos hc2] at hz ⊢
        exact hz
      · rw [if_neg hc2] at hz ⊢
        rw [n8 x (hx2 (by omega))]
        by_cases hc3 : c = 2
        · rw [if_pos hc3] at hz ⊢
          exact hz
        · rw [if_neg hc3] at hz ⊢
          rw [n8 y (hy3 (by omega))]
          exact hz
    · have hk' : k < m := by omega
      obtain ⟨u1, u2⟩ := tz k hk'
      obtain ⟨w1, w2, w3⟩ := tk k hk'
      rw [n5 k hk', n6 k hk', n7 k hk', n8 k hk']
      refine ⟨u1, ?_⟩
      by_cases hc2 : tl_N a5 k < 2
      · rw [u2, if_pos hc2, if_pos hc2]
      · have q1 := w2 (by omega)
        rw [if_neg hc2, n8 _ (by omega)]
        rw [if_neg hc2] at u2
        by_cases hc3 : tl_N a5 k = 2
        · rw [if_pos hc3]
          rw [if_pos hc3] at u2
          exact u2
        · have q2 := w3 (by omega)
          rw [if_neg hc3, n8 _ (by omega)]
          rw [if_neg hc3] at u2
          exact u2
  · show tl_sg (fun j => tl_N (upd a8 m (nI z)) (tl_N (upd a9 h0 (nI m)) j)) h0 + tl_N (upd a8 m (nI z)) (tl_N (upd a9 h0 (nI m)) h0) ≤ m + 1
    rw [tl_N_us (by omega), m8, tl_sg_congr (g := fun j => tl_N a8 (tl_N a9 j)) h0 (fun j hj => ?_)]
    · exact hs
    · have := (tl_R_at t9 (show j < h by omega) (by omega)).2
      have q9 : tl_N (upd a9 h0 (nI m)) j = tl_N a9 j := tl_N_un (by omega)
      rw [q9, n8 _ this]
theorem tw_make0 {post : Int32 → St1 → Prop} {v3 v4 v5 v6 v7 : Int32} {a1 a2 a3 a4 a5 a6 a7 a8 a9 a10 a11 a12 a13 a14 a15 a16 a17 a18 a19 a20 a21 : Nat → Int32} {x : Int32} {m h c : Nat} (hx : x = nI c) (hc : c < 2) (hm : m < 12) (hh : h < 12)
    (H : post (nI (h + 1)) (nI (m + 1), nI (h + 1), v3, v4, v5, v6, v7, a1, a2, a3, a4, upd a5 m (nI c), upd a6 m (nI 0), upd a7 m (nI 0), upd a8 m (nI 1), upd a9 h (nI m), a10, a11, a12, a13, a14, a15, a16, a17, a18, a19, a20, a21)) : wpX_make post (nI m, nI h, v3, v4, v5, v6, v7, a1, a2, a3, a4, a5, a6, a7, a8, a9, a10, a11, a12, a13, a14, a15, a16, a17, a18, a19, a20, a21) x 0 := by
  subst hx
  have em := nI_clamp (show m < 2 ^ 31 by omega)
  have eh := nI_clamp (show h < 2 ^ 31 by omega)
  have i1 := pk_in (x := nI m) m 12 hm
  have i2 := pk_in (x := nI h) h 12 hh
  refine nm_r (e' := nI h) (pk_sub (a := h) (b := 0) (by omega)) (br_t (by decide) (br_t (by decide) (And.intro i1 ?_)))
  refine nm_r (e' := upd a5 m (nI c)) (by rw [em, tl_b8 c (by omega)]) (And.intro i1 ?_)
  refine nm_r (e' := upd a6 m (nI 0)) (by rw [em]; rfl) (And.intro i1 ?_)
  refine nm_r (e' := upd a7 m (nI 0)) (by rw [em]; rfl) (br_t (by decide) (br_t (by decide) (And.intro i1 ?_)))
  refine nm_r (e' := upd a8 m (nI 1)) (by rw [em]; rfl) (And.intro i2 ?_)
  exact nm_r (e' := upd a9 h (nI m)) (by rw [eh, tl_b8 m (by omega)]) (nm_r (nI_1 h) (nm_r (nI_1 m) H))
theorem tw_make1 {post : Int32 → St1 → Prop} {v3 v4 v5 v6 v7 : Int32} {a1 a2 a3 a4 a5 a6 a7 a8 a9 a10 a11 a12 a13 a14 a15 a16 a17 a18 a19 a20 a21 : Nat → Int32} {m h x z : Nat} (hm : m < 12) (hh : h < 12) (hx : a9 h = nI x) (hx' : x < 12) (hz : a8 x = nI z) (hz' : z < 13)
    (H : post (nI (h + 1)) (nI (m + 1), nI (h + 1), v3, v4, v5, v6, v7, a1, a2, a3, a4, upd a5 m (nI 2), upd a6 m (nI x), upd a7 m (nI 0), upd a8 m (nI (z + 1)), upd a9 h (nI m), a10, a11, a12, a13, a14, a15, a16, a17, a18, a19, a20, a21)) : wpX_make post (nI m, nI (h + 1), v3, v4, v5, v6, v7, a1, a2, a3, a4, a5, a6, a7, a8, a9, a10, a11, a12, a13, a14, a15, a16, a17, a18, a19, a20, a21) 2 1 := by
  have em := nI_clamp (show m < 2 ^ 31 by omega)
  have eh := nI_clamp (show h < 2 ^ 31 by omega)
  have ex := nI_clamp (show x < 2 ^ 31 by omega)
  have i1 := pk_in (x := nI m) m 12 hm
  have i2 := pk_in (x := nI h) h 12 hh
  refine nm_r (e' := nI h) (nI_pred h) (br_f (by decide) (And.intro i2 (br_t (by decide) (And.intro i1 ?_))))
  rw [eh, hx]
  refine nm_r (e' := upd a5 m (nI 2)) (by rw [em]; rfl) (And.intro i1 ?_)
  refine nm_r (e' := upd a6 m (nI x)) (by rw [em, tl_b8 x (by omega)]) (And.intro i1 ?_)
  refine nm_r (e' := upd a7 m (nI 0)) (by rw [em]; rfl) (br_f (by decide) (And.intro (pk_in x 12 hx') (br_t (by decide) (And.intro i1 ?_))))
  refine nm_r (e' := upd a8 m (nI (z + 1))) ?_ (And.intro i2 ?_)
  · rw [em, ex, hz]
    have e : (1 : Int32) + nI z + 0 = nI (z + 1) := by
      show nI 1 + nI z + nI 0 = _
      rw [nI_add, nI_add]
      congr 1
      omega
    rw [e, tl_b8 _ (by omega)]
  · exact nm_r (e' := upd a9 h (nI m)) (by rw [eh, tl_b8 m (by omega)]) (nm_r (nI_1 h) (nm_r (nI_1 m) H))
theorem tw_make2 {post : Int32 → St1 → Prop} {v3 v4 v5 v6 v7 : Int32} {a1 a2 a3 a4 a5 a6 a7 a8 a9 a10 a11 a12 a13 a14 a15 a16 a17 a18 a19 a20 a21 : Nat → Int32} {m h x y z w : Nat} (hm : m < 12) (hh : h + 1 < 12) (hx : a9 h = nI x) (hx' : x < 12) (hy : a9 (h + 1) = nI y) (hy' : y < 12) (hz : a8 x = nI z) (hw : a8 y = nI w) (hzw : z + w < 13)
    (H : post (nI (h + 1)) (nI (m + 1), nI (h + 1), v3, v4, v5, v6, v7, a1, a2, a3, a4, upd a5 m (nI 3), upd a6 m (nI x), upd a7 m (nI y), upd a8 m (nI (z + w + 1)), upd a9 h (nI m), a10, a11, a12, a13, a14, a15, a16, a17, a18, a19, a20, a21)) : wpX_make post (nI m, nI (h + 2), v3, v4, v5, v6, v7, a1, a2, a3, a4, a5, a6, a7, a8, a9, a10, a11, a12, a13, a14, a15, a16, a17, a18, a19, a20, a21) 3 2 := by
  have em := nI_clamp (show m < 2 ^ 31 by omega)
  have eh := nI_clamp (show h < 2 ^ 31 by omega)
  have eh1 := nI_clamp (show h + 1 < 2 ^ 31 by omega)
  have ex := nI_clamp (show x < 2 ^ 31 by omega)
  have ey := nI_clamp (show y < 2 ^ 31 by omega)
  have i1 := pk_in (x := nI m) m 12 hm
  have i2 := pk_in (x := nI h) h 12 (by omega)
  refine nm_r (e' := nI h) (pk_sub (a := h + 2) (b := 2) (by omega)) (br_f (by decide) (And.intro i2 (br_f (by decide) (And.intro (pk_in (h + 1) 12 hh (nI_1 h)) (And.intro i1 ?_)))))
  rw [eh, hx, nI_1, eh1, hy]
  refine nm_r (e' := upd a5 m (nI 3)) (by rw [em]; rfl) (And.intro i1 ?_)
  refine nm_r (e' := upd a6 m (nI x)) (by rw [em, tl_b8 x (by omega)]) (And.intro i1 ?_)
  refine nm_r (e' := upd a7 m (nI y)) (by rw [em, tl_b8 y (by omega)]) (br_f (by decide) (And.intro (pk_in x 12 hx') (br_f (by decide) (And.intro (pk_in y 12 hy') (And.intro i1 ?_)))))
  refine nm_r (e' := upd a8 m (nI (z + w + 1))) ?_ (And.intro i2 ?_)
  · rw [em, ex, hz, ey, hw]
    have e : (1 : Int32) + nI z + nI w = nI (z + w + 1) := by
      show nI 1 + nI z + nI w = _
      rw [nI_add, nI_add]
      congr 1
      omega
    rw [e, tl_b8 _ (by omega)]
  · exact nm_r (e' := upd a9 h (nI m)) (by rw [eh, tl_b8 m (by omega)]) (nm_r (nI_1 h) (nm_r (nI_1 m) H))
/-! the three makings keep the nodes in order -/
theorem tl_T_put0 {m h c : Nat} {a5 a6 a7 a8 a9 : Nat → Int32} (T : tl_T m h a5 a6 a7 a8 a9) (hm : m < 12) (hc : c < 2) : tl_T (m + 1) (h + 1) (upd a5 m (nI c)) (upd a6 m (nI 0)) (upd a7 m (nI 0)) (upd a8 m (nI 1)) (upd a9 h (nI m)) :=
  tl_T_put T hm (Nat.le_refl _) (by omega) (by omega) (by omega) (fun z => absurd z (by omega)) (fun z => absurd z (by omega)) (if_pos hc).symm (by have := T.2.2.2.2.2.2.2.2.2; omega)
theorem tl_T_put1 {m h x z : Nat} {a5 a6 a7 a8 a9 : Nat → Int32} (T : tl_T m (h + 1) a5 a6 a7 a8 a9) (hm : m < 12) (hx : a9 h = nI x) (hxm : x < m) (hz : a8 x = nI z) (hz' : z < 13) : tl_T (m + 1) (h + 1) (upd a5 m (nI 2)) (upd a6 m (nI x)) (upd a7 m (nI 0)) (upd a8 m (nI (z + 1))) (upd a9 h (nI m)) := by
  have e1 : tl_N a9 h = x := tl_N_of hx (by omega)
  have e2 : tl_N a8 x = z := tl_N_of hz (by omega)
  have hs : tl_sg (fun j => tl_N a8 (tl_N a9 j)) h + tl_N a8 (tl_N a9 h) ≤ m := T.2.2.2.2.2.2.2.2.2
  rw [e1, e2] at hs
  exact tl_T_put T hm (by omega) (by omega) (by omega) (by omega) (fun _ => hxm) (fun z => absurd z (by omega)) (by rw [e2]; rfl) (by omega)
theorem tl_T_put2 {m h x y z w : Nat} {a5 a6 a7 a8 a9 : Nat → Int32} (T : tl_T m (h + 2) a5 a6 a7 a8 a9) (hm : m < 12) (hx : a9 h = nI x) (hxm : x < m) (hy : a9 (h + 1) = nI y) (hym : y < m) (hz : a8 x = nI z) (hw : a8 y = nI w) (hz' : z < 13) (hw' : w < 13) : tl_T (m + 1) (h + 1) (upd a5 m (nI 3)) (upd a6 m (nI x)) (upd a7 m (nI y)) (upd a8 m (nI (z + w + 1))) (upd a9 h (nI m)) := by
  have e1 : tl_N a9 h = x := tl_N_of hx (by omega)
  have e2 : tl_N a8 x = z := tl_N_of hz (by omega)
  have e3 : tl_N a9 (h + 1) = y := tl_N_of hy (by omega)
  have e4 : tl_N a8 y = w := tl_N_of hw (by omega)
  have hs : tl_sg (fun j => tl_N a8 (tl_N a9 j)) h + tl_N a8 (tl_N a9 h) + tl_N a8 (tl_N a9 (h + 1)) ≤ m := T.2.2.2.2.2.2.2.2.2
  rw [e1, e2, e3, e4] at hs
  exact tl_T_put T hm (by omega) (by omega) (by omega) (by omega) (fun _ => hxm) (fun _ => hym) (by rw [e2, e4]; rfl) (by omega)
/-- what stands at a place of the stack -/
theorem tl_T_at {m h j : Nat} {a5 a6 a7 a8 a9 : Nat → Int32} (T : tl_T m h a5 a6 a7 a8 a9) (hj : j < h) : ∃ x z, a9 j = nI x ∧ x < m ∧ a8 x = nI z ∧ z < 13 := by
  obtain ⟨t1, t2, t5, t6, t7, t8, t9, tk, tz, ts⟩ := T
  obtain ⟨x, hx, e⟩ := t9 j hj
  obtain ⟨z, hz, e2⟩ := t8 x hx
  exact ⟨x, z, e, hx, e2, hz⟩
theorem tl_T_sum {m h : Nat} {a5 a6 a7 a8 a9 : Nat → Int32} {x y z w : Nat} (T : tl_T m (h + 2) a5 a6 a7 a8 a9) (hx : a9 h = nI x) (hxm : x < m) (hy : a9 (h + 1) = nI y) (hym : y < m) (hz : a8 x = nI z) (hw : a8 y = nI w) (hz' : z < 13) (hw' : w < 13) : z + w < 13 := by
  have t1 := T.1
  have e1 : tl_N a9 h = x := tl_N_of hx (by omega)
  have e2 : tl_N a8 x = z := tl_N_of hz (by omega)
  have e3 : tl_N a9 (h + 1) = y := tl_N_of hy (by omega)
  have e4 : tl_N a8 y = w := tl_N_of hw (by omega)
  have hs : tl_sg (fun j => tl_N a8 (tl_N a9 j)) h + tl_N a8 (tl_N a9 h) + tl_N a8 (tl_N a9 (h + 1)) ≤ m := T.2.2.2.2.2.2.2.2.2
  rw [e1, e2, e3, e4] at hs
  omega
theorem tw_leaf {post : Int32 → St1 → Prop} {v3 v4 v5 v6 v7 : Int32} {a1 a2 a3 a4 a5 a6 a7 a8 a9 a10 a11 a12 a13 a14 a15 a16 a17 a18 a19 a20 a21 : Nat → Int32} {x : Int32} {m h c : Nat} (hx : x = nI c) (hc : c < 2) (T : tl_T m h a5 a6 a7 a8 a9)
    (H : ∀ r m h a5 a6 a7 a8 a9, tl_T m h a5 a6 a7 a8 a9 → post r (nI m, nI h, v3, v4, v5, v6, v7, a1, a2, a3, a4, a5, a6, a7, a8, a9, a10, a11, a12, a13, a14, a15, a16, a17, a18, a19, a20, a21)) : wpX_leaf post (nI m, nI h, v3, v4, v5, v6, v7, a1, a2, a3, a4, a5, a6, a7, a8, a9, a10, a11, a12, a13, a14, a15, a16, a17, a18, a19, a20, a21) x := by
  subst hx
  have t1 := T.1
  have t2 := T.2.1
  refine br_f (nI_pos (by omega)) (br_t (nI_le (b := 1) (by omega) (by omega)) (pk_eq m 12 (fun _ => H _ m h a5 a6 a7 a8 a9 T) (fun z => ?_)))
  exact tw_make0 rfl hc (by omega) (by omega) (H _ _ _ _ _ _ _ _ (tl_T_put0 T (by omega) hc))
theorem tw_one {post : Int32 → St1 → Prop} {v3 v4 v5 v6 v7 : Int32} {a1 a2 a3 a4 a5 a6 a7 a8 a9 a10 a11 a12 a13 a14 a15 a16 a17 a18 a19 a20 a21 : Nat → Int32} {m h : Nat} (T : tl_T m h a5 a6 a7 a8 a9)
    (H : ∀ r m h a5 a6 a7 a8 a9, tl_T m h a5 a6 a7 a8 a9 → post r (nI m, nI h, v3, v4, v5, v6, v7, a1, a2, a3, a4, a5, a6, a7, a8, a9, a10, a11, a12, a13, a14, a15, a16, a17, a18, a19, a20, a21)) : wpX_one post (nI m, nI h, v3, v4, v5, v6, v7, a1, a2, a3, a4, a5, a6, a7, a8, a9, a10, a11, a12, a13, a14, a15, a16, a17, a18, a19, a20, a21) := by
  have t1 := T.1
  have t2 := T.2.1
  refine pk_eq m 12 (fun _ => H _ m h a5 a6 a7 a8 a9 T) (fun zm => pk_le 1 h (fun z => ?_) (fun _ => H _ m h a5 a6 a7 a8 a9 T))
  obtain ⟨h', e⟩ : ∃ h', h = h' + 1 := ⟨h - 1, by omega⟩
  subst e
  obtain ⟨x, z, e1, hx, e2, hz⟩ := tl_T_at T (show h' < h' + 1 by omega)
  exact tw_make1 (by omega) (by omega) e1 (by omega) e2 hz (H _ _ _ _ _ _ _ _ (tl_T_put1 T (by omega) e1 hx e2 hz))
theorem tw_two {post : Int32 → St1 → Prop} {v3 v4 v5 v6 v7 : Int32} {a1 a2 a3 a4 a5 a6 a7 a8 a9 a10 a11 a12 a13 a14 a15 a16 a17 a18 a19 a20 a21 : Nat → Int32} {m h : Nat} (T : tl_T m h a5 a6 a7 a8 a9)
    (H : ∀ r m h a5 a6 a7 a8 a9, tl_T m h a5 a6 a7 a8 a9 → post r (nI m, nI h, v3, v4, v5, v6, v7, a1, a2, a3, a4, a5, a6, a7, a8, a9, a10, a11, a12, a13, a14, a15, a16, a17, a18, a19, a20, a21)) : wpX_two post (nI m, nI h, v3, v4, v5, v6, v7, a1, a2, a3, a4, a5, a6, a7, a8, a9, a10, a11, a12, a13, a14, a15, a16, a17, a18, a19, a20, a21) := by
  have t1 := T.1
  have t2 := T.2.1
  refine pk_eq m 12 (fun _ => H _ m h a5 a6 a7 a8 a9 T) (fun zm => pk_le 2 h (fun z => ?_) (fun _ => H _ m h a5 a6 a7 a8 a9 T))
  obtain ⟨h', e⟩ : ∃ h', h = h' + 2 := ⟨h - 2, by omega⟩
  subst e
  obtain ⟨x, z, e1, hx, e2, hz⟩ := tl_T_at T (show h' < h' + 2 by omega)
  obtain ⟨y, w, e3, hy, e4, hw⟩ := tl_T_at T (show h' + 1 < h' + 2 by omega)
  have hs := tl_T_sum T e1 hx e3 hy e2 e4 hz hw
  exact tw_make2 (by omega) (by omega) e1 (by omega) e3 (by omega) e2 e4 hs (H _ _ _ _ _ _ _ _ (tl_T_put2 T (by omega) e1 hx e3 hy e2 e4 hz hw))
theorem tw_topmost {post : Int32 → Prop} {v1 v3 v4 v5 v6 v7 : Int32} {a1 a2 a3 a4 a5 a6 a7 a8 a9 a10 a11 a12 a13 a14 a15 a16 a17 a18 a19 a20 a21 : Nat → Int32} {h : Nat} (hh : h ≤ 12) (H0 : h = 0 → post (-1)) (H1 : 0 < h → post (a9 (h - 1))) : wpX_topmost post (v1, nI h, v3, v4, v5, v6, v7, a1, a2, a3, a4, a5, a6, a7, a8, a9, a10, a11, a12, a13, a14, a15, a16, a17, a18, a19, a20, a21) := by
  refine pk_le h 0 (fun z => H0 (by omega)) (fun z => And.intro (pk_in (h - 1) 12 (by omega) (tl_s1 (by omega))) ?_)
  rw [pk_cl (h - 1) (tl_s1 (by omega))]
  exact H1 z
theorem tw_size {post : Int32 → Prop} {v3 v4 v5 v6 v7 : Int32} {a1 a2 a3 a4 a5 a6 a7 a8 a9 a10 a11 a12 a13 a14 a15 a16 a17 a18 a19 a20 a21 : Nat → Int32} {m h : Nat} (T : tl_T m h a5 a6 a7 a8 a9) (H0 : h = 0 → post (-4)) (H1 : 0 < h → post (nI (tl_N a8 (tl_N a9 (h - 1))))) : wpX_size post (nI m, nI h, v3, v4, v5, v6, v7, a1, a2, a3, a4, a5, a6, a7, a8, a9, a10, a11, a12, a13, a14, a15, a16, a17, a18, a19, a20, a21) := by
  obtain ⟨t1, t2, t5, t6, t7, t8, t9, tk, tz, ts⟩ := T
  unfold wpX_size
  refine tw_topmost (by omega) (fun z => br_f (show ¬ (0 : Int32) ≤ -1 by decide) (H0 z)) (fun z => ?_)
  obtain ⟨e, hx⟩ := tl_R_at t9 (show h - 1 < h by omega) (by omega)
  obtain ⟨e2, hz⟩ := tl_R_at t8 hx (by omega)
  rw [e]
  refine br_t (nI_pos' (by omega)) (And.intro (pk_in (tl_N a9 (h - 1)) 12 (by omega)) ?_)
  rw [nI_clamp (by omega), e2]
  exact H1 z
end
section
/-! sets and runs of the topmost tree -/
theorem tl_fill {f : Nat → Int32} {s : Nat → Int32} {i : Nat} {x : Int32} (h : ∀ j, j < i → s j = f j) (hx : x = f i) : ∀ j, j < i + 1 → upd s i x j = f j := by
  intro j hj
  by_cases e : j = i
  · rw [e, pk_us, hx]
  · rw [pk_un e]
    exact h j (by omega)
def tl_vb (a1 a2 a3 a5 a6 a7 : Nat → Int32) (k : Nat) : Nat × Nat × Nat := tl_va (tl_N a1) (tl_N a2) (tl_N a3) (tl_N a5) (tl_N a6) (tl_N a7) k
theorem tl_vb_eq {a1 a2 a3 a5 a6 a7 : Nat → Int32} {m : Nat} (tk : tl_K (tl_N a5) (tl_N a6) (tl_N a7) m) (hm : m ≤ 12) {k : Nat} (hk : k < m) : tl_vb a1 a2 a3 a5 a6 a7 k = tl_op (tl_N a1) (tl_N a2) (tl_N a3) (tl_N a5 k) (tl_vb a1 a2 a3 a5 a6 a7 (tl_N a6 k)) (tl_vb a1 a2 a3 a5 a6 a7 (tl_N a7 k)) := tl_va_sat tk hm k hk
theorem tl_vb_lt {a1 a2 a3 a5 a6 a7 : Nat → Int32} {m : Nat} (r1 : tl_R a1 4 16) (r2 : tl_R a2 8 16) (r3 : tl_R a3 32 16) (tk : tl_K (tl_N a5) (tl_N a6) (tl_N a7) m) (hm : m ≤ 12) {k : Nat} (hk : k < m) : (tl_vb a1 a2 a3 a5 a6 a7 k).1 < 256 := tl_va_pair tk hm (tl_B_R r1) (tl_B_R r2) (tl_B_R r3) k hk
theorem tw_pairOf {post : Int32 → St1 → Prop} {v1 v2 v3 v4 v5 v6 v7 : Int32} {a1 a2 a3 a4 a5 a6 a7 a8 a9 a10 a11 a12 a13 a14 a15 a16 a17 a18 a19 a20 a21 : Nat → Int32} {x : Int32} {m h t : Nat} (hx : x = nI t) (ht : t < m) (T : tl_T m h a5 a6 a7 a8 a9) (r1 : tl_R a1 4 16) (r2 : tl_R a2 8 16) (r3 : tl_R a3 32 16)
    (H : ∀ s, post (nI (tl_vb a1 a2 a3 a5 a6 a7 t).1) (v1, v2, v3, v4, v5, v6, v7, a1, a2, a3, a4, a5, a6, a7, a8, a9, a10, a11, s, a13, a14, a15, a16, a17, a18, a19, a20, a21)) : wpX_pairOf post (v1, v2, v3, v4, v5, v6, v7, a1, a2, a3, a4, a5, a6, a7, a8, a9, a10, a11, a12, a13, a14, a15, a16, a17, a18, a19, a20, a21) x := by
  subst hx
  obtain ⟨t1, t2, t5, t6, t7, t8, t9, tk, tz, ts⟩ := T
  refine pk_loop (fun n' k s => wX_pairOf_2 post (nI t) v1 v2 v3 v4 v5 v6 v7 n' (nI k) a1 a2 a3 a4 a5 a6 a7 a8 a9 a10 a11 s a13 a14 a15 a16 a17 a18 a19 a20 a21) (fun k s => ∀ j, j < k → s j = nI (tl_vb a1 a2 a3 a5 a6 a7 j).1) (t + 1) 0 a12 (by omega) (fun j hj => absurd hj (by omega))
    (fun n' s hs => pk_lt t (t + 1) (fun _ => And.intro (pk_in t 12 (by omega)) ?_) (fun z => absurd z (by omega)))
    (fun n' k s hk hs hw => pk_lt t k (fun z => absurd z (by omega)) (fun _ => ?_))
  · rw [nI_clamp (by omega), hs t (by omega)]
    exact H s
  · have hkm : k < m := by omega
    obtain ⟨e5, c5⟩ := tl_R_at t5 hkm
    obtain ⟨e6, c6⟩ := tl_R_at t6 hkm
    obtain ⟨e7, c7⟩ := tl_R_at t7 hkm
    obtain ⟨k1, k2, k3⟩ := tk k hkm
    have ek := nI_clamp (show k < 2 ^ 31 by omega)
    have i1 := pk_in (x := nI k) k 12 (by omega)
    have key : ∀ v, v = nI (tl_vb a1 a2 a3 a5 a6 a7 k).1 → wX_pairOf_2 post (nI t) v1 v2 v3 v4 v5 v6 v7 n' (nI (k + 1)) a1 a2 a3 a4 a5 a6 a7 a8 a9 a10 a11 (upd s k v) a13 a14 a15 a16 a17 a18 a19 a20 a21 := fun v hv => hw _ (tl_fill (f := fun j => nI (tl_vb a1 a2 a3 a5 a6 a7 j).1) hs hv)
    have ev := tl_vb_eq (a1 := a1) (a2 := a2) (a3 := a3) tk t1 hkm
    rw [ek, e5, e6, e7, nI_clamp (show tl_N a6 k < 2 ^ 31 by omega), nI_clamp (show tl_N a7 k < 2 ^ 31 by omega)]
    refine And.intro i1 (And.intro (pk_in (tl_N a6 k) 12 c6) (nm_e (And.intro i1 (And.intro (pk_in (tl_N a7 k) 12 c7) (nm_e (And.intro i1 ?_))))))
    refine pk_le 2 (tl_N a5 k) (fun z => And.intro i1 (pk_eq (tl_N a5 k) 2 (fun z2 => ?_) (fun z2 => ?_))) (fun z => And.intro i1 ?_)
    · rw [z2, tl_op_2] at ev
      exact tw_onePair (hs _ (k2 z)) (tl_vb_lt r1 r2 r3 tk t1 (by have := k2 z; omega)) r2 (And.intro i1 (nm_e (nm_r (nI_1 k) (key _ (by rw [ev]; rfl)))))
    · have z3 : tl_N a5 k = 3 := by omega
      rw [z3, tl_op_3] at ev
      exact tw_twoPair (hs _ (k2 z)) (hs _ (k3 z3)) (tl_vb_lt r1 r2 r3 tk t1 (by have := k2 z; omega)) (tl_vb_lt r1 r2 r3 tk t1 (by have := k3 z3; omega)) r3 (And.intro i1 (nm_e (nm_r (nI_1 k) (key _ (by rw [ev]; rfl)))))
    · rw [tl_op_0 z] at ev
      exact tw_leafPair rfl z r1 (And.intro i1 (nm_e (nm_r (nI_1 k) (key _ (by rw [ev]; rfl)))))
/-- the topmost node -/
def tl_tp (h : Nat) (a9 : Nat → Int32) : Nat := tl_N a9 (h - 1)
theorem tl_tp_at {m h : Nat} {a5 a6 a7 a8 a9 : Nat → Int32} (T : tl_T m h a5 a6 a7 a8 a9) (hh : 0 < h) : a9 (h - 1) = nI (tl_tp h a9) ∧ tl_tp h a9 < m := tl_R_at T.2.2.2.2.2.2.1 (by omega) (by have := T.1; omega)
theorem tw_states {post : Int32 → St1 → Prop} {v3 v4 v5 v6 v7 : Int32} {a1 a2 a3 a4 a5 a6 a7 a8 a9 a10 a11 a12 a13 a14 a15 a16 a17 a18 a19 a20 a21 : Nat → Int32} {x : Int32} {mm m h : Nat} (hx : x = nI mm) (hmm : mm < 2) (hh : 0 < h) (T : tl_T m h a5 a6 a7 a8 a9) (r1 : tl_R a1 4 16) (r2 : tl_R a2 8 16) (r3 : tl_R a3 32 16)
    (H : ∀ s, post (nI (tl_st mm (tl_vb a1 a2 a3 a5 a6 a7 (tl_tp h a9)).1)) (nI m, nI h, v3, v4, v5, v6, v7, a1, a2, a3, a4, a5, a6, a7, a8, a9, a10, a11, s, a13, a14, a15, a16, a17, a18, a19, a20, a21)) : wpX_states post (nI m, nI h, v3, v4, v5, v6, v7, a1, a2, a3, a4, a5, a6, a7, a8, a9, a10, a11, a12, a13, a14, a15, a16, a17, a18, a19, a20, a21) x := by
  subst hx
  obtain ⟨e, ht⟩ := tl_tp_at T hh
  have t1 := T.1
  have t2 := T.2.1
  unfold wpX_states
  refine tw_badAutomaton rfl hmm (br_t rfl (tw_topmost (by omega) (fun z => absurd z (by omega)) (fun z => ?_)))
  rw [e]
  refine br_t (nI_pos' (by omega)) (tw_pairOf rfl ht T r1 r2 r3 (fun s => ?_))
  have hl := tl_vb_lt r1 r2 r3 T.2.2.2.2.2.2.2.1 t1 ht
  have H' := H s
  refine pk_eq mm 0 (fun z => ?_) (fun z => ?_)
  · rw [tl_lo hl]
    rw [show tl_st mm (tl_vb a1 a2 a3 a5 a6 a7 (tl_tp h a9)).1 = (tl_vb a1 a2 a3 a5 a6 a7 (tl_tp h a9)).1 % 16 from if_pos z] at H'
    exact H'
  · rw [tl_hi hl]
    rw [show tl_st mm (tl_vb a1 a2 a3 a5 a6 a7 (tl_tp h a9)).1 = (tl_vb a1 a2 a3 a5 a6 a7 (tl_tp h a9)).1 / 16 from if_neg z] at H'
    exact H'
theorem tl_bitv : ∀ s, s < 16 → ∀ q, q < 4 → (nI s >>> (nI q &&& 31)) &&& 1 = nI (tl_bt s q) := by decide +kernel
def tl_wb (a1 a2 a3 a5 a6 a7 : Nat → Int32) (mm k : Nat) : Nat → Nat := tl_ws (tl_N a1) (tl_N a2) (tl_N a3) mm (tl_N a5) (tl_N a6) (tl_N a7) k
theorem tl_wb_eq {a1 a2 a3 a5 a6 a7 : Nat → Int32} {mm m : Nat} (tk : tl_K (tl_N a5) (tl_N a6) (tl_N a7) m) (hm : m ≤ 12) {k : Nat} (hk : k < m) : tl_wb a1 a2 a3 a5 a6 a7 mm k = tl_wop (tl_N a1) (tl_N a2) (tl_N a3) mm (tl_N a5 k) (tl_wb a1 a2 a3 a5 a6 a7 mm (tl_N a6 k)) (tl_wb a1 a2 a3 a5 a6 a7 mm (tl_N a7 k)) := tl_ws_eq tk hm k hk
theorem tw_w110n {post : Int32 → Prop} {J : Int32 → Int32 → Prop} {v1 v2 v3 v4 v5 v6 v7 : Int32} {a1 a2 a3 a4 a5 a6 a7 a8 a9 a10 a11 a12 a13 a14 a15 a16 a17 a18 a19 a20 a21 : Nat → Int32} {x1 x3 x4 x6 : Int32} {k i c : Nat} (hk : k < 12) (e5 : a5 k = nI c) (hc : c < 3) (h : J x4 (nI (i + 1))) : wX_waysOf_110 post J x1 (nI k) x3 x4 (nI i) x6 v1 v2 v3 v4 v5 v6 v7 a1 a2 a3 a4 a5 a6 a7 a8 a9 a10 a11 a12 a13 a14 a15 a16 a17 a18 a19 a20 a21 :=
  And.intro (pk_in k 12 hk) (pk_eq c 3 (fun z => absurd z (by omega)) (fun _ => nm_r (nI_1 i) h) (by rw [nI_clamp (by omega), e5]))
theorem tw_ways2 {post : Int32 → Prop} {v1 v2 v3 v4 v5 v6 v7 : Int32} {a1 a2 a3 a4 a5 a6 a7 a8 a9 a10 a11 a12 a13 a14 a15 a16 a17 a18 a19 a20 a21 : Nat → Int32} {mm k q x : Nat} {w : Nat → Nat} (hmm : mm < 2) (hk : k < 12) (hq : q < 4) (e5 : a5 k = nI 2) (e6 : a6 k = nI x) (hx : x < 12) (r2 : tl_R a2 8 16) (hw : ∀ p, p < 4 → a13 (4 * x + p) = nI (w p))
    (H : post (nI (tl_sg (fun p => tl_bt (tl_N a2 (4 * mm + p)) q * w p) 4))) : ∃ n, wX_waysOf_36 post (nI mm) (nI k) (nI q) v1 v2 v3 v4 v5 v6 v7 a1 a2 a3 a4 a5 a6 a7 a8 a9 a10 a11 a12 a13 a14 a15 a16 a17 a18 a19 a20 a21 n 0 0 := by
  refine pk_loop (σ := Unit) (fun n i _ => wX_waysOf_36 post (nI mm) (nI k) (nI q) v1 v2 v3 v4 v5 v6 v7 a1 a2 a3 a4 a5 a6 a7 a8 a9 a10 a11 a12 a13 a14 a15 a16 a17 a18 a19 a20 a21 n (nI (tl_sg (fun p => tl_bt (tl_N a2 (4 * mm + p)) q * w p) (min i 4))) (nI i)) (fun _ _ => True) 16 0 () (by omega) trivial
    (fun n _ _ => pk_le 16 16 (fun _ => H) (fun z => absurd z (by omega)))
    (fun n i _ hi _ hn => pk_le 16 i (fun z => absurd z (by omega)) (fun _ => ?_))
  have hn' : wX_waysOf_36 post (nI mm) (nI k) (nI q) v1 v2 v3 v4 v5 v6 v7 a1 a2 a3 a4 a5 a6 a7 a8 a9 a10 a11 a12 a13 a14 a15 a16 a17 a18 a19 a20 a21 n (nI (tl_sg (fun p => tl_bt (tl_N a2 (4 * mm + p)) q * w p) (min (i + 1) 4))) (nI (i + 1)) := hn () trivial
  have ek := nI_clamp (show k < 2 ^ 31 by omega)
  have i1 := pk_in (x := nI k) k 12 hk
  have ei : (4 : Int32) * nI x + (nI i &&& 3) = nI (4 * x + i % 4) := by rw [tl_k3 (by omega), tl_m4]
  rw [ek, e5, e6, ei, nI_clamp (show 4 * x + i % 4 < 2 ^ 31 by omega)]
  refine And.intro i1 (And.intro (pk_in (4 * x + i % 4) 48 (by omega)) (nm_e (And.intro i1 (br_t rfl (pk_le 4 i (fun z => ?_) (fun z => ?_))))))
  · refine tw_w110n hk e5 (by omega) ?_
    rw [show min (i + 1) 4 = min i 4 by omega] at hn'
    exact hn'
  · have hb := tl_R_at r2 (show 4 * mm + i < 8 by omega)
    have em := tl_m4 mm i
    refine And.intro (pk_in (4 * mm + i) 8 (by omega) em) ?_
    rw [em, nI_clamp (show 4 * mm + i < 2 ^ 31 by omega), hb.1]
    rw [show min (i + 1) 4 = i + 1 by omega] at hn'
    rw [show min i 4 = i by omega, show i % 4 = i by omega, hw i z]
    refine ek_if (tl_bit _ hb.2 q hq) (fun b => ?_) (fun b => ?_)
    · refine tw_w110n hk e5 (by omega) ?_
      rw [show tl_sg (fun p => tl_bt (tl_N a2 (4 * mm + p)) q * w p) (i + 1) = tl_sg (fun p => tl_bt (tl_N a2 (4 * mm + p)) q * w p) i + tl_bt (tl_N a2 (4 * mm + i)) q * w i from rfl, show tl_bt (tl_N a2 (4 * mm + i)) q = 1 from if_pos b, Nat.one_mul, ← nI_add] at hn'
      exact hn'
    · refine tw_w110n hk e5 (by omega) ?_
      rw [show tl_sg (fun p => tl_bt (tl_N a2 (4 * mm + p)) q * w p) (i + 1) = tl_sg (fun p => tl_bt (tl_N a2 (4 * mm + p)) q * w p) i + tl_bt (tl_N a2 (4 * mm + i)) q * w i from rfl, show tl_bt (tl_N a2 (4 * mm + i)) q = 0 from if_neg b, Nat.zero_mul, Nat.add_zero] at hn'
      exact hn'
theorem tw_ways3 {post : Int32 → Prop} {v1 v2 v3 v4 v5 v6 v7 : Int32} {a1 a2 a3 a4 a5 a6 a7 a8 a9 a10 a11 a12 a13 a14 a15 a16 a17 a18 a19 a20 a21 : Nat → Int32} {mm k q x y : Nat} {w w' : Nat → Nat} (hmm : mm < 2) (hk : k < 12) (hq : q < 4) (e5 : a5 k = nI 3) (e6 : a6 k = nI x) (hx : x < 12) (e7 : a7 k = nI y) (hy : y < 12) (r3 : tl_R a3 32 16) (hw : ∀ p, p < 4 → a13 (4 * x + p) = nI (w p)) (hw' : ∀ p, p < 4 → a13 (4 * y + p) = nI (w' p))
    (H : post (nI (tl_sg (fun p => tl_bt (tl_N a3 (16 * mm + p)) q * (w (p % 4) * w' (p / 4))) 16))) : ∃ n, wX_waysOf_36 post (nI mm) (nI k) (nI q) v1 v2 v3 v4 v5 v6 v7 a1 a2 a3 a4 a5 a6 a7 a8 a9 a10 a11 a12 a13 a14 a15 a16 a17 a18 a19 a20 a21 n 0 0 := by
  refine pk_loop (σ := Unit) (fun n i _ => wX_waysOf_36 post (nI mm) (nI k) (nI q) v1 v2 v3 v4 v5 v6 v7 a1 a2 a3 a4 a5 a6 a7 a8 a9 a10 a11 a12 a13 a14 a15 a16 a17 a18 a19 a20 a21 n (nI (tl_sg (fun p => tl_bt (tl_N a3 (16 * mm + p)) q * (w (p % 4) * w' (p / 4))) i)) (nI i)) (fun _ _ => True) 16 0 () (by omega) trivial
    (fun n _ _ => pk_le 16 16 (fun _ => H) (fun z => absurd z (by omega)))
    (fun n i _ hi _ hn => pk_le 16 i (fun z => absurd z (by omega)) (fun _ => ?_))
  have hn' : wX_waysOf_36 post (nI mm) (nI k) (nI q) v1 v2 v3 v4 v5 v6 v7 a1 a2 a3 a4 a5 a6 a7 a8 a9 a10 a11 a12 a13 a14 a15 a16 a17 a18 a19 a20 a21 n (nI (tl_sg (fun p => tl_bt (tl_N a3 (16 * mm + p)) q * (w (p % 4) * w' (p / 4))) i + tl_bt (tl_N a3 (16 * mm + i)) q * (w (i % 4) * w' (i / 4)))) (nI (i + 1)) := hn () trivial
  have ek := nI_clamp (show k < 2 ^ 31 by omega)
  have i1 := pk_in (x := nI k) k 12 hk
  have ei : (4 : Int32) * nI x + (nI i &&& 3) = nI (4 * x + i % 4) := by rw [tl_k3 (by omega), tl_m4]
  have ej : (4 : Int32) * nI y + (nI i >>> ((2 : Int32) &&& 31)) = nI (4 * y + i / 4) := by rw [tl_k2 (by omega), tl_m4]
  have em := tl_m16 mm i
  have hb := tl_R_at r3 (show 16 * mm + i < 32 by omega)
  rw [ek, e5, e6, ei, nI_clamp (show 4 * x + i % 4 < 2 ^ 31 by omega), hw (i % 4) (by omega)]
  refine And.intro i1 (And.intro (pk_in (4 * x + i % 4) 48 (by omega)) (nm_e (And.intro i1 (br_f (by decide) (And.intro i1 (br_t (by rw [ek, e5]; rfl) (And.intro (pk_in (16 * mm + i) 32 (by omega) em) ?_)))))))
  rw [em, nI_clamp (show 16 * mm + i < 2 ^ 31 by omega), hb.1]
  refine ek_if (tl_bit _ hb.2 q hq) (fun b => ?_) (fun b => ?_)
  · rw [ek, e7, ej, nI_clamp (show 4 * y + i / 4 < 2 ^ 31 by omega), hw' (i / 4) (by omega)]
    rw [show tl_bt (tl_N a3 (16 * mm + i)) q = 1 from if_pos b, Nat.one_mul] at hn'
    exact And.intro i1 (And.intro (pk_in (4 * y + i / 4) 48 (by omega)) (nm_r (by rw [pk_mul, nI_add]) (nm_r (nI_1 i) hn')))
  · rw [show tl_bt (tl_N a3 (16 * mm + i)) q = 0 from if_neg b, Nat.zero_mul, Nat.add_zero] at hn'
    exact nm_r (nI_1 i) hn'
theorem tw_waysOf {post : Int32 → Prop} {v1 v2 v3 v4 v5 v6 v7 : Int32} {a1 a2 a3 a4 a5 a6 a7 a8 a9 a10 a11 a12 a13 a14 a15 a16 a17 a18 a19 a20 a21 : Nat → Int32} {x y z : Int32} {mm m h k q : Nat} (hx : x = nI mm) (hy : y = nI k) (hz : z = nI q) (hmm : mm < 2) (hk : k < m) (hq : q < 4) (T : tl_T m h a5 a6 a7 a8 a9) (r1 : tl_R a1 4 16) (r2 : tl_R a2 8 16) (r3 : tl_R a3 32 16)
    (hw : ∀ j, j < 4 * k → a13 j = nI (tl_wb a1 a2 a3 a5 a6 a7 mm (j / 4) (j % 4)))
    (H : post (nI (tl_wb a1 a2 a3 a5 a6 a7 mm k q))) : wpX_waysOf post (v1, v2, v3, v4, v5, v6, v7, a1, a2, a3, a4, a5, a6, a7, a8, a9, a10, a11, a12, a13, a14, a15, a16, a17, a18, a19, a20, a21) x y z := by
  subst hx
  subst hy
  subst hz
  obtain ⟨t1, t2, t5, t6, t7, t8, t9, tk, tz, ts⟩ := T
  obtain ⟨e5, c5⟩ := tl_R_at t5 hk
  obtain ⟨e6, c6⟩ := tl_R_at t6 hk
  obtain ⟨e7, c7⟩ := tl_R_at t7 hk
  obtain ⟨k1, k2, k3⟩ := tk k hk
  have ek := nI_clamp (show k < 2 ^ 31 by omega)
  have i1 := pk_in (x := nI k) k 12 (by omega)
  have hw2 : ∀ j, j < k → ∀ p, p < 4 → a13 (4 * j + p) = nI (tl_wb a1 a2 a3 a5 a6 a7 mm j p) := by
    intro j hj p hp
    have e := hw (4 * j + p) (by omega)
    rw [show (4 * j + p) / 4 = j by omega, show (4 * j + p) % 4 = p by omega] at e
    exact e
  rw [tl_wb_eq tk t1 hk] at H
  refine And.intro i1 ?_
  refine pk_le 2 (tl_N a5 k) (fun z => ?_) (fun z => ?_) rfl (by rw [ek]; exact e5)
  · by_cases z2 : tl_N a5 k = 2
    · rw [z2, tl_wop_2] at H
      rw [z2] at e5
      exact tw_ways2 hmm (by omega) hq e5 e6 c6 r2 (hw2 _ (k2 z)) H
    · have z3 : tl_N a5 k = 3 := by omega
      rw [z3, tl_wop_3] at H
      rw [z3] at e5
      exact tw_ways3 hmm (by omega) hq e5 e6 c6 e7 c7 r3 (hw2 _ (k2 z)) (hw2 _ (k3 z3)) H
  · rw [tl_wop_0 z] at H
    have em := tl_m2 mm (tl_N a5 k)
    have hb := tl_R_at r1 (show 2 * mm + tl_N a5 k < 4 by omega)
    rw [ek, e5]
    refine And.intro i1 (And.intro (pk_in (2 * mm + tl_N a5 k) 4 (by omega) em) ?_)
    rw [em, nI_clamp (show 2 * mm + tl_N a5 k < 2 ^ 31 by omega), hb.1, tl_bitv _ hb.2 q hq]
    exact H
/-- how many runs of automaton mm end in a state of e -/
def tl_rn (a1 a2 a3 a5 a6 a7 : Nat → Int32) (mm e k : Nat) : Nat := tl_sg (fun q => tl_bt e q * tl_wb a1 a2 a3 a5 a6 a7 mm k q) 4
theorem tl_rn_lt {a1 a2 a3 a5 a6 a7 a8 a9 : Nat → Int32} {mm e k m h : Nat} (T : tl_T m h a5 a6 a7 a8 a9) (hk : k < m) : tl_rn a1 a2 a3 a5 a6 a7 mm e k < 2 ^ 31 := by
  obtain ⟨t1, t2, t5, t6, t7, t8, t9, tk, tz, ts⟩ := T
  have h1 : tl_rn a1 a2 a3 a5 a6 a7 mm e k ≤ 4 * 4 ^ 11 := by
    unfold tl_rn
    rw [← tl_sg_const (4 ^ 11) 4]
    refine tl_sg_le 4 (fun q _ => ?_)
    have u1 := tl_ws_le (f1 := tl_N a1) (f2 := tl_N a2) (f3 := tl_N a3) (mm := mm) tk t1 tz k hk q
    have u2 : 4 ^ (tl_N a8 k - 1) ≤ 4 ^ 11 := Nat.pow_le_pow_right (by omega) (by have := (tl_R_at t8 hk).2; omega)
    have u3 := Nat.mul_le_mul (tl_bt_le e q) (Nat.le_trans u1 u2)
    rw [Nat.one_mul] at u3
    exact u3
  omega
theorem tl_rn_pos {a1 a2 a3 a5 a6 a7 a8 a9 : Nat → Int32} {mm e k m h : Nat} (T : tl_T m h a5 a6 a7 a8 a9) (r1 : tl_R a1 4 16) (r2 : tl_R a2 8 16) (r3 : tl_R a3 32 16) (hmm : mm < 2) (he : e < 16) (hk : k < m) : 0 < tl_rn a1 a2 a3 a5 a6 a7 mm e k ↔ ¬ (nI (tl_st mm (tl_vb a1 a2 a3 a5 a6 a7 k).1) &&& nI e = 0) := by
  obtain ⟨t1, t2, t5, t6, t7, t8, t9, tk, tz, ts⟩ := T
  have hl := tl_vb_lt r1 r2 r3 tk t1 hk
  rw [tl_and _ (tl_st_lt hl) e he]
  unfold tl_rn
  rw [tl_sg_pos]
  constructor
  · intro ⟨q, hq, h0⟩ hn
    have u1 : 0 < tl_bt e q := Nat.pos_of_ne_zero (fun z => by rw [z, Nat.zero_mul] at h0; omega)
    have u2 : 0 < tl_wb a1 a2 a3 a5 a6 a7 mm k q := Nat.pos_of_ne_zero (fun z => by rw [z, Nat.mul_zero] at h0; omega)
    exact hn q hq ⟨(tl_ws_pos tk t1 (tl_B_R r1) (tl_B_R r2) (tl_B_R r3) hmm k hk q hq).mp u2, (tl_bt_pos _ _).mp u1⟩
  · intro hn
    apply Classical.byContradiction
    intro hc
    apply hn
    intro q hq hb
    exact hc ⟨q, hq, Nat.mul_pos ((tl_bt_pos _ _).mpr hb.2) ((tl_ws_pos tk t1 (tl_B_R r1) (tl_B_R r2) (tl_B_R r3) hmm k hk q hq).mpr hb.1)⟩
theorem tw_runs {post : Int32 → St1 → Prop} {v3 v4 v5 v6 v7 : Int32} {a1 a2 a3 a4 a5 a6 a7 a8 a9 a10 a11 a12 a13 a14 a15 a16 a17 a18 a19 a20 a21 : Nat → Int32} {x : Int32} {mm m h e : Nat} (hx : x = nI mm) (hmm : mm < 2) (hh : 0 < h) (T : tl_T m h a5 a6 a7 a8 a9) (r1 : tl_R a1 4 16) (r2 : tl_R a2 8 16) (r3 : tl_R a3 32 16) (h4 : a4 mm = nI e) (he : e < 16)
    (H : ∀ s, post (nI (tl_rn a1 a2 a3 a5 a6 a7 mm e (tl_tp h a9))) (nI m, nI h, v3, v4, v5, v6, v7, a1, a2, a3, a4, a5, a6, a7, a8, a9, a10, a11, a12, s, a14, a15, a16, a17, a18, a19, a20, a21)) : wpX_runs post (nI m, nI h, v3, v4, v5, v6, v7, a1, a2, a3, a4, a5, a6, a7, a8, a9, a10, a11, a12, a13, a14, a15, a16, a17, a18, a19, a20, a21) x := by
  subst hx
  obtain ⟨et, ht⟩ := tl_tp_at T hh
  have t1 := T.1
  have t2 := T.2.1
  unfold wpX_runs
  refine tw_badAutomaton rfl hmm (br_t rfl (tw_topmost (by omega) (fun z => absurd z (by omega)) (fun z => ?_)))
  rw [et]
  refine br_t (nI_pos' (by omega)) ?_
  have e1 : (4 : Int32) * (nI (tl_tp h a9) + 1) = nI (4 * (tl_tp h a9 + 1)) := by
    rw [nI_1]
    exact pk_mul 4 _
  refine pk_loop (fun n' j s => wX_runs_24 post (nI mm) (nI (tl_tp h a9)) (nI m) (nI h) v3 v4 v5 v6 v7 n' (nI j) a1 a2 a3 a4 a5 a6 a7 a8 a9 a10 a11 a12 s a14 a15 a16 a17 a18 a19 a20 a21) (fun i s => ∀ j, j < i → s j = nI (tl_wb a1 a2 a3 a5 a6 a7 mm (j / 4) (j % 4))) (4 * (tl_tp h a9 + 1)) 0 a13 (by omega) (fun j hj => absurd hj (by omega))
    (fun n' s hs => pk_le (4 * (tl_tp h a9 + 1)) (4 * (tl_tp h a9 + 1)) (fun _ => ?_) (fun z => absurd z (by omega)) e1)
    (fun n' j s hj hs hw => pk_le (4 * (tl_tp h a9 + 1)) j (fun z => absurd z (by omega)) (fun _ => ?_) e1)
  · refine pk_loop (σ := Unit) (fun n' i _ => wX_runs_61 post (nI mm) (nI (tl_tp h a9)) (nI m) (nI h) v3 v4 v5 v6 v7 a1 a2 a3 a4 a5 a6 a7 a8 a9 a10 a11 a12 s a14 a15 a16 a17 a18 a19 a20 a21 n' (nI (tl_sg (fun q => tl_bt e q * tl_wb a1 a2 a3 a5 a6 a7 mm (tl_tp h a9) q) i)) (nI i)) (fun _ _ => True) 4 0 () (by omega) trivial
      (fun n' _ _ => pk_le 4 4 (fun _ => H s) (fun z => absurd z (by omega)))
      (fun n' i _ hi _ hn => pk_le 4 i (fun z => absurd z (by omega)) (fun _ => And.intro (pk_in mm 2 hmm) ?_))
    have hn' : wX_runs_61 post (nI mm) (nI (tl_tp h a9)) (nI m) (nI h) v3 v4 v5 v6 v7 a1 a2 a3 a4 a5 a6 a7 a8 a9 a10 a11 a12 s a14 a15 a16 a17 a18 a19 a20 a21 n' (nI (tl_sg (fun q => tl_bt e q * tl_wb a1 a2 a3 a5 a6 a7 mm (tl_tp h a9) q) i + tl_bt e i * tl_wb a1 a2 a3 a5 a6 a7 mm (tl_tp h a9) i)) (nI (i + 1)) := hn () trivial
    rw [nI_clamp (show mm < 2 ^ 31 by omega), h4]
    refine ek_if (tl_bit e he i hi) (fun b => ?_) (fun b => ?_)
    · have em := tl_m4 (tl_tp h a9) i
      have es := hs (4 * tl_tp h a9 + i) (by omega)
      rw [show (4 * tl_tp h a9 + i) / 4 = tl_tp h a9 by omega, show (4 * tl_tp h a9 + i) % 4 = i by omega] at es
      rw [show tl_bt e i = 1 from if_pos b, Nat.one_mul, ← nI_add] at hn'
      refine And.intro (pk_in (4 * tl_tp h a9 + i) 48 (by omega) em) (nm_r ?_ (nm_r (nI_1 i) hn'))
      rw [em, nI_clamp (show 4 * tl_tp h a9 + i < 2 ^ 31 by omega), es]
    · rw [show tl_bt e i = 0 from if_neg b, Nat.zero_mul, Nat.add_zero] at hn'
      exact nm_r (nI_1 i) hn'
  · refine tw_waysOf rfl (tl_k2 (by omega)) (tl_k3 (by omega)) hmm (show j / 4 < m by omega) (show j % 4 < 4 by omega) T r1 r2 r3 (fun i hi => hs i (by omega)) (And.intro (pk_in j 48 (by omega)) (nm_e (nm_r (nI_1 j) (hw _ ?_))))
    rw [nI_clamp (show j < 2 ^ 31 by omega)]
    exact tl_fill (f := fun j => nI (tl_wb a1 a2 a3 a5 a6 a7 mm (j / 4) (j % 4))) hs rfl
theorem tw_ended {post : Int32 → St1 → Prop} {v3 v4 v5 v6 v7 : Int32} {a1 a2 a3 a4 a5 a6 a7 a8 a9 a10 a11 a12 a13 a14 a15 a16 a17 a18 a19 a20 a21 : Nat → Int32} {x y : Int32} {mm m h e : Nat} (hx : x = nI mm) (hy : y = nI e) (hmm : mm < 2) (hh : 0 < h) (T : tl_T m h a5 a6 a7 a8 a9) (r1 : tl_R a1 4 16) (r2 : tl_R a2 8 16) (r3 : tl_R a3 32 16) (h4 : a4 mm = nI e) (he : e < 16)
    (H : ∀ s s', post 1 (nI m, nI h, v3, v4, v5, v6, v7, a1, a2, a3, a4, a5, a6, a7, a8, a9, a10, a11, s, s', a14, a15, a16, a17, a18, a19, a20, a21)) : wpL_ended post (nI m, nI h, v3, v4, v5, v6, v7, a1, a2, a3, a4, a5, a6, a7, a8, a9, a10, a11, a12, a13, a14, a15, a16, a17, a18, a19, a20, a21) x y := by
  subst hx
  subst hy
  obtain ⟨et, ht⟩ := tl_tp_at T hh
  unfold wpL_ended
  refine tw_states rfl hmm hh T r1 r2 r3 (fun s => ?_)
  refine tw_size T (fun z => absurd z (by omega)) (fun _ => br_c (fun _ => H s a13) (fun _ => ?_))
  refine tw_runs rfl hmm hh T r1 r2 r3 h4 he (fun s' => ?_)
  have hl := tl_rn_lt (a1 := a1) (a2 := a2) (a3 := a3) (mm := mm) (e := e) T ht
  have hp := tl_rn_pos T r1 r2 r3 hmm he ht
  refine pk_le (tl_rn a1 a2 a3 a5 a6 a7 mm e (tl_tp h a9)) 0 (fun z => ?_) (fun z => ?_)
  · have hc : nI (tl_st mm (tl_vb a1 a2 a3 a5 a6 a7 (tl_tp h a9)).1) &&& nI e = 0 := Classical.byContradiction (fun hc => by have := hp.mpr hc; omega)
    exact br_t hc (br_t rfl (H s s'))
  · exact br_f (hp.mp z) (br_t rfl (H s s'))
end
section
/-! numbers of trees -/
theorem tl_vb_sz {a1 a2 a3 a5 a6 a7 a8 a9 : Nat → Int32} {m h : Nat} (T : tl_T m h a5 a6 a7 a8 a9) : ∀ k, k < m → (tl_vb a1 a2 a3 a5 a6 a7 k).2.1 = tl_N a8 k := by
  obtain ⟨t1, t2, t5, t6, t7, t8, t9, tk, tz, ts⟩ := T
  intro k
  induction k using Nat.strongRecOn with
  | ind k ih =>
    intro hk
    obtain ⟨k1, k2, k3⟩ := tk k hk
    rw [tl_vb_eq tk t1 hk, (tz k hk).2]
    by_cases hc : tl_N a5 k < 2
    · rw [tl_op_0 hc, if_pos hc]
      rfl
    · have ha := k2 (by omega)
      rw [if_neg hc]
      by_cases hc2 : tl_N a5 k = 2
      · rw [if_pos hc2, hc2, tl_op_2, ← ih _ ha (by omega)]
        rfl
      · have hc3 : tl_N a5 k = 3 := by omega
        have hb := k3 hc3
        rw [if_neg hc2, hc3, tl_op_3, ← ih _ ha (by omega), ← ih _ hb (by omega)]
        rfl
theorem tw_rank139 {post : Int32 → St1 → Prop} {J : Int32 → (Nat → Int32) → (Nat → Int32) → (Nat → Int32) → (Nat → Int32) → (Nat → Int32) → (Nat → Int32) → (Nat → Int32) → (Nat → Int32) → (Nat → Int32) → (Nat → Int32) → (Nat → Int32) → (Nat → Int32) → (Nat → Int32) → (Nat → Int32) → (Nat → Int32) → (Nat → Int32) → (Nat → Int32) → (Nat → Int32) → (Nat → Int32) → (Nat → Int32) → (Nat → Int32) → Prop} {v1 v2 v3 v4 v5 v6 v7 : Int32} {a1 a2 a3 a4 a5 a6 a7 a8 a9 a10 a11 a12 a13 a14 a15 a16 a17 a18 a19 a20 a21 : Nat → Int32} {x1 : Int32} {k n x sa base : Nat} {f : Nat → Int32} (hk : k < 12) (hx : x < 12) (e8 : a8 x = nI sa) (hsa : 1 ≤ sa) (hn : sa + 1 < n) (hn2 : n ≤ 12) (hA : ∀ k, k < 13 → a15 k = nI (tl_all k))
    (hf : ∀ j, j < k → a12 j = f j) (hb : a12 k = nI base) (H : ∀ s, (∀ j, j < k → s j = f j) → s k = nI (base + tl_q n sa) → J (nI (k + 1)) a1 a2 a3 a4 a5 a6 a7 a8 a9 a10 a11 s a13 a14 a15 a16 a17 a18 a19 a20 a21) : ∃ fu, wX_rank_139 post J x1 (nI k) (nI n) (nI x) v1 v2 v3 v4 v5 v6 v7 fu 1 a1 a2 a3 a4 a5 a6 a7 a8 a9 a10 a11 a12 a13 a14 a15 a16 a17 a18 a19 a20 a21 := by
  refine pk_loop (fun n' i s => wX_rank_139 post J x1 (nI k) (nI n) (nI x) v1 v2 v3 v4 v5 v6 v7 n' (nI i) a1 a2 a3 a4 a5 a6 a7 a8 a9 a10 a11 s a13 a14 a15 a16 a17 a18 a19 a20 a21) (fun i s => 1 ≤ i ∧ (∀ j, j < k → s j = f j) ∧ s k = nI (base + tl_q n i)) sa 1 a12 hsa ⟨Nat.le_refl _, hf, hb⟩
    (fun n' s hs => And.intro (pk_in x 12 hx) (pk_le sa sa (fun _ => nm_r (nI_1 k) (H s hs.2.1 hs.2.2)) (fun z => absurd z (by omega)) (by rw [nI_clamp (by omega)]; exact e8)))
    (fun n' i s hi hs hw => And.intro (pk_in x 12 hx) (pk_le sa i (fun z => absurd z (by omega)) (fun _ => ?_) (by rw [nI_clamp (by omega)]; exact e8)))
  obtain ⟨hi1, hs1, hs2⟩ := hs
  have ek := nI_clamp (show k < 2 ^ 31 by omega)
  have e1 : nI n - 1 - nI i = nI (n - 1 - i) := by rw [tl_s1 (by omega), pk_sub (by omega)]
  refine And.intro (pk_in k 12 hk) (And.intro (pk_in i 13 (by omega)) (And.intro (pk_in (n - 1 - i) 13 (by omega) e1) (And.intro (pk_in k 12 hk) (nm_e (nm_r (nI_1 i) (hw _ ⟨by omega, ?_, ?_⟩))))))
  · intro j hj
    rw [ek, pk_un (by omega)]
    exact hs1 j hj
  · rw [ek, pk_us, hs2, e1, nI_clamp (show i < 2 ^ 31 by omega), nI_clamp (show n - 1 - i < 2 ^ 31 by omega), hA i (by omega), hA (n - 1 - i) (by omega), pk_mul, nI_add]
    congr 1
    obtain ⟨i', e⟩ : ∃ i', i = i' + 1 := ⟨i - 1, by omega⟩
    subst e
    show base + tl_q n (i' + 1) + _ = base + (tl_sg (fun i => tl_all (i + 1) * tl_all (n - 2 - i)) i' + tl_all (i' + 1) * tl_all (n - 2 - i'))
    rw [show n - 1 - (i' + 1) = n - 2 - i' by omega]
    show base + tl_sg (fun i => tl_all (i + 1) * tl_all (n - 2 - i)) i' + _ = _
    omega
theorem tw_rank {post : Int32 → St1 → Prop} {v3 v4 v5 v6 v7 : Int32} {a1 a2 a3 a4 a5 a6 a7 a8 a9 a10 a11 a12 a13 a14 a15 a16 a17 a18 a19 a20 a21 : Nat → Int32} {m h : Nat} (hh : 0 < h) (T : tl_T m h a5 a6 a7 a8 a9) (hA : ∀ k, k < 13 → a15 k = nI (tl_all k))
    (H : ∀ s, post (nI (tl_vb a1 a2 a3 a5 a6 a7 (tl_tp h a9)).2.2) (nI m, nI h, v3, v4, v5, v6, v7, a1, a2, a3, a4, a5, a6, a7, a8, a9, a10, a11, s, a13, a14, a15, a16, a17, a18, a19, a20, a21)) : wpX_rank post (nI m, nI h, v3, v4, v5, v6, v7, a1, a2, a3, a4, a5, a6, a7, a8, a9, a10, a11, a12, a13, a14, a15, a16, a17, a18, a19, a20, a21) := by
  obtain ⟨et, ht⟩ := tl_tp_at T hh
  have sz := tl_vb_sz (a1 := a1) (a2 := a2) (a3 := a3) T
  obtain ⟨t1, t2, t5, t6, t7, t8, t9, tk, tz, ts⟩ := T
  unfold wpX_rank
  refine tw_topmost (by omega) (fun z => absurd z (by omega)) (fun z => ?_)
  rw [et]
  refine br_t (nI_pos' (by omega)) ?_
  refine pk_loop (fun n' k s => wX_rank_14 post (nI (tl_tp h a9)) (nI m) (nI h) v3 v4 v5 v6 v7 n' (nI k) a1 a2 a3 a4 a5 a6 a7 a8 a9 a10 a11 s a13 a14 a15 a16 a17 a18 a19 a20 a21) (fun k s => ∀ j, j < k → s j = nI (tl_vb a1 a2 a3 a5 a6 a7 j).2.2) (tl_tp h a9 + 1) 0 a12 (by omega) (fun j hj => absurd hj (by omega))
    (fun n' s hs => pk_lt (tl_tp h a9) (tl_tp h a9 + 1) (fun _ => And.intro (pk_in (tl_tp h a9) 12 (by omega)) ?_) (fun z => absurd z (by omega)))
    (fun n' k s hk hs hw => pk_lt (tl_tp h a9) k (fun z => absurd z (by omega)) (fun _ => ?_))
  · rw [nI_clamp (by omega), hs _ (by omega)]
    exact H s
  · have hkm : k < m := by omega
    obtain ⟨e5, c5⟩ := tl_R_at t5 hkm
    obtain ⟨e6, c6⟩ := tl_R_at t6 hkm
    obtain ⟨e7, c7⟩ := tl_R_at t7 hkm
    obtain ⟨e8, c8⟩ := tl_R_at t8 hkm
    obtain ⟨k1, k2, k3⟩ := tk k hkm
    obtain ⟨z1, z2⟩ := tz k hkm
    have ek := nI_clamp (show k < 2 ^ 31 by omega)
    have i1 := pk_in (x := nI k) k 12 (by omega)
    have key : ∀ v, v = nI (tl_vb a1 a2 a3 a5 a6 a7 k).2.2 → wX_rank_14 post (nI (tl_tp h a9)) (nI m) (nI h) v3 v4 v5 v6 v7 n' (nI (k + 1)) a1 a2 a3 a4 a5 a6 a7 a8 a9 a10 a11 (upd s k v) a13 a14 a15 a16 a17 a18 a19 a20 a21 := fun v hv => hw _ (tl_fill (f := fun j => nI (tl_vb a1 a2 a3 a5 a6 a7 j).2.2) hs hv)
    have ev := tl_vb_eq (a1 := a1) (a2 := a2) (a3 := a3) tk t1 hkm
    rw [ek, e5, e6, e7, e8]
    refine And.intro i1 (nm_e (And.intro i1 (nm_e (And.intro i1 (nm_e (And.intro i1 ?_))))))
    refine pk_le 2 (tl_N a5 k) (fun z => And.intro i1 (pk_eq (tl_N a5 k) 2 (fun y => ?_) (fun y => ?_))) (fun z => And.intro i1 ?_)
    · have ha := k2 z
      rw [y, tl_op_2] at ev
      rw [nI_clamp (show tl_N a6 k < 2 ^ 31 by omega)]
      exact And.intro (pk_in (tl_N a6 k) 12 c6) (And.intro i1 (nm_e (nm_r (nI_1 k) (key _ (by rw [ev, hs _ ha]; rfl)))))
    · have y3 : tl_N a5 k = 3 := by omega
      have ha := k2 z
      have hb := k3 y3
      rw [y3, tl_op_3] at ev
      rw [if_neg (by omega), if_neg (by omega)] at z2
      obtain ⟨ea, ca⟩ := tl_R_at t8 (show tl_N a6 k < m by omega)
      obtain ⟨eb, cb⟩ := tl_R_at t8 (show tl_N a7 k < m by omega)
      have za := (tz _ (show tl_N a6 k < m by omega)).1
      have zb := (tz _ (show tl_N a7 k < m by omega)).1
      have e1 : nI (tl_N a8 k) - 1 = nI (tl_N a8 k - 1) := tl_s1 (by omega)
      rw [nI_clamp (show tl_N a6 k < 2 ^ 31 by omega), nI_clamp (show tl_N a7 k < 2 ^ 31 by omega), e1, nI_clamp (show tl_N a8 k - 1 < 2 ^ 31 by omega), eb, nI_clamp (show tl_N a8 (tl_N a7 k) < 2 ^ 31 by omega)]
      refine And.intro (pk_in (tl_N a8 k - 1) 13 (by omega)) (And.intro (pk_in (tl_N a6 k) 12 c6) (And.intro (pk_in (tl_N a7 k) 12 c7) (And.intro (pk_in (tl_N a8 (tl_N a7 k)) 13 cb) (And.intro (pk_in (tl_N a7 k) 12 c7) (And.intro i1 (nm_e ?_))))))
      refine tw_rank139 (f := fun j => nI (tl_vb a1 a2 a3 a5 a6 a7 j).2.2) (base := tl_all (tl_N a8 k - 1) + (tl_vb a1 a2 a3 a5 a6 a7 (tl_N a6 k)).2.2 * tl_all (tl_N a8 (tl_N a7 k)) + (tl_vb a1 a2 a3 a5 a6 a7 (tl_N a7 k)).2.2) (by omega) c6 ea za (by omega) (by omega) hA (fun j hj => by rw [pk_un (by omega)]; exact hs j hj) ?_ (fun s' h1 h2 => hw s' (fun j hj => ?_))
      · rw [pk_us, hA _ (by omega), hA _ (by omega), hs _ ha, hs _ hb, pk_mul, nI_add, nI_add]
      · by_cases e : j = k
        · rw [e, h2, ev]
          show _ = nI (tl_all ((tl_vb a1 a2 a3 a5 a6 a7 (tl_N a6 k)).2.1 + (tl_vb a1 a2 a3 a5 a6 a7 (tl_N a7 k)).2.1) + (tl_vb a1 a2 a3 a5 a6 a7 (tl_N a6 k)).2.2 * tl_all (tl_vb a1 a2 a3 a5 a6 a7 (tl_N a7 k)).2.1 + (tl_vb a1 a2 a3 a5 a6 a7 (tl_N a7 k)).2.2 + tl_q ((tl_vb a1 a2 a3 a5 a6 a7 (tl_N a6 k)).2.1 + (tl_vb a1 a2 a3 a5 a6 a7 (tl_N a7 k)).2.1 + 1) (tl_vb a1 a2 a3 a5 a6 a7 (tl_N a6 k)).2.1)
          rw [sz _ (show tl_N a6 k < m by omega), sz _ (show tl_N a7 k < m by omega), z2, Nat.add_sub_cancel]
        · exact h1 j (by omega)
    · rw [tl_op_0 z] at ev
      exact And.intro i1 (nm_e (nm_r (nI_1 k) (key _ (by rw [ev]; rfl))))
end
section
/-! finding: weights of pairs at a level -/
theorem tw_start {post : St1 → Prop} {v1 v2 v3 v4 v5 v6 v7 : Int32} {a1 a2 a3 a4 a5 a6 a7 a8 a9 a10 a11 a12 a13 a14 a15 a16 a17 a18 a19 a20 a21 : Nat → Int32} {x : Int32} {l s : Nat} (hx : x = nI s) (hs : s < 128) (hl : v4 + 1 = nI l) (hl8 : l < 8) (H : post (v1, v2, v3, nI l, v5, v6, v7, a1, a2, a3, a4, a5, a6, a7, a8, a9, a10, a11, a12, a13, a14, a15, a16, upd a17 l (nI s), upd a18 l 0, a19, a20, a21)) : wpX_start post (v1, v2, v3, v4, v5, v6, v7, a1, a2, a3, a4, a5, a6, a7, a8, a9, a10, a11, a12, a13, a14, a15, a16, a17, a18, a19, a20, a21) x := by
  subst hx
  have el := nI_clamp (show l < 2 ^ 31 by omega)
  exact nm_r hl (And.intro (pk_in l 8 hl8) (nm_r (e' := upd a17 l (nI s)) (by rw [el, tl_b8 s hs]) (And.intro (pk_in l 8 hl8) (nm_r (e' := upd a18 l 0) (by rw [el]) H))))
theorem tw_spell {post : St1 → Prop} {v1 v2 v3 v4 v5 v6 : Int32} {a1 a2 a3 a4 a5 a6 a7 a8 a9 a10 a11 a12 a13 a14 a15 a16 a17 a18 a19 a20 a21 : Nat → Int32} {x : Int32} {c d : Nat} (hx : x = nI d) (hd : d < 128) (hc : c < 12) (H : post (v1, v2, v3, v4, v5, v6, nI (c + 1), a1, a2, a3, a4, a5, a6, a7, a8, a9, a10, a11, a12, a13, a14, a15, a16, a17, a18, a19, a20, upd a21 c (nI d))) : wpX_spell post (v1, v2, v3, v4, v5, v6, nI c, a1, a2, a3, a4, a5, a6, a7, a8, a9, a10, a11, a12, a13, a14, a15, a16, a17, a18, a19, a20, a21) x := by
  subst hx
  have ec := nI_clamp (show c < 2 ^ 31 by omega)
  exact And.intro (pk_in c 12 hc) (nm_r (e' := upd a21 c (nI d)) (by rw [ec, tl_b8 d hd]) (nm_r (nI_1 c) H))
/-- the sums that are wanted, over the trees -/
def tl_m1 (f1 f2 f3 : Nat → Nat) (w : Nat → Nat) (s : Nat) : Nat := tl_sm (fun b => w (tl_P1 f2 b.2.1)) (tl_LL f1 f2 f3 s)
def tl_mb (f1 f2 f3 : Nat → Nat) (w : Nat → Nat) (one s : Nat) : Nat := tl_sm (fun b => w (tl_P2 f3 one b.2.1)) (tl_LL f1 f2 f3 s)
def tl_md (f1 f2 f3 : Nat → Nat) (w : Nat → Nat) (s i : Nat) : Nat := tl_sm (fun a => tl_mb f1 f2 f3 w a.2.1 (s - 1 - i)) (tl_LL f1 f2 f3 i)
theorem tl_cs {f1 f2 f3 : Nat → Nat} (h1 : tl_B f1 4) (h2 : tl_B f2 8) (h3 : tl_B f3 32) {s : Nat} (hs : s ≤ 7) (g : Nat → Nat) : tl_sg (fun p => tl_cc f1 f2 f3 s p * g p) 256 = tl_sm (fun x => g x.2.1) (tl_LL f1 f2 f3 s) :=
  tl_c_sum (fun x : List Nat × Nat × Nat × Nat => x.2.1) g (tl_LL f1 f2 f3 s) (n := 256) (fun x hx => tl_LL_pair h1 h2 h3 hs hx)
theorem tw_besides {post : Int32 → Prop} {v1 v2 v3 v5 v6 v7 : Int32} {a1 a2 a3 a4 a5 a6 a7 a8 a9 a10 a11 a12 a13 a14 a15 a16 a17 a18 a19 a20 a21 : Nat → Int32} {x y : Int32} {one s l : Nat} {w : Nat → Nat} (hx : x = nI one) (hy : y = nI s) (ho : one < 256) (hs : s ≤ 7) (hl : l < 8) (r1 : tl_R a1 4 16) (r2 : tl_R a2 8 16) (r3 : tl_R a3 32 16) (hc : tl_CT a1 a2 a3 a14) (hw : ∀ p, p < 256 → a16 (256 * l + p) = nI (w p))
    (H : post (nI (tl_mb (tl_N a1) (tl_N a2) (tl_N a3) w one s))) : wpX_besides post (v1, v2, v3, nI l, v5, v6, v7, a1, a2, a3, a4, a5, a6, a7, a8, a9, a10, a11, a12, a13, a14, a15, a16, a17, a18, a19, a20, a21) x y := by
  subst hx
  subst hy
  have hH : post (nI (tl_sg (fun p => tl_cc (tl_N a1) (tl_N a2) (tl_N a3) s p * w (tl_P2 (tl_N a3) one p)) 256)) := by
    rw [tl_cs (tl_B_R r1) (tl_B_R r2) (tl_B_R r3) hs (fun p => w (tl_P2 (tl_N a3) one p))]
    exact H
  refine pk_loop (σ := Unit) (fun n' i _ => wX_besides_5 post (nI one) (nI s) v1 v2 v3 (nI l) v5 v6 v7 a1 a2 a3 a4 a5 a6 a7 a8 a9 a10 a11 a12 a13 a14 a15 a16 a17 a18 a19 a20 a21 n' (nI (tl_sg (fun p => tl_cc (tl_N a1) (tl_N a2) (tl_N a3) s p * w (tl_P2 (tl_N a3) one p)) i)) (nI i)) (fun _ _ => True) 256 0 () (by omega) trivial
    (fun n _ _ => pk_le 256 256 (fun _ => hH) (fun z => absurd z (by omega)))
    (fun n' i _ hi _ hn => pk_le 256 i (fun z => absurd z (by omega)) (fun _ => ?_))
  have hn' : wX_besides_5 post (nI one) (nI s) v1 v2 v3 (nI l) v5 v6 v7 a1 a2 a3 a4 a5 a6 a7 a8 a9 a10 a11 a12 a13 a14 a15 a16 a17 a18 a19 a20 a21 n' (nI (tl_sg (fun p => tl_cc (tl_N a1) (tl_N a2) (tl_N a3) s p * w (tl_P2 (tl_N a3) one p)) i + tl_cc (tl_N a1) (tl_N a2) (tl_N a3) s i * w (tl_P2 (tl_N a3) one i))) (nI (i + 1)) := hn () trivial
  have em := tl_m256 s i
  have b := tl_cc_le (tl_N a1) (tl_N a2) (tl_N a3) hs i
  refine And.intro (pk_in (256 * s + i) 2048 (by omega) em) (nm_r (e' := nI (tl_cc (tl_N a1) (tl_N a2) (tl_N a3) s i)) (by rw [em, nI_clamp (by omega)]; exact hc s hs i hi) (pk_le (tl_cc (tl_N a1) (tl_N a2) (tl_N a3) s i) 0 (fun z => ?_) (fun z => ?_)))
  · rw [Nat.le_zero.mp z, Nat.zero_mul, Nat.add_zero] at hn'
    exact nm_r (nI_1 i) hn'
  · have hp := tl_P2_lt (tl_B_R r3) one i
    have e2 := tl_m256 l (tl_P2 (tl_N a3) one i)
    refine tw_twoPair rfl rfl ho hi r3 (And.intro (pk_in (256 * l + tl_P2 (tl_N a3) one i) 2048 (by omega) e2) (nm_r ?_ (nm_r (nI_1 i) hn')))
    rw [e2, nI_clamp (by omega), hw _ hp, pk_mul, nI_add]
theorem tw_withOne {post : Int32 → Prop} {v1 v2 v3 v5 v6 v7 : Int32} {a1 a2 a3 a4 a5 a6 a7 a8 a9 a10 a11 a12 a13 a14 a15 a16 a17 a18 a19 a20 a21 : Nat → Int32} {y : Int32} {s l : Nat} {w : Nat → Nat} (hy : y = nI s) (hs1 : 1 ≤ s) (hs : s ≤ 7) (hl : l < 8) (r1 : tl_R a1 4 16) (r2 : tl_R a2 8 16) (r3 : tl_R a3 32 16) (hc : tl_CT a1 a2 a3 a14) (hw : ∀ p, p < 256 → a16 (256 * l + p) = nI (w p))
    (H : post (nI (tl_m1 (tl_N a1) (tl_N a2) (tl_N a3) w (s - 1)))) : wpX_withOne post (v1, v2, v3, nI l, v5, v6, v7, a1, a2, a3, a4, a5, a6, a7, a8, a9, a10, a11, a12, a13, a14, a15, a16, a17, a18, a19, a20, a21) y := by
  subst hy
  have hH : post (nI (tl_sg (fun p => tl_cc (tl_N a1) (tl_N a2) (tl_N a3) (s - 1) p * w (tl_P1 (tl_N a2) p)) 256)) := by
    rw [tl_cs (tl_B_R r1) (tl_B_R r2) (tl_B_R r3) (by omega) (fun p => w (tl_P1 (tl_N a2) p))]
    exact H
  refine pk_loop (σ := Unit) (fun n' i _ => wX_withOne_4 post (nI s) v1 v2 v3 (nI l) v5 v6 v7 a1 a2 a3 a4 a5 a6 a7 a8 a9 a10 a11 a12 a13 a14 a15 a16 a17 a18 a19 a20 a21 n' (nI (tl_sg (fun p => tl_cc (tl_N a1) (tl_N a2) (tl_N a3) (s - 1) p * w (tl_P1 (tl_N a2) p)) i)) (nI i)) (fun _ _ => True) 256 0 () (by omega) trivial
    (fun n _ _ => pk_le 256 256 (fun _ => hH) (fun z => absurd z (by omega)))
    (fun n' i _ hi _ hn => pk_le 256 i (fun z => absurd z (by omega)) (fun _ => ?_))
  have hn' : wX_withOne_4 post (nI s) v1 v2 v3 (nI l) v5 v6 v7 a1 a2 a3 a4 a5 a6 a7 a8 a9 a10 a11 a12 a13 a14 a15 a16 a17 a18 a19 a20 a21 n' (nI (tl_sg (fun p => tl_cc (tl_N a1) (tl_N a2) (tl_N a3) (s - 1) p * w (tl_P1 (tl_N a2) p)) i + tl_cc (tl_N a1) (tl_N a2) (tl_N a3) (s - 1) i * w (tl_P1 (tl_N a2) i))) (nI (i + 1)) := hn () trivial
  have em : (256 : Int32) * (nI s - 1) + nI i = nI (256 * (s - 1) + i) := by rw [tl_s1 hs1, tl_m256]
  have b := tl_cc_le (tl_N a1) (tl_N a2) (tl_N a3) (show s - 1 ≤ 7 by omega) i
  refine And.intro (pk_in (256 * (s - 1) + i) 2048 (by omega) em) (nm_r (e' := nI (tl_cc (tl_N a1) (tl_N a2) (tl_N a3) (s - 1) i)) (by rw [em, nI_clamp (by omega)]; exact hc (s - 1) (by omega) i hi) (pk_le (tl_cc (tl_N a1) (tl_N a2) (tl_N a3) (s - 1) i) 0 (fun z => ?_) (fun z => ?_)))
  · rw [Nat.le_zero.mp z, Nat.zero_mul, Nat.add_zero] at hn'
    exact nm_r (nI_1 i) hn'
  · have hp := tl_P1_lt (tl_B_R r2) i
    have e2 := tl_m256 l (tl_P1 (tl_N a2) i)
    refine tw_onePair rfl hi r2 (And.intro (pk_in (256 * l + tl_P1 (tl_N a2) i) 2048 (by omega) e2) (nm_r ?_ (nm_r (nI_1 i) hn')))
    rw [e2, nI_clamp (by omega), hw _ hp, pk_mul, nI_add]
theorem tw_withTwo {post : Int32 → Prop} {v1 v2 v3 v5 v6 v7 : Int32} {a1 a2 a3 a4 a5 a6 a7 a8 a9 a10 a11 a12 a13 a14 a15 a16 a17 a18 a19 a20 a21 : Nat → Int32} {x y : Int32} {s j l : Nat} {w : Nat → Nat} (hx : x = nI s) (hy : y = nI j) (hj : j + 1 ≤ s) (hs : s ≤ 7) (hl : l < 8) (r1 : tl_R a1 4 16) (r2 : tl_R a2 8 16) (r3 : tl_R a3 32 16) (hc : tl_CT a1 a2 a3 a14) (hw : ∀ p, p < 256 → a16 (256 * l + p) = nI (w p))
    (H : post (nI (tl_md (tl_N a1) (tl_N a2) (tl_N a3) w s j))) : wpX_withTwo post (v1, v2, v3, nI l, v5, v6, v7, a1, a2, a3, a4, a5, a6, a7, a8, a9, a10, a11, a12, a13, a14, a15, a16, a17, a18, a19, a20, a21) x y := by
  subst hx
  subst hy
  have hH : post (nI (tl_sg (fun p => tl_cc (tl_N a1) (tl_N a2) (tl_N a3) j p * tl_mb (tl_N a1) (tl_N a2) (tl_N a3) w p (s - 1 - j)) 256)) := by
    rw [tl_cs (tl_B_R r1) (tl_B_R r2) (tl_B_R r3) (by omega) (fun p => tl_mb (tl_N a1) (tl_N a2) (tl_N a3) w p (s - 1 - j))]
    exact H
  refine pk_loop (σ := Unit) (fun n' i _ => wX_withTwo_5 post (nI s) (nI j) v1 v2 v3 (nI l) v5 v6 v7 a1 a2 a3 a4 a5 a6 a7 a8 a9 a10 a11 a12 a13 a14 a15 a16 a17 a18 a19 a20 a21 n' (nI (tl_sg (fun p => tl_cc (tl_N a1) (tl_N a2) (tl_N a3) j p * tl_mb (tl_N a1) (tl_N a2) (tl_N a3) w p (s - 1 - j)) i)) (nI i)) (fun _ _ => True) 256 0 () (by omega) trivial
    (fun n _ _ => pk_le 256 256 (fun _ => hH) (fun z => absurd z (by omega)))
    (fun n' i _ hi _ hn => pk_le 256 i (fun z => absurd z (by omega)) (fun _ => ?_))
  have hn' : wX_withTwo_5 post (nI s) (nI j) v1 v2 v3 (nI l) v5 v6 v7 a1 a2 a3 a4 a5 a6 a7 a8 a9 a10 a11 a12 a13 a14 a15 a16 a17 a18 a19 a20 a21 n' (nI (tl_sg (fun p => tl_cc (tl_N a1) (tl_N a2) (tl_N a3) j p * tl_mb (tl_N a1) (tl_N a2) (tl_N a3) w p (s - 1 - j)) i + tl_cc (tl_N a1) (tl_N a2) (tl_N a3) j i * tl_mb (tl_N a1) (tl_N a2) (tl_N a3) w i (s - 1 - j))) (nI (i + 1)) := hn () trivial
  have em := tl_m256 j i
  have e1 : nI s - 1 - nI j = nI (s - 1 - j) := by rw [tl_s1 (by omega), pk_sub (by omega)]
  have b := tl_cc_le (tl_N a1) (tl_N a2) (tl_N a3) (show j ≤ 7 by omega) i
  refine And.intro (pk_in (256 * j + i) 2048 (by omega) em) (nm_r (e' := nI (tl_cc (tl_N a1) (tl_N a2) (tl_N a3) j i)) (by rw [em, nI_clamp (by omega)]; exact hc j (by omega) i hi) (pk_le (tl_cc (tl_N a1) (tl_N a2) (tl_N a3) j i) 0 (fun z => ?_) (fun z => ?_)))
  · rw [Nat.le_zero.mp z, Nat.zero_mul, Nat.add_zero] at hn'
    exact nm_r (nI_1 i) hn'
  · exact tw_besides rfl e1 hi (by omega) hl r1 r2 r3 hc hw (nm_r (by rw [pk_mul, nI_add]) (nm_r (nI_1 i) hn'))
/-- weights that are being written behind place b -/
def tl_GW (a : Nat → Int32) (b : Nat) (g : Nat → Nat) (i : Nat) (s : Nat → Int32) : Prop := (∀ j, j < b → s j = a j) ∧ (∀ p, p < i → s (b + p) = nI (g p))
theorem tl_GW_0 {a : Nat → Int32} {b : Nat} {g : Nat → Nat} : tl_GW a b g 0 a := ⟨fun _ _ => rfl, fun p hp => absurd hp (by omega)⟩
theorem tl_GW_s {a s : Nat → Int32} {b i : Nat} {g : Nat → Nat} {v : Int32} (h : tl_GW a b g i s) (hv : v = nI (g i)) : tl_GW a b g (i + 1) (upd s (b + i) v) := by
  refine ⟨fun j hj => ?_, fun p hp => ?_⟩
  · rw [pk_un (by omega)]
    exact h.1 j hj
  · by_cases e : p = i
    · rw [e, pk_us, hv]
    · rw [pk_un (by omega)]
      exact h.2 p (by omega)
def tl_g1 (f1 f2 f3 : Nat → Nat) (w : Nat → Nat) (s p : Nat) : Nat := if 0 < tl_cc f1 f2 f3 s p then w (tl_P1 f2 p) else 0
def tl_g2 (f1 f2 f3 : Nat → Nat) (w : Nat → Nat) (i r p : Nat) : Nat := if 0 < tl_cc f1 f2 f3 i p then tl_mb f1 f2 f3 w p r else 0
def tl_g3 (f1 f2 f3 : Nat → Nat) (w : Nat → Nat) (one s p : Nat) : Nat := if 0 < tl_cc f1 f2 f3 s p then w (tl_P2 f3 one p) else 0
theorem tw_goToOnly {post : St1 → Prop} {v1 v2 v3 v5 v6 v7 : Int32} {a1 a2 a3 a4 a5 a6 a7 a8 a9 a10 a11 a12 a13 a14 a15 a16 a17 a18 a19 a20 a21 : Nat → Int32} {y : Int32} {s l : Nat} {w : Nat → Nat} (hy : y = nI s) (hs : s ≤ 7) (hl : l + 1 < 8) (r2 : tl_R a2 8 16) (hc : tl_CT a1 a2 a3 a14) (hw : ∀ p, p < 256 → a16 (256 * l + p) = nI (w p))
    (H : ∀ b16, tl_GW a16 (256 * (l + 1)) (tl_g1 (tl_N a1) (tl_N a2) (tl_N a3) w s) 256 b16 → post (v1, v2, v3, nI (l + 1), v5, v6, v7, a1, a2, a3, a4, a5, a6, a7, a8, a9, a10, a11, a12, a13, a14, a15, b16, upd a17 (l + 1) (nI s), upd a18 (l + 1) 0, a19, a20, a21)) : wpX_goToOnly post (v1, v2, v3, nI l, v5, v6, v7, a1, a2, a3, a4, a5, a6, a7, a8, a9, a10, a11, a12, a13, a14, a15, a16, a17, a18, a19, a20, a21) y := by
  subst hy
  refine pk_loop (fun n' i t => wX_goToOnly_2 post (nI s) v1 v2 v3 (nI l) v5 v6 v7 n' (nI i) a1 a2 a3 a4 a5 a6 a7 a8 a9 a10 a11 a12 a13 a14 a15 t a17 a18 a19 a20 a21) (fun i t => tl_GW a16 (256 * (l + 1)) (tl_g1 (tl_N a1) (tl_N a2) (tl_N a3) w s) i t) 256 0 a16 (by omega) tl_GW_0
    (fun n' t ht => pk_le 256 256 (fun _ => tw_start rfl (by omega) (nI_1 l) hl (H t ht)) (fun z => absurd z (by omega)))
    (fun n' i t hi ht hn => pk_le 256 i (fun z => absurd z (by omega)) (fun _ => ?_))
  have em := tl_m256 s i
  have e1 : (256 : Int32) * (nI l + 1) + nI i = nI (256 * (l + 1) + i) := by rw [nI_1, tl_m256]
  have b := tl_cc_le (tl_N a1) (tl_N a2) (tl_N a3) hs i
  refine And.intro (pk_in (256 * s + i) 2048 (by omega) em) ?_
  rw [em, nI_clamp (by omega), hc s hs i hi]
  refine pk_le (tl_cc (tl_N a1) (tl_N a2) (tl_N a3) s i) 0 (fun z => ?_) (fun z => ?_)
  · refine br_t rfl (br_t rfl (And.intro (pk_in (256 * (l + 1) + i) 2048 (by omega) e1) (nm_e (nm_r (nI_1 i) ?_))))
    rw [e1, nI_clamp (by omega)]
    exact hn _ (tl_GW_s ht (by show (0 : Int32) = nI (if 0 < _ then _ else 0); rw [if_neg (by omega)]; rfl))
  · have hp := tl_P1_lt (tl_B_R r2) i
    have e2 := tl_m256 l (tl_P1 (tl_N a2) i)
    refine br_f (by decide) (tw_onePair rfl hi r2 (br_f (by decide) (And.intro (pk_in (256 * l + tl_P1 (tl_N a2) i) 2048 (by omega) e2) (And.intro (pk_in (256 * (l + 1) + i) 2048 (by omega) e1) (nm_e (nm_r (nI_1 i) ?_))))))
    rw [e1, nI_clamp (show 256 * (l + 1) + i < 2 ^ 31 by omega), e2, nI_clamp (show 256 * l + tl_P1 (tl_N a2) i < 2 ^ 31 by omega), ht.1 _ (by omega), hw _ hp]
    exact hn _ (tl_GW_s ht (by show _ = nI (if 0 < _ then _ else 0); rw [if_pos z]))
theorem tw_goToFirst {post : St1 → Prop} {v1 v2 v3 v5 v6 v7 : Int32} {a1 a2 a3 a4 a5 a6 a7 a8 a9 a10 a11 a12 a13 a14 a15 a16 a17 a18 a19 a20 a21 : Nat → Int32} {x y : Int32} {s r l : Nat} {w : Nat → Nat} (hx : x = nI s) (hy : y = nI r) (hs : s ≤ 7) (hr : r ≤ 7) (hl : l + 1 < 8) (r1 : tl_R a1 4 16) (r2 : tl_R a2 8 16) (r3 : tl_R a3 32 16) (hc : tl_CT a1 a2 a3 a14) (hw : ∀ p, p < 256 → a16 (256 * l + p) = nI (w p))
    (H : ∀ b16, tl_GW a16 (256 * (l + 1)) (tl_g2 (tl_N a1) (tl_N a2) (tl_N a3) w s r) 256 b16 → post (v1, v2, v3, nI (l + 1), v5, v6, v7, a1, a2, a3, a4, a5, a6, a7, a8, a9, a10, a11, a12, a13, a14, a15, b16, upd a17 (l + 1) (nI s), upd a18 (l + 1) 0, a19, a20, a21)) : wpX_goToFirst post (v1, v2, v3, nI l, v5, v6, v7, a1, a2, a3, a4, a5, a6, a7, a8, a9, a10, a11, a12, a13, a14, a15, a16, a17, a18, a19, a20, a21) x y := by
  subst hx
  subst hy
  refine pk_loop (fun n' i t => wX_goToFirst_2 post (nI s) (nI r) v1 v2 v3 (nI l) v5 v6 v7 n' (nI i) a1 a2 a3 a4 a5 a6 a7 a8 a9 a10 a11 a12 a13 a14 a15 t a17 a18 a19 a20 a21) (fun i t => tl_GW a16 (256 * (l + 1)) (tl_g2 (tl_N a1) (tl_N a2) (tl_N a3) w s r) i t) 256 0 a16 (by omega) tl_GW_0
    (fun n' t ht => pk_le 256 256 (fun _ => tw_start rfl (by omega) (nI_1 l) hl (H t ht)) (fun z => absurd z (by omega)))
    (fun n' i t hi ht hn => pk_le 256 i (fun z => absurd z (by omega)) (fun _ => ?_))
  have em := tl_m256 s i
  have e1 : (256 : Int32) * (nI l + 1) + nI i = nI (256 * (l + 1) + i) := by rw [nI_1, tl_m256]
  have b := tl_cc_le (tl_N a1) (tl_N a2) (tl_N a3) hs i
  refine And.intro (pk_in (256 * s + i) 2048 (by omega) em) ?_
  rw [em, nI_clamp (by omega), hc s hs i hi]
  refine pk_le (tl_cc (tl_N a1) (tl_N a2) (tl_N a3) s i) 0 (fun z => ?_) (fun z => ?_)
  · refine br_t rfl (And.intro (pk_in (256 * (l + 1) + i) 2048 (by omega) e1) (nm_e (nm_r (nI_1 i) ?_)))
    rw [e1, nI_clamp (by omega)]
    exact hn _ (tl_GW_s ht (by show (0 : Int32) = nI (if 0 < _ then _ else 0); rw [if_neg (by omega)]; rfl))
  · refine br_f (by decide) (tw_besides (w := w) rfl rfl hi hr (by omega) r1 r2 r3 hc (fun p hp => by rw [ht.1 _ (by omega)]; exact hw p hp) (And.intro (pk_in (256 * (l + 1) + i) 2048 (by omega) e1) (nm_e (nm_r (nI_1 i) ?_))))
    rw [e1, nI_clamp (by omega)]
    exact hn _ (tl_GW_s ht (by show _ = nI (if 0 < _ then _ else 0); rw [if_pos z]))
theorem tw_goToSecond {post : St1 → Prop} {v1 v2 v3 v5 v6 v7 : Int32} {a1 a2 a3 a4 a5 a6 a7 a8 a9 a10 a11 a12 a13 a14 a15 a16 a17 a18 a19 a20 a21 : Nat → Int32} {x y : Int32} {one s l : Nat} {w : Nat → Nat} (hx : x = nI one) (hy : y = nI s) (ho : one < 256) (hs : s ≤ 7) (hl : l + 1 < 8) (r3 : tl_R a3 32 16) (hc : tl_CT a1 a2 a3 a14) (hw : ∀ p, p < 256 → a16 (256 * l + p) = nI (w p))
    (H : ∀ b16, tl_GW a16 (256 * (l + 1)) (tl_g3 (tl_N a1) (tl_N a2) (tl_N a3) w one s) 256 b16 → post (v1, v2, v3, nI (l + 1), v5, v6, v7, a1, a2, a3, a4, a5, a6, a7, a8, a9, a10, a11, a12, a13, a14, a15, b16, upd a17 (l + 1) (nI s), upd a18 (l + 1) 0, a19, a20, a21)) : wpX_goToSecond post (v1, v2, v3, nI l, v5, v6, v7, a1, a2, a3, a4, a5, a6, a7, a8, a9, a10, a11, a12, a13, a14, a15, a16, a17, a18, a19, a20, a21) x y := by
  subst hx
  subst hy
  refine pk_loop (fun n' i t => wX_goToSecond_2 post (nI one) (nI s) v1 v2 v3 (nI l) v5 v6 v7 n' (nI i) a1 a2 a3 a4 a5 a6 a7 a8 a9 a10 a11 a12 a13 a14 a15 t a17 a18 a19 a20 a21) (fun i t => tl_GW a16 (256 * (l + 1)) (tl_g3 (tl_N a1) (tl_N a2) (tl_N a3) w one s) i t) 256 0 a16 (by omega) tl_GW_0
    (fun n' t ht => pk_le 256 256 (fun _ => tw_start rfl (by omega) (nI_1 l) hl (H t ht)) (fun z => absurd z (by omega)))
    (fun n' i t hi ht hn => pk_le 256 i (fun z => absurd z (by omega)) (fun _ => ?_))
  have em := tl_m256 s i
  have e1 : (256 : Int32) * (nI l + 1) + nI i = nI (256 * (l + 1) + i) := by rw [nI_1, tl_m256]
  have b := tl_cc_le (tl_N a1) (tl_N a2) (tl_N a3) hs i
  refine And.intro (pk_in (256 * s + i) 2048 (by omega) em) ?_
  rw [em, nI_clamp (by omega), hc s hs i hi]
  refine pk_le (tl_cc (tl_N a1) (tl_N a2) (tl_N a3) s i) 0 (fun z => ?_) (fun z => ?_)
  · refine br_t rfl (br_t rfl (And.intro (pk_in (256 * (l + 1) + i) 2048 (by omega) e1) (nm_e (nm_r (nI_1 i) ?_))))
    rw [e1, nI_clamp (by omega)]
    exact hn _ (tl_GW_s ht (by show (0 : Int32) = nI (if 0 < _ then _ else 0); rw [if_neg (by omega)]; rfl))
  · have hp := tl_P2_lt (tl_B_R r3) one i
    have e2 := tl_m256 l (tl_P2 (tl_N a3) one i)
    refine br_f (by decide) (tw_twoPair rfl rfl ho hi r3 (br_f (by decide) (And.intro (pk_in (256 * l + tl_P2 (tl_N a3) one i) 2048 (by omega) e2) (And.intro (pk_in (256 * (l + 1) + i) 2048 (by omega) e1) (nm_e (nm_r (nI_1 i) ?_))))))
    rw [e1, nI_clamp (show 256 * (l + 1) + i < 2 ^ 31 by omega), e2, nI_clamp (show 256 * l + tl_P2 (tl_N a3) one i < 2 ^ 31 by omega), ht.1 _ (by omega), hw _ hp]
    exact hn _ (tl_GW_s ht (by show _ = nI (if 0 < _ then _ else 0); rw [if_pos z]))
end
section
/-! letters that are spelled -/
def tl_Sp (c : Nat) (w : List Nat) (a a' : Nat → Int32) : Prop := (∀ j, j < c → a' j = a j) ∧ (∀ j, j < w.length → a' (c + j) = nI (w.getD j 0))
theorem tl_Sp_1 {c d : Nat} {a : Nat → Int32} : tl_Sp c [d] a (upd a c (nI d)) := by
  refine ⟨fun j hj => pk_un (by omega), fun j hj => ?_⟩
  have e : j = 0 := by
    have : j < 1 := hj
    omega
  subst e
  exact pk_us
theorem tl_Sp_cons {c d : Nat} {w : List Nat} {a a' : Nat → Int32} (h : tl_Sp (c + 1) w (upd a c (nI d)) a') : tl_Sp c (d :: w) a a' := by
  refine ⟨fun j hj => ?_, fun j hj => ?_⟩
  · rw [h.1 j (by omega)]
    exact pk_un (by omega)
  · cases j with
    | zero =>
      have e := h.1 c (by omega)
      rw [pk_us] at e
      exact e
    | succ j =>
      have e := h.2 j (by have : j + 1 < w.length + 1 := hj; omega)
      rw [show c + 1 + j = c + (j + 1) by omega] at e
      exact e
theorem tl_Sp_app {c : Nat} {w w' : List Nat} {a a' a'' : Nat → Int32} (h : tl_Sp c w a a') (h' : tl_Sp (c + w.length) w' a' a'') : tl_Sp c (w ++ w') a a'' := by
  refine ⟨fun j hj => ?_, fun j hj => ?_⟩
  · rw [h'.1 j (by omega)]
    exact h.1 j hj
  · rw [List.length_append] at hj
    by_cases e : j < w.length
    · rw [h'.1 _ (by omega), h.2 j e]
      simp [List.getD, List.getElem?_append_left e]
    · have e2 := h'.2 (j - w.length) (by omega)
      rw [show c + w.length + (j - w.length) = c + j by omega] at e2
      rw [e2]
      simp [List.getD, List.getElem?_append_right (show w.length ≤ j by omega)]
/-! one step of the finding -/
theorem tw_cl54 {post : St1 → Prop} {v1 v2 v3 v5 v6 : Int32} {a1 a2 a3 a4 a5 a6 a7 a8 a9 a10 a11 a12 a13 a14 a15 a16 a17 a18 a19 a20 a21 : Nat → Int32} {x : Int32} {l c d : Nat} (hx : x = nI d) (hd : d < 2) (hc : c < 12) (r1 : tl_R a1 4 16)
    {z : Int32} (H : post (v1, v2, v3, nI l - 1, z, nI (tl_P0 (tl_N a1) d), nI (c + 1), a1, a2, a3, a4, a5, a6, a7, a8, a9, a10, a11, a12, a13, a14, a15, a16, a17, a18, a19, a20, upd a21 c (nI d))) : wX_chooseLeaf_54 post x z v1 v2 v3 (nI l) v5 v6 (nI c) a1 a2 a3 a4 a5 a6 a7 a8 a9 a10 a11 a12 a13 a14 a15 a16 a17 a18 a19 a20 a21 := by
  subst hx
  unfold wX_chooseLeaf_54
  exact tw_spell rfl (by omega) hc (tw_leafPair rfl hd r1 (nm_e H))
theorem tw_chooseLeaf {post : St1 → Prop} {v1 v2 v3 v6 : Int32} {a1 a2 a3 a4 a5 a6 a7 a8 a9 a10 a11 a12 a13 a14 a15 a16 a17 a18 a19 a20 a21 : Nat → Int32} {l k c : Nat} {w : Nat → Nat} (hl : l < 8) (hc : c < 12) (r1 : tl_R a1 4 16) (hw : ∀ p, p < 256 → a16 (256 * l + p) = nI (w p))
    (hk : k < tl_sm (fun x => w x.2.1) (tl_LL (tl_N a1) (tl_N a2) (tl_N a3) 1)) (hb : tl_sm (fun x => w x.2.1) (tl_LL (tl_N a1) (tl_N a2) (tl_N a3) 1) < 2 ^ 31)
    (H : ∀ x k' b21, tl_pick (tl_LL (tl_N a1) (tl_N a2) (tl_N a3) 1) (fun x => w x.2.1) k x k' → tl_Sp c x.1 a21 b21 → post (v1, v2, v3, nI l - 1, nI k', nI x.2.1, nI (c + 1), a1, a2, a3, a4, a5, a6, a7, a8, a9, a10, a11, a12, a13, a14, a15, a16, a17, a18, a19, a20, b21)) : wpX_chooseLeaf post (v1, v2, v3, nI l, nI k, v6, nI c, a1, a2, a3, a4, a5, a6, a7, a8, a9, a10, a11, a12, a13, a14, a15, a16, a17, a18, a19, a20, a21) := by
  have hk' : k < w (tl_P0 (tl_N a1) 0) + (w (tl_P0 (tl_N a1) 1) + 0) := hk
  have hb' : w (tl_P0 (tl_N a1) 0) + (w (tl_P0 (tl_N a1) 1) + 0) < 2 ^ 31 := hb
  have hp := tl_P0_lt (tl_B_R r1) (show 0 < 2 by omega)
  have em := tl_m256 l (tl_P0 (tl_N a1) 0)
  unfold wpX_chooseLeaf
  refine tw_leafPair (l := 0) rfl (by omega) r1 (And.intro (pk_in (256 * l + tl_P0 (tl_N a1) 0) 2048 (by omega) em) (nm_r (e' := nI (w (tl_P0 (tl_N a1) 0))) (by rw [em, nI_clamp (by omega)]; exact hw _ hp) (pk_le (w (tl_P0 (tl_N a1) 0)) k (fun z => ?_) (fun z => ?_))))
  · refine br_f (by decide) ?_
    rw [pk_sub z]
    exact tw_cl54 (d := 1) rfl (by omega) hc r1 (H (tl_l0 (tl_N a1) 1) (k - w (tl_P0 (tl_N a1) 0)) _ ⟨[tl_l0 (tl_N a1) 0], [], rfl, by show k = w (tl_P0 (tl_N a1) 0) + 0 + (k - w (tl_P0 (tl_N a1) 0)); omega, by show k - w (tl_P0 (tl_N a1) 0) < w (tl_P0 (tl_N a1) 1); omega⟩ tl_Sp_1)
  · refine br_t rfl ?_
    exact tw_cl54 (d := 0) rfl (by omega) hc r1 (H (tl_l0 (tl_N a1) 0) k _ ⟨[], [tl_l0 (tl_N a1) 1], rfl, by show k = 0 + k; omega, z⟩ tl_Sp_1)
theorem tl_tot (f1 f2 f3 : Nat → Nat) (w : Nat → Nat) {s : Nat} (hs2 : 2 ≤ s) (hs : s ≤ 7) : tl_sm (fun x => w x.2.1) (tl_LL f1 f2 f3 s) = tl_m1 f1 f2 f3 w (s - 1) + tl_sg (fun j => tl_md f1 f2 f3 w s (j + 1)) (s - 2) := by
  rw [tl_LL_s f1 f2 f3 hs2 hs, tl_sm_app, tl_sm_map, tl_sm_fm, tl_sm_range]
  congr 1
  refine tl_sg_congr _ (fun j hj => ?_)
  rw [tl_sm_fm]
  unfold tl_md tl_mb
  refine tl_sm_congr _ (fun a _ => ?_)
  rw [tl_sm_map, show s - 1 - (j + 1) = s - 2 - j by omega]
  rfl
theorem tl_sg_mem {f : Nat → Nat} {i : Nat} : ∀ n, i < n → tl_sg f (i + 1) ≤ tl_sg f n := by
  intro n
  induction n with
  | zero => intro h; omega
  | succ n ih =>
    intro h
    by_cases e : i = n
    · subst e
      exact Nat.le_refl _
    · have := ih (by omega)
      show tl_sg f (i + 1) ≤ tl_sg f n + f n
      omega
theorem tw_ct104 {post : St1 → Prop} {v1 v2 v3 v5 v6 : Int32} {a1 a2 a3 a4 a5 a6 a7 a8 a9 a10 a11 a12 a13 a14 a15 a16 a17 a18 a19 a20 a21 : Nat → Int32} {l c s i : Nat} {w : Nat → Nat} (hl : l + 1 < 8) (hc' : c < 12) (hs : s ≤ 7) (hi : i + 2 ≤ s) (r1 : tl_R a1 4 16) (r2 : tl_R a2 8 16) (r3 : tl_R a3 32 16) (hc : tl_CT a1 a2 a3 a14) (hw : ∀ p, p < 256 → a16 (256 * l + p) = nI (w p))
    (H : ∀ b16, tl_GW a16 (256 * (l + 1)) (tl_g2 (tl_N a1) (tl_N a2) (tl_N a3) w i (s - 1 - i)) 256 b16 → post (v1, v2, v3, nI (l + 1), v5, v6, nI (c + 1), a1, a2, a3, a4, a5, a6, a7, a8, a9, a10, a11, a12, a13, a14, a15, b16, upd a17 (l + 1) (nI i), upd (upd a18 l 2) (l + 1) 0, upd a19 l (nI i), a20, upd a21 c (nI 3))) : wX_chooseTop_104 post (nI s) (nI i) v1 v2 v3 (nI l) v5 v6 (nI c) a1 a2 a3 a4 a5 a6 a7 a8 a9 a10 a11 a12 a13 a14 a15 a16 a17 a18 a19 a20 a21 := by
  have el := nI_clamp (show l < 2 ^ 31 by omega)
  have e1 : nI s - 1 - nI i = nI (s - 1 - i) := by rw [tl_s1 (by omega), pk_sub (by omega)]
  unfold wX_chooseTop_104
  refine tw_spell (d := 3) rfl (by omega) hc' (And.intro (pk_in l 8 (by omega)) (nm_r (e' := upd a18 l 2) (by rw [el]) (And.intro (pk_in l 8 (by omega)) (nm_r (e' := upd a19 l (nI i)) (by rw [el, tl_b8 i (by omega)]) ?_))))
  exact tw_goToFirst rfl e1 (by omega) (by omega) hl r1 r2 r3 hc hw (fun b16 hb => H b16 hb)
theorem tw_ct66 {post : St1 → Prop} {v1 v2 v3 v6 : Int32} {a1 a2 a3 a4 a5 a6 a7 a8 a9 a10 a11 a12 a13 a14 a15 a16 a17 a18 a19 a20 a21 : Nat → Int32} {l c s k : Nat} {w : Nat → Nat} (hl : l + 1 < 8) (hc' : c < 12) (hs : s ≤ 7) (r1 : tl_R a1 4 16) (r2 : tl_R a2 8 16) (r3 : tl_R a3 32 16) (hc : tl_CT a1 a2 a3 a14) (hw : ∀ p, p < 256 → a16 (256 * l + p) = nI (w p))
    (hk : k < tl_m1 (tl_N a1) (tl_N a2) (tl_N a3) w (s - 1) + tl_sg (fun j => tl_md (tl_N a1) (tl_N a2) (tl_N a3) w s (j + 1)) (s - 2)) (hb : tl_m1 (tl_N a1) (tl_N a2) (tl_N a3) w (s - 1) + tl_sg (fun j => tl_md (tl_N a1) (tl_N a2) (tl_N a3) w s (j + 1)) (s - 2) < 2 ^ 31)
    (H : ∀ i k1, 1 ≤ i → i + 2 ≤ s → k = tl_m1 (tl_N a1) (tl_N a2) (tl_N a3) w (s - 1) + tl_sg (fun j => tl_md (tl_N a1) (tl_N a2) (tl_N a3) w s (j + 1)) (i - 1) + k1 → k1 < tl_md (tl_N a1) (tl_N a2) (tl_N a3) w s i → ∀ b16, tl_GW a16 (256 * (l + 1)) (tl_g2 (tl_N a1) (tl_N a2) (tl_N a3) w i (s - 1 - i)) 256 b16 → post (v1, v2, v3, nI (l + 1), nI k1, v6, nI (c + 1), a1, a2, a3, a4, a5, a6, a7, a8, a9, a10, a11, a12, a13, a14, a15, b16, upd a17 (l + 1) (nI i), upd (upd a18 l 2) (l + 1) 0, upd a19 l (nI i), a20, upd a21 c (nI 3))) :
    ∀ d i k1, d = s - 2 - i → 1 ≤ i → i + 2 ≤ s → k = tl_m1 (tl_N a1) (tl_N a2) (tl_N a3) w (s - 1) + tl_sg (fun j => tl_md (tl_N a1) (tl_N a2) (tl_N a3) w s (j + 1)) (i - 1) + k1 → wX_chooseTop_66 post (nI s) v1 v2 v3 (nI l) v6 (nI c) a1 a2 a3 a4 a5 a6 a7 a8 a9 a10 a11 a12 a13 a14 a15 a16 a17 a18 a19 a20 a21 (d + 1) (nI (tl_md (tl_N a1) (tl_N a2) (tl_N a3) w s i)) (nI i) (nI k1) := by
  intro d
  induction d with
  | zero =>
    intro i k1 hd hi1 hi hkk
    refine pk_le (s - 2) i (fun _ => tw_ct104 hl hc' hs hi r1 r2 r3 hc hw (H i k1 hi1 hi hkk ?_)) (fun z => absurd z (by omega)) (tl_s2 (by omega))
    rw [show s - 2 = (i - 1) + 1 by omega] at hk
    have hk2 : k < tl_m1 (tl_N a1) (tl_N a2) (tl_N a3) w (s - 1) + (tl_sg (fun j => tl_md (tl_N a1) (tl_N a2) (tl_N a3) w s (j + 1)) (i - 1) + tl_md (tl_N a1) (tl_N a2) (tl_N a3) w s (i - 1 + 1)) := hk
    rw [show i - 1 + 1 = i by omega] at hk2
    omega
  | succ d ih =>
    intro i k1 hd hi1 hi hkk
    have hm := tl_sg_mem (f := fun j => tl_md (tl_N a1) (tl_N a2) (tl_N a3) w s (j + 1)) (i := i - 1) (s - 2) (by omega)
    have hm2 : tl_sg (fun j => tl_md (tl_N a1) (tl_N a2) (tl_N a3) w s (j + 1)) (i - 1) + tl_md (tl_N a1) (tl_N a2) (tl_N a3) w s (i - 1 + 1) ≤ tl_sg (fun j => tl_md (tl_N a1) (tl_N a2) (tl_N a3) w s (j + 1)) (s - 2) := hm
    rw [show i - 1 + 1 = i by omega] at hm2
    refine pk_le (s - 2) i (fun z => absurd z (by omega)) (fun _ => ?_) (tl_s2 (by omega))
    refine pk_lt k1 (tl_md (tl_N a1) (tl_N a2) (tl_N a3) w s i) (fun z => tw_ct104 hl hc' hs hi r1 r2 r3 hc hw (H i k1 hi1 hi hkk z)) (fun z => ?_)
    refine nm_r (pk_sub z) (nm_r (nI_1 i) (tw_withTwo rfl rfl (by omega) hs (by omega) r1 r2 r3 hc hw (ih (i + 1) (k1 - tl_md (tl_N a1) (tl_N a2) (tl_N a3) w s i) (by omega) (by omega) (by omega) ?_)))
    rw [show i + 1 - 1 = (i - 1) + 1 by omega]
    show k = tl_m1 (tl_N a1) (tl_N a2) (tl_N a3) w (s - 1) + (tl_sg (fun j => tl_md (tl_N a1) (tl_N a2) (tl_N a3) w s (j + 1)) (i - 1) + tl_md (tl_N a1) (tl_N a2) (tl_N a3) w s (i - 1 + 1)) + (k1 - tl_md (tl_N a1) (tl_N a2) (tl_N a3) w s i)
    rw [show i - 1 + 1 = i by omega]
    omega
theorem tw_chooseTop {post : St1 → Prop} {v1 v2 v3 v6 : Int32} {a1 a2 a3 a4 a5 a6 a7 a8 a9 a10 a11 a12 a13 a14 a15 a16 a17 a18 a19 a20 a21 : Nat → Int32} {l c s k : Nat} {w : Nat → Nat} (hl : l + 1 < 8) (hc' : c < 12) (hs2 : 2 ≤ s) (hs : s ≤ 7) (r1 : tl_R a1 4 16) (r2 : tl_R a2 8 16) (r3 : tl_R a3 32 16) (hc : tl_CT a1 a2 a3 a14) (e17 : a17 l = nI s) (hw : ∀ p, p < 256 → a16 (256 * l + p) = nI (w p))
    (hk : k < tl_m1 (tl_N a1) (tl_N a2) (tl_N a3) w (s - 1) + tl_sg (fun j => tl_md (tl_N a1) (tl_N a2) (tl_N a3) w s (j + 1)) (s - 2)) (hb : tl_m1 (tl_N a1) (tl_N a2) (tl_N a3) w (s - 1) + tl_sg (fun j => tl_md (tl_N a1) (tl_N a2) (tl_N a3) w s (j + 1)) (s - 2) < 2 ^ 31)
    (H1 : k < tl_m1 (tl_N a1) (tl_N a2) (tl_N a3) w (s - 1) → ∀ b16, tl_GW a16 (256 * (l + 1)) (tl_g1 (tl_N a1) (tl_N a2) (tl_N a3) w (s - 1)) 256 b16 → post (v1, v2, v3, nI (l + 1), nI k, v6, nI (c + 1), a1, a2, a3, a4, a5, a6, a7, a8, a9, a10, a11, a12, a13, a14, a15, b16, upd a17 (l + 1) (nI (s - 1)), upd (upd a18 l 1) (l + 1) 0, a19, a20, upd a21 c (nI 2)))
    (H : ∀ i k1, 1 ≤ i → i + 2 ≤ s → k = tl_m1 (tl_N a1) (tl_N a2) (tl_N a3) w (s - 1) + tl_sg (fun j => tl_md (tl_N a1) (tl_N a2) (tl_N a3) w s (j + 1)) (i - 1) + k1 → k1 < tl_md (tl_N a1) (tl_N a2) (tl_N a3) w s i → ∀ b16, tl_GW a16 (256 * (l + 1)) (tl_g2 (tl_N a1) (tl_N a2) (tl_N a3) w i (s - 1 - i)) 256 b16 → post (v1, v2, v3, nI (l + 1), nI k1, v6, nI (c + 1), a1, a2, a3, a4, a5, a6, a7, a8, a9, a10, a11, a12, a13, a14, a15, b16, upd a17 (l + 1) (nI i), upd (upd a18 l 2) (l + 1) 0, upd a19 l (nI i), a20, upd a21 c (nI 3))) : wpX_chooseTop post (v1, v2, v3, nI l, nI k, v6, nI c, a1, a2, a3, a4, a5, a6, a7, a8, a9, a10, a11, a12, a13, a14, a15, a16, a17, a18, a19, a20, a21) := by
  have el := nI_clamp (show l < 2 ^ 31 by omega)
  refine And.intro (pk_in l 8 (by omega)) (nm_r (e' := nI s) (by rw [el]; exact e17) (tw_withOne (w := w) rfl (by omega) hs (by omega) r1 r2 r3 hc hw ?_))
  refine pk_le (tl_m1 (tl_N a1) (tl_N a2) (tl_N a3) w (s - 1)) k (fun z => ?_) (fun z => ?_)
  · have hs3 : 3 ≤ s := by
      rcases Nat.lt_or_ge s 3 with h | h
      · have e : s - 2 = 0 := by omega
        rw [e] at hk
        have hk2 : k < tl_m1 (tl_N a1) (tl_N a2) (tl_N a3) w (s - 1) + 0 := hk
        omega
      · exact h
    refine nm_r (pk_sub z) (tw_withTwo (j := 1) rfl rfl (by omega) hs (by omega) r1 r2 r3 hc hw ⟨s - 2 - 1 + 1, ?_⟩)
    refine tw_ct66 hl hc' hs r1 r2 r3 hc hw hk hb H (s - 2 - 1) 1 (k - tl_m1 (tl_N a1) (tl_N a2) (tl_N a3) w (s - 1)) rfl (by omega) (by omega) ?_
    show k = tl_m1 (tl_N a1) (tl_N a2) (tl_N a3) w (s - 1) + 0 + (k - tl_m1 (tl_N a1) (tl_N a2) (tl_N a3) w (s - 1))
    omega
  · refine tw_spell (d := 2) rfl (by omega) hc' (And.intro (pk_in l 8 (by omega)) (nm_r (e' := upd a18 l 1) (by rw [el]) ?_))
    exact tw_goToOnly (tl_s1 (by omega)) (by omega) hl r2 hc hw (fun b16 hb16 => H1 z b16 hb16)
end
section
/-! the finding, step by step -/
theorem tw_work1 {post : St1 → Prop} {v1 v2 v3 v5 v7 : Int32} {a1 a2 a3 a4 a5 a6 a7 a8 a9 a10 a11 a12 a13 a14 a15 a16 a17 a18 a19 a20 a21 : Nat → Int32} {l p : Nat} (hl : l < 8) (h18 : a18 l = 1) (hp : p < 256) (r2 : tl_R a2 8 16) (H : post (v1, v2, v3, nI l - 1, v5, nI (tl_P1 (tl_N a2) p), v7, a1, a2, a3, a4, a5, a6, a7, a8, a9, a10, a11, a12, a13, a14, a15, a16, a17, a18, a19, a20, a21)) : wpX_work post (v1, v2, v3, nI l, v5, nI p, v7, a1, a2, a3, a4, a5, a6, a7, a8, a9, a10, a11, a12, a13, a14, a15, a16, a17, a18, a19, a20, a21) := by
  have el := nI_clamp (show l < 2 ^ 31 by omega)
  have i1 := pk_in (x := nI l) l 8 hl
  refine And.intro i1 (br_f (by rw [el, h18]; decide) (And.intro i1 (br_t (by rw [el, h18]) ?_)))
  exact tw_onePair rfl hp r2 (nm_e H)
theorem tw_work2 {post : St1 → Prop} {v1 v2 v3 v5 v7 : Int32} {a1 a2 a3 a4 a5 a6 a7 a8 a9 a10 a11 a12 a13 a14 a15 a16 a17 a18 a19 a20 a21 : Nat → Int32} {l p s i : Nat} {w : Nat → Nat} (hl : l + 1 < 8) (h18 : a18 l = 2) (hp : p < 256) (h17 : a17 l = nI s) (h19 : a19 l = nI i) (hi : i + 1 ≤ s) (hs : s ≤ 7) (r3 : tl_R a3 32 16) (hc : tl_CT a1 a2 a3 a14) (hw : ∀ p, p < 256 → a16 (256 * l + p) = nI (w p))
    (H : ∀ b16, tl_GW a16 (256 * (l + 1)) (tl_g3 (tl_N a1) (tl_N a2) (tl_N a3) w p (s - 1 - i)) 256 b16 → post (v1, v2, v3, nI (l + 1), v5, nI p, v7, a1, a2, a3, a4, a5, a6, a7, a8, a9, a10, a11, a12, a13, a14, a15, b16, upd a17 (l + 1) (nI (s - 1 - i)), upd (upd a18 l 3) (l + 1) 0, a19, upd a20 l (nI p), a21)) : wpX_work post (v1, v2, v3, nI l, v5, nI p, v7, a1, a2, a3, a4, a5, a6, a7, a8, a9, a10, a11, a12, a13, a14, a15, a16, a17, a18, a19, a20, a21) := by
  have el := nI_clamp (show l < 2 ^ 31 by omega)
  have i1 := pk_in (x := nI l) l 8 (by omega)
  have e1 : nI s - 1 - nI i = nI (s - 1 - i) := by rw [tl_s1 (by omega), pk_sub (by omega)]
  refine And.intro i1 (br_f (by rw [el, h18]; decide) (And.intro i1 (br_f (by rw [el, h18]; decide) (And.intro i1 (br_t (by rw [el, h18]) (And.intro i1 ?_))))))
  refine nm_r (e' := upd a20 l (nI p)) (by rw [el, tl_s16 p (by omega)]) (And.intro i1 (nm_r (e' := upd a18 l 3) (by rw [el]) (And.intro i1 (And.intro i1 ?_))))
  exact tw_goToSecond rfl (by rw [el, h17, h19, e1]) hp (by omega) hl r3 hc hw (fun b16 hb => H b16 hb)
theorem tw_work3 {post : St1 → Prop} {v1 v2 v3 v5 v7 : Int32} {a1 a2 a3 a4 a5 a6 a7 a8 a9 a10 a11 a12 a13 a14 a15 a16 a17 a18 a19 a20 a21 : Nat → Int32} {l p q : Nat} (hl : l < 8) (h18 : a18 l = 3) (h20 : a20 l = nI q) (hq : q < 256) (hp : p < 256) (r3 : tl_R a3 32 16) (H : post (v1, v2, v3, nI l - 1, v5, nI (tl_P2 (tl_N a3) q p), v7, a1, a2, a3, a4, a5, a6, a7, a8, a9, a10, a11, a12, a13, a14, a15, a16, a17, a18, a19, a20, a21)) : wpX_work post (v1, v2, v3, nI l, v5, nI p, v7, a1, a2, a3, a4, a5, a6, a7, a8, a9, a10, a11, a12, a13, a14, a15, a16, a17, a18, a19, a20, a21) := by
  have el := nI_clamp (show l < 2 ^ 31 by omega)
  have i1 := pk_in (x := nI l) l 8 hl
  refine And.intro i1 (br_f (by rw [el, h18]; decide) (And.intro i1 (br_f (by rw [el, h18]; decide) (And.intro i1 (br_f (by rw [el, h18]; decide) (And.intro i1 ?_))))))
  exact tw_twoPair (by rw [el]; exact h20) rfl hq hp r3 (nm_e H)
theorem tl_cc_pos {f1 f2 f3 : Nat → Nat} {s : Nat} {z : List Nat × Nat × Nat × Nat} (hz : z ∈ tl_LL f1 f2 f3 s) : 0 < tl_cc f1 f2 f3 s z.2.1 := tl_c_pos (π := fun x : List Nat × Nat × Nat × Nat => x.2.1) hz
theorem tl_pick_range {n i k k1 : Nat} {W : Nat → Nat} (hi : i < n) (hk : k = tl_sg W i + k1) (h1 : k1 < W i) : tl_pick (List.range n) W k i k1 := by
  refine ⟨List.range i, (List.range n).drop (i + 1), ?_, by rw [tl_sm_range]; exact hk, h1⟩
  have e := List.take_append_drop (i + 1) (List.range n)
  rw [List.take_range, Nat.min_eq_left (by omega), List.range_succ, List.append_assoc] at e
  exact e.symm
/-- a find at one child, as a find at the node -/
theorem tl_pick_one {f1 f2 f3 : Nat → Nat} {w : Nat → Nat} {s k k' : Nat} {y : List Nat × Nat × Nat × Nat} (hs2 : 2 ≤ s) (hs : s ≤ 7) (h : tl_pick (tl_LL f1 f2 f3 (s - 1)) (fun x => tl_g1 f1 f2 f3 w (s - 1) x.2.1) k y k') : tl_pick (tl_LL f1 f2 f3 s) (fun x => w x.2.1) k (tl_l1 f2 y) k' := by
  rw [tl_LL_s f1 f2 f3 hs2 hs]
  refine tl_pick_l (tl_pick_map (w := fun x : List Nat × Nat × Nat × Nat => w x.2.1) (tl_pick_congr (fun z hz => ?_) h))
  show (if 0 < tl_cc f1 f2 f3 (s - 1) z.2.1 then w (tl_P1 f2 z.2.1) else 0) = w (tl_P1 f2 z.2.1)
  rw [if_pos (tl_cc_pos hz)]
theorem tl_pick_two {f1 f2 f3 : Nat → Nat} {w : Nat → Nat} {s i k k1 k2 k3 : Nat} {a b : List Nat × Nat × Nat × Nat} (hs : s ≤ 7) (hi1 : 1 ≤ i) (hi : i + 2 ≤ s) (hk : k = tl_m1 f1 f2 f3 w (s - 1) + tl_sg (fun j => tl_md f1 f2 f3 w s (j + 1)) (i - 1) + k1) (hk1 : k1 < tl_md f1 f2 f3 w s i)
    (h : tl_pick (tl_LL f1 f2 f3 i) (fun x => tl_g2 f1 f2 f3 w i (s - 1 - i) x.2.1) k1 a k2) (h' : tl_pick (tl_LL f1 f2 f3 (s - 1 - i)) (fun x => tl_g3 f1 f2 f3 w a.2.1 (s - 1 - i) x.2.1) k2 b k3) : tl_pick (tl_LL f1 f2 f3 s) (fun x => w x.2.1) k (tl_l2 f3 a b) k3 := by
  have hd : ∀ j, tl_sm (fun x : List Nat × Nat × Nat × Nat => w x.2.1) ((tl_LL f1 f2 f3 (j + 1)).flatMap (fun a => (tl_LL f1 f2 f3 (s - 2 - j)).map (tl_l2 f3 a))) = tl_md f1 f2 f3 w s (j + 1) := by
    intro j
    rw [tl_sm_fm]
    unfold tl_md tl_mb
    refine tl_sm_congr _ (fun a _ => ?_)
    rw [tl_sm_map, show s - 1 - (j + 1) = s - 2 - j by omega]
    rfl
  have hr : tl_pick (List.range (s - 2)) (fun j => tl_sm (fun x : List Nat × Nat × Nat × Nat => w x.2.1) ((tl_LL f1 f2 f3 (j + 1)).flatMap (fun a => (tl_LL f1 f2 f3 (s - 2 - j)).map (tl_l2 f3 a)))) (tl_sg (fun j => tl_md f1 f2 f3 w s (j + 1)) (i - 1) + k1) (i - 1) k1 := by
    refine tl_pick_range (by omega) ?_ ?_
    · rw [tl_sg_congr (g := fun j => tl_md f1 f2 f3 w s (j + 1)) (i - 1) (fun j _ => hd j)]
    · rw [hd, show i - 1 + 1 = i by omega]
      exact hk1
  have hg : tl_pick ((tl_LL f1 f2 f3 (i - 1 + 1)).flatMap (fun a => (tl_LL f1 f2 f3 (s - 2 - (i - 1))).map (tl_l2 f3 a))) (fun x => w x.2.1) k1 (tl_l2 f3 a b) k3 := by
    rw [show i - 1 + 1 = i by omega, show s - 2 - (i - 1) = s - 1 - i by omega]
    refine tl_pick_fm (tl_pick_congr (fun z hz => ?_) h) (tl_pick_map (w := fun x : List Nat × Nat × Nat × Nat => w x.2.1) (tl_pick_congr (fun z hz => ?_) h'))
    · rw [tl_sm_map]
      show (if 0 < tl_cc f1 f2 f3 i z.2.1 then tl_mb f1 f2 f3 w z.2.1 (s - 1 - i) else 0) = _
      rw [if_pos (tl_cc_pos hz)]
      rfl
    · show (if 0 < tl_cc f1 f2 f3 (s - 1 - i) z.2.1 then w (tl_P2 f3 a.2.1 z.2.1) else 0) = w (tl_P2 f3 a.2.1 z.2.1)
      rw [if_pos (tl_cc_pos hz)]
  rw [tl_LL_s f1 f2 f3 (by omega) hs]
  have hx := tl_pick_r (L := (tl_LL f1 f2 f3 (s - 1)).map (tl_l1 f2)) (tl_pick_fm hr hg)
  rw [tl_sm_map] at hx
  rw [hk, Nat.add_assoc]
  exact hx
theorem tl_pick_sum {α : Type} {L : List α} {w : α → Nat} {k k' : Nat} {x : α} (h : tl_pick L w k x k') : w x ≤ tl_sm w L := tl_sm_mem (tl_pick_mem h)
theorem tl_g1_sum {f1 f2 f3 : Nat → Nat} {w : Nat → Nat} {s : Nat} : tl_sm (fun x => tl_g1 f1 f2 f3 w s x.2.1) (tl_LL f1 f2 f3 s) = tl_m1 f1 f2 f3 w s := by
  refine tl_sm_congr _ (fun z hz => ?_)
  show (if 0 < tl_cc f1 f2 f3 s z.2.1 then w (tl_P1 f2 z.2.1) else 0) = w (tl_P1 f2 z.2.1)
  rw [if_pos (tl_cc_pos hz)]
theorem tl_g2_sum {f1 f2 f3 : Nat → Nat} {w : Nat → Nat} {s i : Nat} : tl_sm (fun x => tl_g2 f1 f2 f3 w i (s - 1 - i) x.2.1) (tl_LL f1 f2 f3 i) = tl_md f1 f2 f3 w s i := by
  refine tl_sm_congr _ (fun z hz => ?_)
  show (if 0 < tl_cc f1 f2 f3 i z.2.1 then tl_mb f1 f2 f3 w z.2.1 (s - 1 - i) else 0) = tl_mb f1 f2 f3 w z.2.1 (s - 1 - i)
  rw [if_pos (tl_cc_pos hz)]
theorem tl_g3_sum {f1 f2 f3 : Nat → Nat} {w : Nat → Nat} {p j : Nat} : tl_sm (fun x => tl_g3 f1 f2 f3 w p j x.2.1) (tl_LL f1 f2 f3 j) = tl_mb f1 f2 f3 w p j := by
  refine tl_sm_congr _ (fun z hz => ?_)
  show (if 0 < tl_cc f1 f2 f3 j z.2.1 then w (tl_P2 f3 p z.2.1) else 0) = w (tl_P2 f3 p z.2.1)
  rw [if_pos (tl_cc_pos hz)]
/-- a tree of size s is found at level l, in 2 s - 1 steps -/
theorem tw_solve {post : Int32 → St1 → Prop} {v1 v2 v3 : Int32} {a1 a2 a3 a4 a5 a6 a7 a8 a9 a10 a11 a12 a13 a14 a15 : Nat → Int32} (r1 : tl_R a1 4 16) (r2 : tl_R a2 8 16) (r3 : tl_R a3 32 16) (hc : tl_CT a1 a2 a3 a14) :
    ∀ s, 1 ≤ s → s ≤ 7 → ∀ (N st l k c : Nat) (v6 : Int32) (a16 a17 a18 a19 a20 a21 : Nat → Int32) (w : Nat → Nat), l + s ≤ 8 → c + s ≤ 12 → st + (2 * s - 1) ≤ 64 → a17 l = nI s → a18 l = 0 → (∀ p, p < 256 → a16 (256 * l + p) = nI (w p)) →
    k < tl_sm (fun x => w x.2.1) (tl_LL (tl_N a1) (tl_N a2) (tl_N a3) s) → tl_sm (fun x => w x.2.1) (tl_LL (tl_N a1) (tl_N a2) (tl_N a3) s) < 2 ^ 31 →
    (∀ x k' b16 b17 b18 b19 b20 b21, tl_pick (tl_LL (tl_N a1) (tl_N a2) (tl_N a3) s) (fun x => w x.2.1) k x k' → (∀ j, j < 256 * l → b16 j = a16 j) → (∀ j, j < l → b17 j = a17 j) → (∀ j, j < l → b18 j = a18 j) → (∀ j, j < l → b19 j = a19 j) → (∀ j, j < l → b20 j = a20 j) → tl_Sp c x.1 a21 b21 →
      wX_load_112 post N (nI (st + (2 * s - 1))) v1 v2 v3 (nI l - 1) (nI k') (nI x.2.1) (nI (c + s)) a1 a2 a3 a4 a5 a6 a7 a8 a9 a10 a11 a12 a13 a14 a15 b16 b17 b18 b19 b20 b21) →
    wX_load_112 post (N + (2 * s - 1)) (nI st) v1 v2 v3 (nI l) (nI k) v6 (nI c) a1 a2 a3 a4 a5 a6 a7 a8 a9 a10 a11 a12 a13 a14 a15 a16 a17 a18 a19 a20 a21 := by
  intro s
  induction s using Nat.strongRecOn with
  | ind s ih =>
    intro hs1 hs N st l k c v6 a16 a17 a18 a19 a20 a21 w hls hcs hst h17 h18 hw hk hb H
    have el := nI_clamp (show l < 2 ^ 31 by omega)
    have i1 := pk_in (x := nI l) l 8 (by omega)
    by_cases hs0 : s = 1
    · subst hs0
      refine pk_le 64 st (fun z => absurd z (by omega)) (fun _ => br_f (nI_pos (by omega)) (And.intro i1 (br_t (by rw [el]; exact h18) (And.intro i1 (br_t (by rw [el]; exact h17) ?_)))))
      exact tw_chooseLeaf (by omega) (by omega) r1 hw hk hb (fun x k' b21 hpk hsp => nm_r (nI_1 st) (H x k' a16 a17 a18 a19 a20 b21 hpk (fun _ _ => rfl) (fun _ _ => rfl) (fun _ _ => rfl) (fun _ _ => rfl) (fun _ _ => rfl) hsp))
    · have hs2 : 2 ≤ s := by omega
      have ht := tl_tot (tl_N a1) (tl_N a2) (tl_N a3) w hs2 hs
      have hk2 := hk
      have hb2 := hb
      rw [ht] at hk2 hb2
      rw [show N + (2 * s - 1) = (N + (2 * s - 2)) + 1 by omega]
      refine pk_le 64 st (fun z => absurd z (by omega)) (fun _ => br_f (nI_pos (by omega)) (And.intro i1 (br_t (by rw [el]; exact h18) (And.intro i1 (br_f (by rw [el, h17]; exact fun z => absurd ((nI_eq (b := 1) (by omega) (by omega)).mp z) (by omega)) ?_)))))
      refine tw_chooseTop (w := w) (by omega) (by omega) hs2 hs r1 r2 r3 hc h17 hw hk2 hb2 (fun hk3 b16 hb16 => ?_) (fun i k1 hi1 hi hkk hk1 b16 hb16 => ?_)
      · -- one child
        refine nm_r (nI_1 st) ?_
        rw [show N + (2 * s - 2) = (N + 1) + (2 * (s - 1) - 1) by omega]
        refine ih (s - 1) (by omega) (by omega) (by omega) (N + 1) (st + 1) (l + 1) k (c + 1) _ _ _ _ _ _ _ (tl_g1 (tl_N a1) (tl_N a2) (tl_N a3) w (s - 1)) (by omega) (by omega) (by omega) pk_us pk_us hb16.2 (by rw [tl_g1_sum]; exact hk3) (by rw [tl_g1_sum]; omega) ?_
        intro y k' c16 c17 c18 c19 c20 c21 hpk d16 d17 d18 d19 d20 hsp
        have g18 : c18 l = 1 := by rw [d18 l (by omega), pk_un (by omega), pk_us]
        have hy := tl_LL_pair (tl_B_R r1) (tl_B_R r2) (tl_B_R r3) (show s - 1 ≤ 7 by omega) (tl_pick_mem hpk)
        rw [nI_pred]
        refine pk_le 64 (st + 1 + (2 * (s - 1) - 1)) (fun z => absurd z (by omega)) (fun _ => br_f (nI_pos (by omega)) (tw_work1 (by omega) g18 hy r2 (nm_r (nI_1 _) ?_)))
        have := H (tl_l1 (tl_N a2) y) k' c16 c17 c18 c19 c20 c21 (tl_pick_one hs2 hs hpk) (fun j hj => by rw [d16 j (by omega), hb16.1 j (by omega)]) (fun j hj => by rw [d17 j (by omega), pk_un (by omega)]) (fun j hj => by rw [d18 j (by omega), pk_un (by omega), pk_un (by omega)]) (fun j hj => d19 j (by omega)) (fun j hj => d20 j (by omega)) (tl_Sp_cons hsp)
        rw [show c + 1 + (s - 1) = c + s by omega, show st + 1 + (2 * (s - 1) - 1) + 1 = st + (2 * s - 1) by omega]
        exact this
      · -- two children
        have hsum : tl_md (tl_N a1) (tl_N a2) (tl_N a3) w s i < 2 ^ 31 := by
          have hm := tl_sg_mem (f := fun j => tl_md (tl_N a1) (tl_N a2) (tl_N a3) w s (j + 1)) (i := i - 1) (s - 2) (by omega)
          have hm2 : tl_sg (fun j => tl_md (tl_N a1) (tl_N a2) (tl_N a3) w s (j + 1)) (i - 1) + tl_md (tl_N a1) (tl_N a2) (tl_N a3) w s (i - 1 + 1) ≤ tl_sg (fun j => tl_md (tl_N a1) (tl_N a2) (tl_N a3) w s (j + 1)) (s - 2) := hm
          rw [show i - 1 + 1 = i by omega] at hm2
          omega
        refine nm_r (nI_1 st) ?_
        rw [show N + (2 * s - 2) = (N + (2 * (s - 1 - i) - 1) + 2) + (2 * i - 1) by omega]
        refine ih i (by omega) (by omega) (by omega) (N + (2 * (s - 1 - i) - 1) + 2) (st + 1) (l + 1) k1 (c + 1) _ _ _ _ _ _ _ (tl_g2 (tl_N a1) (tl_N a2) (tl_N a3) w i (s - 1 - i)) (by omega) (by omega) (by omega) pk_us pk_us hb16.2 (by rw [tl_g2_sum]; exact hk1) (by rw [tl_g2_sum]; exact hsum) ?_
        intro a k2 c16 c17 c18 c19 c20 c21 hpa d16 d17 d18 d19 d20 hsa
        have g18 : c18 l = 2 := by rw [d18 l (by omega), pk_un (by omega), pk_us]
        have g17 : c17 l = nI s := by rw [d17 l (by omega), pk_un (by omega)]; exact h17
        have g19 : c19 l = nI i := by rw [d19 l (by omega), pk_us]
        have ha := tl_LL_pair (tl_B_R r1) (tl_B_R r2) (tl_B_R r3) (show i ≤ 7 by omega) (tl_pick_mem hpa)
        have hwa := tl_LL_word i (by omega) a (tl_pick_mem hpa)
        have hw2 : ∀ p, p < 256 → c16 (256 * l + p) = nI (w p) := fun p hp => by rw [d16 _ (by omega), hb16.1 _ (by omega)]; exact hw p hp
        rw [nI_pred]
        refine pk_le 64 (st + 1 + (2 * i - 1)) (fun z => absurd z (by omega)) (fun _ => br_f (nI_pos (by omega)) (tw_work2 (by omega) g18 ha g17 g19 (by omega) hs r3 hc hw2 (fun e16 he16 => nm_r (nI_1 _) ?_)))
        rw [show N + (2 * (s - 1 - i) - 1) + 1 = (N + 1) + (2 * (s - 1 - i) - 1) by omega]
        have hk4 : k2 < tl_mb (tl_N a1) (tl_N a2) (tl_N a3) w a.2.1 (s - 1 - i) := by
          obtain ⟨_, _, _, _, hlt⟩ := hpa
          have hlt2 : k2 < (if 0 < tl_cc (tl_N a1) (tl_N a2) (tl_N a3) i a.2.1 then tl_mb (tl_N a1) (tl_N a2) (tl_N a3) w a.2.1 (s - 1 - i) else 0) := hlt
          split at hlt2
          · exact hlt2
          · omega
        have hb4 : tl_mb (tl_N a1) (tl_N a2) (tl_N a3) w a.2.1 (s - 1 - i) < 2 ^ 31 := Nat.lt_of_le_of_lt (tl_sm_mem (w := fun a => tl_mb (tl_N a1) (tl_N a2) (tl_N a3) w a.2.1 (s - 1 - i)) (tl_pick_mem hpa)) hsum
        refine ih (s - 1 - i) (by omega) (by omega) (by omega) (N + 1) (st + 1 + (2 * i - 1) + 1) (l + 1) k2 (c + 1 + i) _ _ _ _ _ _ _ (tl_g3 (tl_N a1) (tl_N a2) (tl_N a3) w a.2.1 (s - 1 - i)) (by omega) (by omega) (by omega) pk_us pk_us he16.2 (by rw [tl_g3_sum]; exact hk4) (by rw [tl_g3_sum]; exact hb4) ?_
        intro b k3 e16' e17 e18 e19 e20 e21 hpb f16 f17 f18 f19 f20 hsb
        have q18 : e18 l = 3 := by rw [f18 l (by omega), pk_un (by omega), pk_us]
        have q20 : e20 l = nI a.2.1 := by rw [f20 l (by omega), pk_us]
        have hbb := tl_LL_pair (tl_B_R r1) (tl_B_R r2) (tl_B_R r3) (show s - 1 - i ≤ 7 by omega) (tl_pick_mem hpb)
        rw [nI_pred]
        refine pk_le 64 (st + 1 + (2 * i - 1) + 1 + (2 * (s - 1 - i) - 1)) (fun z => absurd z (by omega)) (fun _ => br_f (nI_pos (by omega)) (tw_work3 (by omega) q18 q20 ha hbb r3 (nm_r (nI_1 _) ?_)))
        have := H (tl_l2 (tl_N a3) a b) k3 e16' e17 e18 e19 e20 e21 (tl_pick_two hs hi1 hi hkk hk1 hpa hpb) (fun j hj => by rw [f16 j (by omega), he16.1 j (by omega), d16 j (by omega), hb16.1 j (by omega)]) (fun j hj => by rw [f17 j (by omega), pk_un (by omega), d17 j (by omega), pk_un (by omega)]) (fun j hj => by rw [f18 j (by omega), pk_un (by omega), pk_un (by omega), d18 j (by omega), pk_un (by omega), pk_un (by omega)]) (fun j hj => by rw [f19 j (by omega), d19 j (by omega), pk_un (by omega)]) (fun j hj => by rw [f20 j (by omega), pk_un (by omega), d20 j (by omega)]) (tl_Sp_cons (tl_Sp_app hsa (by rw [hwa]; exact hsb)))
        rw [show c + 1 + i + (s - 1 - i) = c + s by omega, show st + 1 + (2 * i - 1) + 1 + (2 * (s - 1 - i) - 1) + 1 = st + (2 * s - 1) by omega]
        exact this
end
section
/-! letters are read from the last one on, and the tree is made -/
theorem tl_neg1 (x : Int32) : x + (-1) = x - 1 := (Int32.sub_eq_add_neg x 1).symm
theorem tw_ts0 {post : St1 → Prop} {v3 v4 v5 v6 v7 : Int32} {a1 a2 a3 a4 a5 a6 a7 a8 a9 a10 a11 a12 a13 a14 a15 a16 a17 a18 a19 a20 a21 : Nat → Int32} {N c m h d : Nat} (hc : c < 12) (hd : d < 2) (e21 : a21 c = nI d) (hm : m < 12) (hh : h < 12)
    (H : wX_takeOver_12 post N (nI c - 1) (nI (m + 1)) (nI (h + 1)) v3 v4 v5 v6 v7 a1 a2 a3 a4 (upd a5 m (nI d)) (upd a6 m (nI 0)) (upd a7 m (nI 0)) (upd a8 m (nI 1)) (upd a9 h (nI m)) a10 a11 a12 a13 a14 a15 a16 a17 a18 a19 a20 a21) : wX_takeOver_12 post (N + 1) (nI (c + 1) - 1) (nI m) (nI h) v3 v4 v5 v6 v7 a1 a2 a3 a4 a5 a6 a7 a8 a9 a10 a11 a12 a13 a14 a15 a16 a17 a18 a19 a20 a21 := by
  rw [nI_pred]
  have ec := nI_clamp (show c < 2 ^ 31 by omega)
  refine br_f (nI_pos (by omega)) (And.intro (pk_in c 12 hc) (nm_r (e' := nI d) (by rw [ec]; exact e21) (pk_eq d 3 (fun z => absurd z (by omega)) (fun _ => pk_le 2 d (fun z => absurd z (by omega)) (fun _ => ?_)))))
  unfold wX_takeOver_88
  exact tw_make0 rfl hd hm hh (nm_r (tl_neg1 _) H)
theorem tw_ts1 {post : St1 → Prop} {v3 v4 v5 v6 v7 : Int32} {a1 a2 a3 a4 a5 a6 a7 a8 a9 a10 a11 a12 a13 a14 a15 a16 a17 a18 a19 a20 a21 : Nat → Int32} {N c m h x z : Nat} (hc : c < 12) (e21 : a21 c = nI 2) (hm : m < 12) (hh : h < 12) (hx : a9 h = nI x) (hx' : x < 12) (hz : a8 x = nI z) (hz' : z < 13)
    (H : wX_takeOver_12 post N (nI c - 1) (nI (m + 1)) (nI (h + 1)) v3 v4 v5 v6 v7 a1 a2 a3 a4 (upd a5 m (nI 2)) (upd a6 m (nI x)) (upd a7 m (nI 0)) (upd a8 m (nI (z + 1))) (upd a9 h (nI m)) a10 a11 a12 a13 a14 a15 a16 a17 a18 a19 a20 a21) : wX_takeOver_12 post (N + 1) (nI (c + 1) - 1) (nI m) (nI (h + 1)) v3 v4 v5 v6 v7 a1 a2 a3 a4 a5 a6 a7 a8 a9 a10 a11 a12 a13 a14 a15 a16 a17 a18 a19 a20 a21 := by
  rw [nI_pred]
  have ec := nI_clamp (show c < 2 ^ 31 by omega)
  refine br_f (nI_pos (by omega)) (And.intro (pk_in c 12 hc) (nm_r (e' := nI 2) (by rw [ec]; exact e21) (br_f (by decide) (br_t (by decide) ?_))))
  rw [show nI 2 - 1 = 1 by decide]
  unfold wX_takeOver_88
  exact tw_make1 hm hh hx hx' hz hz' (nm_r (tl_neg1 _) H)
theorem tw_ts2 {post : St1 → Prop} {v3 v4 v5 v6 v7 : Int32} {a1 a2 a3 a4 a5 a6 a7 a8 a9 a10 a11 a12 a13 a14 a15 a16 a17 a18 a19 a20 a21 : Nat → Int32} {N c m h x y z w : Nat} (hc : c < 12) (e21 : a21 c = nI 3) (hm : m < 12) (hh : h + 1 < 12) (hx : a9 (h + 1) = nI x) (hx' : x < 12) (hy : a9 h = nI y) (hy' : y < 12) (hz : a8 x = nI z) (hw : a8 y = nI w) (hzw : z + w < 13)
    (H : wX_takeOver_12 post N (nI c - 1) (nI (m + 1)) (nI (h + 1)) v3 v4 v5 v6 v7 a1 a2 a3 a4 (upd a5 m (nI 3)) (upd a6 m (nI x)) (upd a7 m (nI y)) (upd a8 m (nI (z + w + 1))) (upd (upd (upd a9 (h + 1) (nI y)) h (nI x)) h (nI m)) a10 a11 a12 a13 a14 a15 a16 a17 a18 a19 a20 a21) : wX_takeOver_12 post (N + 1) (nI (c + 1) - 1) (nI m) (nI (h + 2)) v3 v4 v5 v6 v7 a1 a2 a3 a4 a5 a6 a7 a8 a9 a10 a11 a12 a13 a14 a15 a16 a17 a18 a19 a20 a21 := by
  rw [nI_pred]
  have ec := nI_clamp (show c < 2 ^ 31 by omega)
  have e1 : nI (h + 2) - 1 = nI (h + 1) := nI_pred (h + 1)
  have e2 : nI (h + 2) - 2 = nI h := pk_sub (a := h + 2) (b := 2) (by omega)
  have eh := nI_clamp (show h < 2 ^ 31 by omega)
  have eh1 := nI_clamp (show h + 1 < 2 ^ 31 by omega)
  have j1 := pk_in (x := nI (h + 2) - 1) (h + 1) 12 hh e1
  have j2 := pk_in (x := nI (h + 2) - 2) h 12 (by omega) e2
  refine br_f (nI_pos (by omega)) (And.intro (pk_in c 12 hc) (nm_r (e' := nI 3) (by rw [ec]; exact e21) (br_t (by decide) (And.intro j1 (nm_r (e' := nI x) (by rw [e1, eh1]; exact hx) (And.intro j2 (And.intro j1 ?_)))))))
  refine nm_r (e' := upd a9 (h + 1) (nI y)) (by rw [e1, eh1, e2, eh, hy, tl_v8 (by omega)]) (And.intro j2 ?_)
  refine nm_r (e' := upd (upd a9 (h + 1) (nI y)) h (nI x)) (by rw [e2, eh, tl_v8 (by omega)]) (br_t (by decide) ?_)
  rw [show nI 3 - 1 = 2 by decide]
  unfold wX_takeOver_88
  exact tw_make2 hm hh pk_us hx' (by rw [pk_un (by omega), pk_us]) hy' hz hw hzw (nm_r (tl_neg1 _) H)
theorem tl_T_swap {m h x y : Nat} {a5 a6 a7 a8 a9 : Nat → Int32} (T : tl_T m (h + 2) a5 a6 a7 a8 a9) (hx : a9 (h + 1) = nI x) (hxm : x < m) (hy : a9 h = nI y) (hym : y < m) : tl_T m (h + 2) a5 a6 a7 a8 (upd (upd a9 (h + 1) (nI y)) h (nI x)) := by
  obtain ⟨t1, t2, t5, t6, t7, t8, t9, tk, tz, ts⟩ := T
  refine ⟨t1, t2, t5, t6, t7, t8, tl_R_upd (tl_R_upd t9 hym) hxm, tk, tz, ?_⟩
  have hs : tl_sg (fun j => tl_N a8 (tl_N a9 j)) h + tl_N a8 (tl_N a9 h) + tl_N a8 (tl_N a9 (h + 1)) ≤ m := ts
  rw [tl_N_of hx (by omega), tl_N_of hy (by omega)] at hs
  show tl_sg (fun j => tl_N a8 (tl_N (upd (upd a9 (h + 1) (nI y)) h (nI x)) j)) h + tl_N a8 (tl_N (upd (upd a9 (h + 1) (nI y)) h (nI x)) h) + tl_N a8 (tl_N (upd (upd a9 (h + 1) (nI y)) h (nI x)) (h + 1)) ≤ m
  have q1 : tl_N (upd (upd a9 (h + 1) (nI y)) h (nI x)) h = x := tl_N_us (by omega)
  have q2 : tl_N (upd (upd a9 (h + 1) (nI y)) h (nI x)) (h + 1) = y := by rw [tl_N_un (by omega)]; exact tl_N_us (by omega)
  rw [q1, q2, tl_sg_congr (g := fun j => tl_N a8 (tl_N a9 j)) h (fun j hj => ?_)]
  · omega
  · have q3 : tl_N (upd (upd a9 (h + 1) (nI y)) h (nI x)) j = tl_N a9 j := by rw [tl_N_un (by omega), tl_N_un (by omega)]
    rw [q3]
theorem tl_Sat_res {f1 f2 f3 : Nat → Nat} {a5 a6 a7 b5 b6 b7 : Nat → Int32} {m m' : Nat} {f : Nat → Nat × Nat × Nat} (h : tl_Sat f1 f2 f3 (tl_N b5) (tl_N b6) (tl_N b7) m' f) (hm : m ≤ m') (ag : ∀ k, k < m → b5 k = a5 k ∧ b6 k = a6 k ∧ b7 k = a7 k) : tl_Sat f1 f2 f3 (tl_N a5) (tl_N a6) (tl_N a7) m f := by
  intro k hk
  obtain ⟨g5, g6, g7⟩ := ag k hk
  have e := h k (by omega)
  have n5 : tl_N b5 k = tl_N a5 k := by unfold tl_N; rw [g5]
  have n6 : tl_N b6 k = tl_N a6 k := by unfold tl_N; rw [g6]
  have n7 : tl_N b7 k = tl_N a7 k := by unfold tl_N; rw [g7]
  rw [n5, n6, n7] at e
  exact e
theorem tw_build {post : St1 → Prop} {v3 v4 v5 v6 v7 : Int32} {a1 a2 a3 a4 a10 a11 a12 a13 a14 a15 a16 a17 a18 a19 a20 a21 : Nat → Int32} {f1 f2 f3 : Nat → Nat} :
    ∀ s, s ≤ 7 → ∀ x, x ∈ tl_LL f1 f2 f3 s → ∀ (N c m h : Nat) (a5 a6 a7 a8 a9 : Nat → Int32), m + s ≤ 12 → c + s ≤ 12 → tl_T m h a5 a6 a7 a8 a9 → (∀ j, j < s → a21 (c + j) = nI (x.1.getD j 0)) →
    (∀ b5 b6 b7 b8 b9, tl_T (m + s) (h + 1) b5 b6 b7 b8 b9 → (∀ k, k < m → b5 k = a5 k ∧ b6 k = a6 k ∧ b7 k = a7 k) → (∀ j, j < h → b9 j = a9 j) → b9 h = nI (m + s - 1) → (∀ f, tl_Sat f1 f2 f3 (tl_N b5) (tl_N b6) (tl_N b7) (m + s) f → f (m + s - 1) = x.2) → wX_takeOver_12 post N (nI c - 1) (nI (m + s)) (nI (h + 1)) v3 v4 v5 v6 v7 a1 a2 a3 a4 b5 b6 b7 b8 b9 a10 a11 a12 a13 a14 a15 a16 a17 a18 a19 a20 a21) →
    wX_takeOver_12 post (N + s) (nI (c + s) - 1) (nI m) (nI h) v3 v4 v5 v6 v7 a1 a2 a3 a4 a5 a6 a7 a8 a9 a10 a11 a12 a13 a14 a15 a16 a17 a18 a19 a20 a21 := by
  intro s
  induction s using Nat.strongRecOn with
  | ind s ih =>
    intro hs x hx N c m h a5 a6 a7 a8 a9 hms hcs T h21 H
    have t1 := T.1
    have t2 := T.2.1
    rcases tl_LL_mem hs hx with ⟨e1, ex⟩ | ⟨hs2, y, hy, ex⟩ | ⟨i, j, a, b, hi, hj, hij, ha, hb, ex⟩
    · subst e1
      have main : ∀ d, d < 2 → x = tl_l0 f1 d → wX_takeOver_12 post (N + 1) (nI (c + 1) - 1) (nI m) (nI h) v3 v4 v5 v6 v7 a1 a2 a3 a4 a5 a6 a7 a8 a9 a10 a11 a12 a13 a14 a15 a16 a17 a18 a19 a20 a21 := by
        intro d hd ed
        have e21 : a21 c = nI d := by
          have := h21 0 (by omega)
          rw [ed] at this
          exact this
        refine tw_ts0 (by omega) hd e21 (by omega) (by omega) (H _ _ _ _ _ (tl_T_put0 T (by omega) hd) (fun k hk => ⟨pk_un (by omega), pk_un (by omega), pk_un (by omega)⟩) (fun j hj => pk_un (by omega)) pk_us (fun f hf => ?_))
        have e := hf m (by omega)
        rw [tl_N_us (by omega), tl_op_0 hd] at e
        rw [ed]
        exact e
      rcases ex with ex | ex
      · exact main 0 (by omega) ex
      · exact main 1 (by omega) ex
    · obtain ⟨s', es⟩ : ∃ s', s = s' + 1 := ⟨s - 1, by omega⟩
      subst es
      have hy' : y ∈ tl_LL f1 f2 f3 s' := hy
      rw [show N + (s' + 1) = (N + 1) + s' by omega, show c + (s' + 1) = (c + 1) + s' by omega]
      refine ih s' (by omega) (by omega) y hy' (N + 1) (c + 1) m h a5 a6 a7 a8 a9 (by omega) (by omega) T (fun j hj => ?_) (fun b5 b6 b7 b8 b9 Tb ag g9 gh hf => ?_)
      · have := h21 (j + 1) (by omega)
        rw [ex, show c + (j + 1) = c + 1 + j by omega] at this
        exact this
      · have e21 : a21 c = nI 2 := by
          have := h21 0 (by omega)
          rw [ex] at this
          exact this
        obtain ⟨x', z, e1, hxm, e2, hz⟩ := tl_T_at Tb (show h < h + 1 by omega)
        have hx0 : x' = m + s' - 1 := by
          rw [gh] at e1
          exact ((nI_eq (by omega) (by omega)).mp e1).symm
        have TT := tl_T_put1 (m := m + s') Tb (by omega) e1 hxm e2 hz
        refine tw_ts1 (m := m + s') (by omega) e21 (by omega) (by omega) e1 (by omega) e2 hz (H _ _ _ _ _ TT (fun k hk => ?_) (fun j hj => ?_) pk_us (fun f hsat => ?_))
        · obtain ⟨g5, g6, g7⟩ := ag k hk
          exact ⟨by rw [pk_un (by omega)]; exact g5, by rw [pk_un (by omega)]; exact g6, by rw [pk_un (by omega)]; exact g7⟩
        · rw [pk_un (by omega)]
          exact g9 j hj
        · have e := hsat (m + s') (by omega)
          rw [tl_N_us (by omega), tl_N_us (by omega), tl_op_2] at e
          have r := hf f (tl_Sat_res hsat (by omega) (fun k hk => ⟨pk_un (by omega), pk_un (by omega), pk_un (by omega)⟩))
          rw [hx0, r] at e
          rw [ex]
          exact e
    · subst hij
      rw [show N + (i + j + 1) = ((N + 1) + i) + j by omega, show c + (i + j + 1) = (c + 1 + i) + j by omega]
      have hla := tl_LL_word i (by omega) a ha
      have hlb := tl_LL_word j (by omega) b hb
      have hwd : ∀ k, k < i + j + 1 → a21 (c + k) = nI ((3 :: (a.1 ++ b.1)).getD k 0) := by
        intro k hk
        have := h21 k hk
        rw [ex] at this
        exact this
      refine ih j (by omega) (by omega) b hb ((N + 1) + i) (c + 1 + i) m h a5 a6 a7 a8 a9 (by omega) (by omega) T (fun k hk => ?_) (fun b5 b6 b7 b8 b9 Tb ag g9 gh hfb => ?_)
      · have e := hwd (i + k + 1) (by omega)
        rw [show c + (i + k + 1) = c + 1 + i + k by omega] at e
        rw [e]
        show nI ((a.1 ++ b.1).getD (i + k) 0) = _
        simp [List.getD, List.getElem?_append_right (show a.1.length ≤ i + k by omega), hla]
      · refine ih i (by omega) (by omega) a ha (N + 1) (c + 1) (m + j) (h + 1) b5 b6 b7 b8 b9 (by omega) (by omega) Tb (fun k hk => ?_) (fun d5 d6 d7 d8 d9 Td ag' g9' gh' hfa => ?_)
        · have e := hwd (k + 1) (by omega)
          rw [show c + (k + 1) = c + 1 + k by omega] at e
          rw [e]
          show nI ((a.1 ++ b.1).getD k 0) = _
          simp [List.getD, List.getElem?_append_left (show k < a.1.length by omega)]
        · have e21 : a21 c = nI 3 := hwd 0 (by omega)
          have hd2 : d9 h = nI (m + j - 1) := by rw [g9' h (by omega)]; exact gh
          obtain ⟨x', z, e1, hxm, e2, hz⟩ := tl_T_at Td (show h + 1 < h + 1 + 1 by omega)
          obtain ⟨y', w, e3, hym, e4, hw⟩ := tl_T_at Td (show h < h + 1 + 1 by omega)
          have hx0 : x' = m + j + i - 1 := by
            rw [gh'] at e1
            exact ((nI_eq (by omega) (by omega)).mp e1).symm
          have hy0 : y' = m + j - 1 := by
            rw [hd2] at e3
            exact ((nI_eq (by omega) (by omega)).mp e3).symm
          have Ts := tl_T_swap Td e1 hxm e3 hym
          have q1 : upd (upd d9 (h + 1) (nI y')) h (nI x') h = nI x' := pk_us
          have q2 : upd (upd d9 (h + 1) (nI y')) h (nI x') (h + 1) = nI y' := by rw [pk_un (by omega), pk_us]
          have hzw := tl_T_sum Ts q1 hxm q2 hym e2 e4 hz hw
          have TT := tl_T_put2 Ts (by omega) q1 hxm q2 hym e2 e4 hz hw
          rw [show m + j + i + 1 = m + (i + j + 1) by omega] at TT
          have HH := H _ _ _ _ _ TT (fun k hk => ?_) (fun k hk => ?_) ?_ (fun f hsat => ?_)
          · rw [show m + (i + j + 1) = m + j + i + 1 by omega] at HH
            exact tw_ts2 (by omega) e21 (by omega) (by omega) e1 (by omega) e3 (by omega) e2 e4 hzw HH
          · obtain ⟨g5, g6, g7⟩ := ag k hk
            obtain ⟨u5, u6, u7⟩ := ag' k (by omega)
            exact ⟨by rw [pk_un (by omega), u5]; exact g5, by rw [pk_un (by omega), u6]; exact g6, by rw [pk_un (by omega), u7]; exact g7⟩
          · rw [pk_un (by omega), pk_un (by omega), pk_un (by omega), g9' k (by omega)]
            exact g9 k hk
          · rw [pk_us]
            congr 1
            omega
          · have e := hsat (m + j + i) (by omega)
            rw [tl_N_us (by omega), tl_N_us (by omega), tl_N_us (by omega), tl_op_3] at e
            have s1 := tl_Sat_res (a5 := d5) (a6 := d6) (a7 := d7) (m := m + j + i) hsat (by omega) (fun k hk => ⟨pk_un (by omega), pk_un (by omega), pk_un (by omega)⟩)
            have s2 := tl_Sat_res (a5 := b5) (a6 := b6) (a7 := b7) (m := m + j) s1 (by omega) ag'
            rw [hx0, hy0, hfa f s1, hfb f s2] at e
            rw [ex, show m + (i + j + 1) - 1 = m + j + i by omega]
            exact e
theorem tw_discard {post : Int32 → St1 → Prop} {v1 v2 v3 v4 v5 v6 v7 : Int32} {a1 a2 a3 a4 a5 a6 a7 a8 a9 a10 a11 a12 a13 a14 a15 a16 a17 a18 a19 a20 a21 : Nat → Int32} (H : post v2 (0, 0, v3, v4, v5, v6, v7, a1, a2, a3, a4, a5, a6, a7, a8, a9, a10, a11, a12, a13, a14, a15, a16, a17, a18, a19, a20, a21)) : wpX_discard post (v1, v2, v3, v4, v5, v6, v7, a1, a2, a3, a4, a5, a6, a7, a8, a9, a10, a11, a12, a13, a14, a15, a16, a17, a18, a19, a20, a21) := H
theorem tw_takeOver {post : St1 → Prop} {v1 v2 v3 v4 v5 v6 : Int32} {a1 a2 a3 a4 a5 a6 a7 a8 a9 a10 a11 a12 a13 a14 a15 a16 a17 a18 a19 a20 a21 : Nat → Int32} {f1 f2 f3 : Nat → Nat} {n : Nat} {x : List Nat × Nat × Nat × Nat} (hn : n ≤ 7) (hx : x ∈ tl_LL f1 f2 f3 n) (h21 : ∀ j, j < n → a21 j = nI (x.1.getD j 0))
    (H : ∀ b5 b6 b7 b8 b9, tl_T n 1 b5 b6 b7 b8 b9 → b9 0 = nI (n - 1) → (∀ f, tl_Sat f1 f2 f3 (tl_N b5) (tl_N b6) (tl_N b7) n f → f (n - 1) = x.2) → post (nI n, nI 1, v3, v4, v5, v6, nI n, a1, a2, a3, a4, b5, b6, b7, b8, b9, a10, a11, a12, a13, a14, a15, a16, a17, a18, a19, a20, a21)) : wpX_takeOver post (v1, v2, v3, v4, v5, v6, nI n, a1, a2, a3, a4, a5, a6, a7, a8, a9, a10, a11, a12, a13, a14, a15, a16, a17, a18, a19, a20, a21) := by
  unfold wpX_takeOver
  refine tw_discard (nm_e ⟨1 + n, ?_⟩)
  have B := tw_build (post := post) (v3 := v3) (v4 := v4) (v5 := v5) (v6 := v6) (v7 := nI n) (a1 := a1) (a2 := a2) (a3 := a3) (a4 := a4) (a10 := a10) (a11 := a11) (a12 := a12) (a13 := a13) (a14 := a14) (a15 := a15) (a16 := a16) (a17 := a17) (a18 := a18) (a19 := a19) (a20 := a20) (a21 := a21) n hn x hx 1 0 0 0 a5 a6 a7 a8 a9 (by omega) (by omega) tl_T_0 (fun j hj => by rw [Nat.zero_add]; exact h21 j hj) (fun b5 b6 b7 b8 b9 Tb _ _ gh hf => ?_)
  · rw [Nat.zero_add] at B
    exact B
  · rw [Nat.zero_add] at Tb gh hf ⊢
    exact br_t (by decide) (H b5 b6 b7 b8 b9 Tb gh hf)
end
section
/-! load -/
theorem tw_load {post : Int32 → St1 → Prop} {v1 v2 v3 v4 v5 v6 v7 : Int32} {a1 a2 a3 a4 a5 a6 a7 a8 a9 a10 a11 a12 a13 a14 a15 a16 a17 a18 a19 a20 a21 : Nat → Int32} {x y z : Int32} {k n kk e0 e1 : Nat} (hx : x = nI k) (hy : y = nI n) (hz : z = nI kk) (hk : k < 7) (hn1 : 1 ≤ n) (hn : n ≤ 7) (r1 : tl_R a1 4 16) (r2 : tl_R a2 8 16) (r3 : tl_R a3 32 16) (h0 : a4 0 = nI e0) (h1 : a4 1 = nI e1) (hb0 : e0 < 16) (hb1 : e1 < 16) (hkn : v3 = 0 ∨ (v3 = 1 ∧ tl_CT a1 a2 a3 a14))
    (hkk : kk < tl_cn (tl_N a1) (tl_N a2) (tl_N a3) e0 e1 k n)
    (H : ∀ x v4 v5 v6 v7 a5 a6 a7 a8 a9 a14 a16 a17 a18 a19 a20 a21, tl_CT a1 a2 a3 a14 → tl_T n 1 a5 a6 a7 a8 a9 → tl_vb a1 a2 a3 a5 a6 a7 (tl_tp 1 a9) = x.2 → tl_pick (tl_LL (tl_N a1) (tl_N a2) (tl_N a3) n) (fun x => tl_in e0 e1 k x.2.1) kk x 0 → post 0 (nI n, nI 1, 1, v4, v5, v6, v7, a1, a2, a3, a4, a5, a6, a7, a8, a9, a10, a11, a12, a13, a14, a15, a16, a17, a18, a19, a20, a21)) : wpX_load post (v1, v2, v3, v4, v5, v6, v7, a1, a2, a3, a4, a5, a6, a7, a8, a9, a10, a11, a12, a13, a14, a15, a16, a17, a18, a19, a20, a21) x y z := by
  subst hx
  subst hy
  subst hz
  have hcn := tl_cn_le (tl_N a1) (tl_N a2) (tl_N a3) e0 e1 k hn
  unfold wpX_load
  refine tw_badKind rfl hk (br_t rfl (br_f (nI_nlt (b := 1) hn1 (by omega)) (br_t (nI_le (b := 7) hn (by omega)) ?_)))
  refine tw_find r1 r2 r3 hkn (fun s hs => tw_countOf rfl rfl hk hn r1 r2 r3 h0 h1 hb0 hb1 hs (br_f (nI_pos (by omega)) (br_t (nI_lt hkk (by omega)) ?_)))
  refine pk_loop (fun n' i t => wX_load_49 post (nI k) (nI n) (nI kk) v1 v2 1 v4 v5 v6 v7 n' (nI i) a1 a2 a3 a4 a5 a6 a7 a8 a9 a10 a11 a12 a13 s a15 t a17 a18 a19 a20 a21) (fun i t => ∀ j, j < i → t j = nI (tl_in e0 e1 k j)) 256 0 a16 (by omega) (fun j hj => absurd hj (by omega))
    (fun n' t ht => pk_le 256 256 (fun _ => tw_start (l := 0) rfl (by omega) (by decide) (by omega) ⟨1 + (2 * n - 1), ?_⟩) (fun z => absurd z (by omega)))
    (fun n' i t hi ht hw => pk_le 256 i (fun z => absurd z (by omega)) (fun _ => tw_isOf rfl rfl hk hi h0 h1 hb0 hb1 ?_))
  · refine tw_solve r1 r2 r3 hs n hn1 hn 1 0 0 kk 0 _ _ _ _ _ _ _ (fun p => tl_in e0 e1 k p) (by omega) (by omega) (by omega) pk_us pk_us (fun p hp => by rw [show 256 * 0 + p = p by omega]; exact ht p hp) hkk (Nat.lt_of_le_of_lt hcn (by omega)) (fun x k' b16 b17 b18 b19 b20 b21 hpk _ _ _ _ _ hsp => ?_)
    have hk0 : k' = 0 := by
      obtain ⟨_, _, _, _, hlt⟩ := hpk
      have := tl_in_le e0 e1 k x.2.1
      have hlt2 : k' < tl_in e0 e1 k x.2.1 := hlt
      omega
    subst hk0
    rw [Nat.zero_add, Nat.zero_add]
    refine pk_le 64 (2 * n - 1) (fun z => absurd z (by omega)) (fun _ => br_t (by decide) ?_)
    unfold wX_load_136
    have hwl := tl_LL_word n hn x (tl_pick_mem hpk)
    refine tw_takeOver hn (tl_pick_mem hpk) (fun j hj => ?_) (fun b5 b6 b7 b8 b9 Tb g9 hf => ?_)
    · have e := hsp.2 j (by omega)
      rw [Nat.zero_add] at e
      exact e
    · refine H x _ _ _ _ b5 b6 b7 b8 b9 s b16 b17 b18 b19 b20 b21 hs Tb ?_ hpk
      have et : tl_tp 1 b9 = n - 1 := tl_N_of g9 (by omega)
      rw [et]
      exact hf _ (tl_va_sat Tb.2.2.2.2.2.2.2.1 Tb.1)
  · have hin := tl_in_le e0 e1 k i
    have ei := nI_clamp (show i < 2 ^ 31 by omega)
    refine pk_eq (tl_in e0 e1 k i) 0 (fun z => And.intro (pk_in i 2048 (by omega)) (nm_e (nm_r (nI_1 i) (hw _ ?_)))) (fun z => And.intro (pk_in i 2048 (by omega)) (nm_e (nm_r (nI_1 i) (hw _ ?_))))
    · rw [ei]
      exact tl_fill (f := fun j => nI (tl_in e0 e1 k j)) ht (by show (0 : Int32) = nI (tl_in e0 e1 k i); rw [z]; rfl)
    · rw [ei]
      exact tl_fill (f := fun j => nI (tl_in e0 e1 k j)) ht (by show (1 : Int32) = nI (tl_in e0 e1 k i); rw [show tl_in e0 e1 k i = 1 by omega]; rfl)
theorem tw_load_no {post : Int32 → St1 → Prop} {v1 v2 v3 v4 v5 v6 v7 : Int32} {a1 a2 a3 a4 a5 a6 a7 a8 a9 a10 a11 a12 a13 a14 a15 a16 a17 a18 a19 a20 a21 : Nat → Int32} {x y z : Int32} {k n e0 e1 : Nat} (hx : x = nI k) (hy : y = nI n) (hk : k < 7) (hn1 : 1 ≤ n) (hn : n ≤ 7) (r1 : tl_R a1 4 16) (r2 : tl_R a2 8 16) (r3 : tl_R a3 32 16) (h0 : a4 0 = nI e0) (h1 : a4 1 = nI e1) (hb0 : e0 < 16) (hb1 : e1 < 16) (hkn : v3 = 0 ∨ (v3 = 1 ∧ tl_CT a1 a2 a3 a14))
    (hkk : z < 0 ∨ ∃ kk, z = nI kk ∧ kk < 2 ^ 31 ∧ tl_cn (tl_N a1) (tl_N a2) (tl_N a3) e0 e1 k n ≤ kk)
    (H : ∀ s, tl_CT a1 a2 a3 s → post (-4) (v1, v2, 1, v4, v5, v6, v7, a1, a2, a3, a4, a5, a6, a7, a8, a9, a10, a11, a12, a13, s, a15, a16, a17, a18, a19, a20, a21)) : wpX_load post (v1, v2, v3, v4, v5, v6, v7, a1, a2, a3, a4, a5, a6, a7, a8, a9, a10, a11, a12, a13, a14, a15, a16, a17, a18, a19, a20, a21) x y z := by
  subst hx
  subst hy
  unfold wpX_load
  refine tw_badKind rfl hk (br_t rfl (br_f (nI_nlt (b := 1) hn1 (by omega)) (br_t (nI_le (b := 7) hn (by omega)) ?_)))
  refine tw_find r1 r2 r3 hkn (fun s hs => tw_countOf rfl rfl hk hn r1 r2 r3 h0 h1 hb0 hb1 hs ?_)
  rcases hkk with hz | ⟨kk, hz, hk1, hk2⟩
  · exact br_t hz (H s hs)
  · subst hz
    exact br_f (nI_pos hk1) (br_f (nI_nlt hk2 hk1) (H s hs))
/-! what the law says of two finds -/
theorem tl_pick_at {f1 f2 f3 : Nat → Nat} {n k k' : Nat} {w : (List Nat × Nat × Nat × Nat) → Nat} {x : List Nat × Nat × Nat × Nat} (hn : n ≤ 7) (h : tl_pick (tl_LL f1 f2 f3 n) w k x k') : x.2.2.2 < 382 := by
  obtain ⟨A, B, e, _, _⟩ := h
  rw [tl_LL_at hn e]
  have hl := tl_LL_382 f1 f2 f3 hn
  rw [e, List.length_append] at hl
  have hl2 : A.length + (B.length + 1) ≤ 382 := hl
  show A.length < 382
  omega
theorem tl_pick_cmp {f1 f2 f3 : Nat → Nat} {n k k' : Nat} {w : (List Nat × Nat × Nat × Nat) → Nat} {x y : List Nat × Nat × Nat × Nat} (hn : n ≤ 7) (h : tl_pick (tl_LL f1 f2 f3 n) w k x 0) (h' : tl_pick (tl_LL f1 f2 f3 n) w k' y 0) : y.2.2.2 ≤ x.2.2.2 ↔ k' ≤ k := by
  obtain ⟨A, B, e, h1, h2⟩ := h
  obtain ⟨A', B', e', h3, h4⟩ := h'
  rw [tl_LL_at hn e, tl_LL_at hn e']
  show A'.length ≤ A.length ↔ k' ≤ k
  rcases Nat.lt_trichotomy A.length A'.length with c | c | c
  · have := tl_pick_lt (w := w) e e' c
    constructor
    · intro z; omega
    · intro z; omega
  · have e2 : A = A' := (List.append_inj (e.symm.trans e') c).1
    subst e2
    constructor
    · intro z; omega
    · intro z; omega
  · have := tl_pick_lt (w := w) e' e c
    constructor
    · intro z; omega
    · intro z; omega
theorem tl_in_6 (e0 e1 p : Nat) : tl_in e0 e1 6 p = 1 := rfl
theorem tl_sm_one {α : Type} {w : α → Nat} (A : List α) (h : ∀ x, w x = 1) : tl_sm w A = A.length := by
  induction A with
  | nil => rfl
  | cons x A ih =>
    show w x + tl_sm w A = A.length + 1
    rw [h x, ih]
    omega
theorem tl_pick_6 {f1 f2 f3 : Nat → Nat} {n k e0 e1 : Nat} {x : List Nat × Nat × Nat × Nat} (hn : n ≤ 7) (h : tl_pick (tl_LL f1 f2 f3 n) (fun x => tl_in e0 e1 6 x.2.1) k x 0) : x.2.2.2 = k := by
  obtain ⟨A, B, e, h1, h2⟩ := h
  rw [tl_sm_one A (fun x => tl_in_6 e0 e1 x.2.1)] at h1
  rw [tl_LL_at hn e]
  show A.length = k
  omega
theorem tl_in_4 {e0 e1 p : Nat} (h : 0 < tl_in e0 e1 4 p) : ¬ (p % 16 &&& e0 = 0) ∧ p / 16 &&& e1 = 0 := by
  rw [tl_in_ik (k := 4) rfl rfl] at h
  by_cases ha : p % 16 &&& e0 = 0
  · rw [if_pos ha] at h
    exact absurd h (by simp [tl_ik])
  · refine ⟨ha, ?_⟩
    by_cases hb : p / 16 &&& e1 = 0
    · exact hb
    · rw [if_neg ha, if_neg hb] at h
      exact absurd h (by simp [tl_ik])
theorem tl_m1k : ∀ k, k < 64 → (-1 : Int32) - nI k < 0 := by decide +kernel
end
section
/-! the law's own methods -/
/-- what stands between the law's turns -/
def tl_I (e0 e1 m h : Nat) (v3 : Int32) (a1 a2 a3 a4 a5 a6 a7 a8 a9 a14 a15 : Nat → Int32) : Prop :=
  tl_R a1 4 16 ∧ tl_R a2 8 16 ∧ tl_R a3 32 16 ∧ a4 0 = nI e0 ∧ a4 1 = nI e1 ∧ e0 < 16 ∧ e1 < 16 ∧ tl_T m h a5 a6 a7 a8 a9 ∧ (v3 = 0 ∨ (v3 = 1 ∧ tl_CT a1 a2 a3 a14)) ∧ (∀ k, k < 13 → a15 k = nI (tl_all k))
theorem tw_204 {post : Int32 → St1 → Prop} {v1 v2 v3 v4 v5 v6 v7 : Int32} {a1 a2 a3 a4 a5 a6 a7 a8 a9 a10 a11 a12 a13 a14 a15 a16 a17 a18 a19 a20 a21 : Nat → Int32} {x : Int32} (H : post 1 (v1, v2, v3, v4, v5, v6, v7, a1, a2, a3, a4, a5, a6, a7, a8, a9, a10, a11, a12, a13, a14, a15, a16, a17, a18, a19, a20, a21)) : wL_loads_204 post x x v1 v2 v3 v4 v5 v6 v7 a1 a2 a3 a4 a5 a6 a7 a8 a9 a10 a11 a12 a13 a14 a15 a16 a17 a18 a19 a20 a21 := br_t rfl H
theorem tw_149 {post : Int32 → St1 → Prop} {v1 v2 v3 v4 v5 v6 v7 : Int32} {a1 a2 a3 a4 a5 a6 a7 a8 a9 a10 a11 a12 a13 a14 a15 a16 a17 a18 a19 a20 a21 : Nat → Int32} {k n at0 cn e0 e1 : Nat} {x : List Nat × Nat × Nat × Nat} (hk : k < 7) (hn1 : 1 ≤ n) (hn : n ≤ 7) (r1 : tl_R a1 4 16) (r2 : tl_R a2 8 16) (r3 : tl_R a3 32 16) (h0 : a4 0 = nI e0) (h1 : a4 1 = nI e1) (hb0 : e0 < 16) (hb1 : e1 < 16) (hc : tl_CT a1 a2 a3 a14) (hv : v3 = 1) (hA : ∀ k, k < 13 → a15 k = nI (tl_all k))
    (hcn : cn = tl_cn (tl_N a1) (tl_N a2) (tl_N a3) e0 e1 k n) (hat : at0 < cn) (hpk : tl_pick (tl_LL (tl_N a1) (tl_N a2) (tl_N a3) n) (fun x => tl_in e0 e1 k x.2.1) at0 x 0)
    (H : ∀ m h v3 v4 v5 v6 v7 a5 a6 a7 a8 a9 a12 a13 a14 a16 a17 a18 a19 a20 a21, tl_I e0 e1 m h v3 a1 a2 a3 a4 a5 a6 a7 a8 a9 a14 a15 → post 1 (nI m, nI h, v3, v4, v5, v6, v7, a1, a2, a3, a4, a5, a6, a7, a8, a9, a10, a11, a12, a13, a14, a15, a16, a17, a18, a19, a20, a21)) : wL_loads_149 post (nI k) (nI n) (nI cn) (nI at0) (nI x.2.2.2) v1 v2 v3 v4 v5 v6 v7 a1 a2 a3 a4 a5 a6 a7 a8 a9 a10 a11 a12 a13 a14 a15 a16 a17 a18 a19 a20 a21 := by
  have hcl := tl_cn_le (tl_N a1) (tl_N a2) (tl_N a3) e0 e1 k hn
  have e1' : nI at0 + 1 - (nI at0 + 1) / nI cn * nI cn = nI ((at0 + 1) % cn) := by
    rw [nI_1]
    exact pk_rem (by omega) (by omega) (by omega)
  have hmod : (at0 + 1) % cn < cn := Nat.mod_lt _ (by omega)
  refine And.intro (nI_ne0 (by omega) (by omega)) (nm_r e1' (tw_load rfl rfl rfl hk hn1 hn r1 r2 r3 h0 h1 hb0 hb1 (Or.inr ⟨hv, hc⟩) (by rw [← hcn]; exact hmod) ?_))
  intro y v4 v5 v6 v7 a5 a6 a7 a8 a9 a14 a16 a17 a18 a19 a20 a21 hs Tb hvb hpy
  have I' : tl_I e0 e1 n 1 1 a1 a2 a3 a4 a5 a6 a7 a8 a9 a14 a15 := ⟨r1, r2, r3, h0, h1, hb0, hb1, Tb, Or.inr ⟨rfl, hs⟩, hA⟩
  refine br_t rfl (pk_eq ((at0 + 1) % cn) at0 (fun _ => H n 1 1 v4 v5 v6 v7 a5 a6 a7 a8 a9 a12 a13 a14 a16 a17 a18 a19 a20 a21 I') (fun zne => ?_))
  refine tw_rank (by omega) Tb hA (fun s12 => ?_)
  rw [hvb]
  have b1 := tl_pick_at hn hpk
  have b2 := tl_pick_at hn hpy
  have hcmp := tl_pick_cmp hn hpk hpy
  have HH := H n 1 1 v4 v5 v6 v7 a5 a6 a7 a8 a9 s12 a13 a14 a16 a17 a18 a19 a20 a21 I'
  refine pk_le y.2.2.2 x.2.2.2 (fun z => ?_) (fun z => ?_)
  · exact pk_le ((at0 + 1) % cn) at0 (fun _ => tw_204 HH) (fun z2 => absurd (hcmp.mp z) (by omega))
  · exact pk_le ((at0 + 1) % cn) at0 (fun z2 => absurd (hcmp.mpr z2) (by omega)) (fun _ => tw_204 HH)
theorem tw_125 {post : Int32 → St1 → Prop} {v3 v4 v5 v6 v7 : Int32} {a1 a2 a3 a4 a5 a6 a7 a8 a9 a10 a11 a12 a13 a14 a15 a16 a17 a18 a19 a20 a21 : Nat → Int32} {k n at0 cn e0 e1 : Nat} {x : List Nat × Nat × Nat × Nat} (hk : k < 7) (hn1 : 1 ≤ n) (hn : n ≤ 7) (r1 : tl_R a1 4 16) (r2 : tl_R a2 8 16) (r3 : tl_R a3 32 16) (h0 : a4 0 = nI e0) (h1 : a4 1 = nI e1) (hb0 : e0 < 16) (hb1 : e1 < 16) (hc : tl_CT a1 a2 a3 a14) (hv : v3 = 1) (hA : ∀ k, k < 13 → a15 k = nI (tl_all k))
    (T : tl_T n 1 a5 a6 a7 a8 a9) (hvb : tl_vb a1 a2 a3 a5 a6 a7 (tl_tp 1 a9) = x.2)
    (hcn : cn = tl_cn (tl_N a1) (tl_N a2) (tl_N a3) e0 e1 k n) (hat : at0 < cn) (hpk : tl_pick (tl_LL (tl_N a1) (tl_N a2) (tl_N a3) n) (fun x => tl_in e0 e1 k x.2.1) at0 x 0)
    (H : ∀ m h v3 v4 v5 v6 v7 a5 a6 a7 a8 a9 a12 a13 a14 a16 a17 a18 a19 a20 a21, tl_I e0 e1 m h v3 a1 a2 a3 a4 a5 a6 a7 a8 a9 a14 a15 → post 1 (nI m, nI h, v3, v4, v5, v6, v7, a1, a2, a3, a4, a5, a6, a7, a8, a9, a10, a11, a12, a13, a14, a15, a16, a17, a18, a19, a20, a21)) : wL_loads_125 post (nI k) (nI n) (nI cn) (nI at0) (nI x.2.2.2) (nI n) (nI 1) v3 v4 v5 v6 v7 a1 a2 a3 a4 a5 a6 a7 a8 a9 a10 a11 a12 a13 a14 a15 a16 a17 a18 a19 a20 a21 := by
  refine pk_eq k 4 (fun z => ?_) (fun z => tw_149 hk hn1 hn r1 r2 r3 h0 h1 hb0 hb1 hc hv hA hcn hat hpk H)
  have ht := (tl_tp_at T (by omega)).2
  have hp : 0 < tl_in e0 e1 k x.2.1 := by
    obtain ⟨_, _, _, _, hlt⟩ := hpk
    exact hlt
  rw [z] at hp
  obtain ⟨p0, p1⟩ := tl_in_4 hp
  have hpl : x.2.1 < 256 := tl_LL_pair (tl_B_R r1) (tl_B_R r2) (tl_B_R r3) hn (tl_pick_mem hpk)
  have l0 := tl_rn_lt (a1 := a1) (a2 := a2) (a3 := a3) (mm := 0) (e := e0) T ht
  have q0 := tl_rn_pos T r1 r2 r3 (show 0 < 2 by omega) hb0 ht
  have l1 := tl_rn_lt (a1 := a1) (a2 := a2) (a3 := a3) (mm := 1) (e := e1) T ht
  have q1 := tl_rn_pos T r1 r2 r3 (show 1 < 2 by omega) hb1 ht
  rw [hvb, show tl_st 0 x.2.1 = x.2.1 % 16 from rfl, tl_and' _ (by omega) _ hb0] at q0
  rw [hvb, show tl_st 1 x.2.1 = x.2.1 / 16 from rfl, tl_and' _ (by omega) _ hb1] at q1
  have g0 := q0.mpr p0
  have g1 : tl_rn a1 a2 a3 a5 a6 a7 1 e1 (tl_tp 1 a9) = 0 := by
    rcases Nat.eq_zero_or_pos (tl_rn a1 a2 a3 a5 a6 a7 1 e1 (tl_tp 1 a9)) with h | h
    · exact h
    · exact absurd p1 (q1.mp h)
  refine tw_runs (mm := 0) rfl (by omega) (by omega) T r1 r2 r3 h0 hb0 (fun s => ?_)
  refine br_f (nI_nlt (b := 1) g0 l0) (tw_runs (mm := 1) rfl (by omega) (by omega) T r1 r2 r3 h1 hb1 (fun s' => ?_))
  rw [g1]
  exact br_t rfl (tw_149 hk hn1 hn r1 r2 r3 h0 h1 hb0 hb1 hc hv hA hcn hat hpk H)
theorem tw_loads {post : Int32 → St1 → Prop} {v3 v4 v5 v6 v7 : Int32} {a1 a2 a3 a4 a5 a6 a7 a8 a9 a10 a11 a12 a13 a14 a15 a16 a17 a18 a19 a20 a21 : Nat → Int32} {p1 p2 p3 p4 p5 : Int32} {m h k n kk e0 e1 : Nat} (hp1 : p1 = nI k) (hp2 : p2 = nI n) (hp3 : p3 = nI kk) (hp4 : p4 = nI e0) (hp5 : p5 = nI e1) (hk : k < 7) (hn1 : 1 ≤ n) (hn : n ≤ 7) (hkk : kk < 64)
    (I : tl_I e0 e1 m h v3 a1 a2 a3 a4 a5 a6 a7 a8 a9 a14 a15)
    (H : ∀ m h v3 v4 v5 v6 v7 a5 a6 a7 a8 a9 a12 a13 a14 a16 a17 a18 a19 a20 a21, tl_I e0 e1 m h v3 a1 a2 a3 a4 a5 a6 a7 a8 a9 a14 a15 → post 1 (nI m, nI h, v3, v4, v5, v6, v7, a1, a2, a3, a4, a5, a6, a7, a8, a9, a10, a11, a12, a13, a14, a15, a16, a17, a18, a19, a20, a21)) : wpL_loads post (nI m, nI h, v3, v4, v5, v6, v7, a1, a2, a3, a4, a5, a6, a7, a8, a9, a10, a11, a12, a13, a14, a15, a16, a17, a18, a19, a20, a21) p1 p2 p3 p4 p5 := by
  subst hp1
  subst hp2
  subst hp3
  subst hp4
  subst hp5
  obtain ⟨r1, r2, r3, h0, h1, hb0, hb1, Tr, hkn, hA⟩ := I
  have hcl := tl_cn_le (tl_N a1) (tl_N a2) (tl_N a3) e0 e1 k hn
  obtain ⟨cn, hcn⟩ : ∃ cn, cn = tl_cn (tl_N a1) (tl_N a2) (tl_N a3) e0 e1 k n := ⟨_, rfl⟩
  unfold wpL_loads
  refine tw_count rfl rfl hk hn1 hn r1 r2 r3 h0 h1 hb0 hb1 hkn (fun s hs => ?_)
  rw [← hcn]
  rw [← hcn] at hcl
  refine tw_load_no rfl rfl hk hn1 hn r1 r2 r3 h0 h1 hb0 hb1 (Or.inr ⟨rfl, hs⟩) (Or.inr ⟨cn, rfl, by omega, by omega⟩) (fun s hs => br_t rfl ?_)
  refine tw_load_no rfl rfl hk hn1 hn r1 r2 r3 h0 h1 hb0 hb1 (Or.inr ⟨rfl, hs⟩) (Or.inl (tl_m1k kk hkk)) (fun s hs => br_t rfl ?_)
  refine tw_load_no rfl rfl hk hn1 hn r1 r2 r3 h0 h1 hb0 hb1 (Or.inr ⟨rfl, hs⟩) (Or.inr ⟨cn + kk, nI_add cn kk, by omega, by omega⟩) (fun s hs => br_t rfl ?_)
  refine pk_eq cn 0 (fun _ => H m h 1 v4 v5 v6 v7 a5 a6 a7 a8 a9 a12 a13 s a16 a17 a18 a19 a20 a21 ⟨r1, r2, r3, h0, h1, hb0, hb1, Tr, Or.inr ⟨rfl, hs⟩, hA⟩) (fun zc => ?_)
  have hmod : kk % cn < cn := Nat.mod_lt _ (by omega)
  refine And.intro (nI_ne0 (by omega) (by omega)) (nm_r (pk_rem (by omega) (by omega) (by omega)) (tw_load rfl rfl rfl hk hn1 hn r1 r2 r3 h0 h1 hb0 hb1 (Or.inr ⟨rfl, hs⟩) (by rw [← hcn]; exact hmod) ?_))
  intro x v4 v5 v6 v7 a5 a6 a7 a8 a9 a14 a16 a17 a18 a19 a20 a21 hs Tb hvb hpk
  refine br_t rfl (tw_size Tb (fun z => absurd z (by omega)) (fun _ => ?_))
  have hsz : tl_N a8 (tl_N a9 (1 - 1)) = n := by
    have e := tl_vb_sz (a1 := a1) (a2 := a2) (a3 := a3) Tb (tl_tp 1 a9) (tl_tp_at Tb (by omega)).2
    rw [hvb, tl_LL_size hn (tl_pick_mem hpk)] at e
    exact e.symm
  rw [hsz]
  refine br_t rfl (tw_ended (mm := 0) rfl rfl (by omega) (by omega) Tb r1 r2 r3 h0 hb0 (fun s12 s13 => br_f (by decide) ?_))
  refine tw_ended (mm := 1) rfl rfl (by omega) (by omega) Tb r1 r2 r3 h1 hb1 (fun s12 s13 => br_f (by decide) ?_)
  refine tw_rank (by omega) Tb hA (fun s12 => ?_)
  rw [hvb]
  have b1 := tl_pick_at hn hpk
  refine pk_eq k 6 (fun z => ?_) (fun z => tw_125 hk hn1 hn r1 r2 r3 h0 h1 hb0 hb1 hs rfl hA Tb hvb hcn hmod hpk H)
  have e6 : x.2.2.2 = kk % cn := by
    have hpk6 := hpk
    rw [z] at hpk6
    exact tl_pick_6 hn hpk6
  exact br_t (by rw [e6]) (tw_125 hk hn1 hn r1 r2 r3 h0 h1 hb0 hb1 hs rfl hA Tb hvb hcn hmod hpk H)
end
section
/-! the law's turns -/
theorem tw_leafRule {post : Int32 → St1 → Prop} {v1 v2 v3 v4 v5 v6 v7 : Int32} {a1 a2 a3 a4 a5 a6 a7 a8 a9 a10 a11 a12 a13 a14 a15 a16 a17 a18 a19 a20 a21 : Nat → Int32} {x y z : Int32} {mm l st : Nat} (hx : x = nI mm) (hy : y = nI l) (hz : z = nI st) (hmm : mm < 2) (hl : l < 2) (hst : st < 16) (H : ∀ r, post r (v1, v2, 0, v4, v5, v6, v7, upd a1 (2 * mm + l) (nI st), a2, a3, a4, a5, a6, a7, a8, a9, a10, a11, a12, a13, a14, a15, a16, a17, a18, a19, a20, a21)) : wpX_leafRule post (v1, v2, v3, v4, v5, v6, v7, a1, a2, a3, a4, a5, a6, a7, a8, a9, a10, a11, a12, a13, a14, a15, a16, a17, a18, a19, a20, a21) x y z := by
  subst hx
  subst hy
  subst hz
  unfold wpX_leafRule
  have i1 := pk_in (x := (2 : Int32) * nI mm + nI l) (2 * mm + l) 4 (by omega) (tl_m2 mm l)
  refine tw_badAutomaton rfl hmm (br_t rfl (br_f (nI_pos (by omega)) (br_f (nI_nlt (a := 1) (b := l) (by omega) (by omega)) (tw_badSet rfl hst (br_t rfl (And.intro i1 (nm_e (And.intro i1 (nm_r (e' := upd a1 (2 * mm + l) (nI st)) ?_ (H _))))))))))
  rw [tl_m2, nI_clamp (by omega), tl_b8 st (by omega)]
theorem tw_oneRule {post : Int32 → St1 → Prop} {v1 v2 v3 v4 v5 v6 v7 : Int32} {a1 a2 a3 a4 a5 a6 a7 a8 a9 a10 a11 a12 a13 a14 a15 a16 a17 a18 a19 a20 a21 : Nat → Int32} {x y z : Int32} {mm l st : Nat} (hx : x = nI mm) (hy : y = nI l) (hz : z = nI st) (hmm : mm < 2) (hl : l < 4) (hst : st < 16) (H : ∀ r, post r (v1, v2, 0, v4, v5, v6, v7, a1, upd a2 (4 * mm + l) (nI st), a3, a4, a5, a6, a7, a8, a9, a10, a11, a12, a13, a14, a15, a16, a17, a18, a19, a20, a21)) : wpX_oneRule post (v1, v2, v3, v4, v5, v6, v7, a1, a2, a3, a4, a5, a6, a7, a8, a9, a10, a11, a12, a13, a14, a15, a16, a17, a18, a19, a20, a21) x y z := by
  subst hx
  subst hy
  subst hz
  unfold wpX_oneRule
  have i1 := pk_in (x := (4 : Int32) * nI mm + nI l) (4 * mm + l) 8 (by omega) (tl_m4 mm l)
  refine tw_badAutomaton rfl hmm (br_t rfl (br_f (nI_pos (by omega)) (br_f (nI_nlt (a := 3) (b := l) (by omega) (by omega)) (tw_badSet rfl hst (br_t rfl (And.intro i1 (nm_e (And.intro i1 (nm_r (e' := upd a2 (4 * mm + l) (nI st)) ?_ (H _))))))))))
  rw [tl_m4, nI_clamp (by omega), tl_b8 st (by omega)]
theorem tw_twoRule {post : Int32 → St1 → Prop} {v1 v2 v3 v4 v5 v6 v7 : Int32} {a1 a2 a3 a4 a5 a6 a7 a8 a9 a10 a11 a12 a13 a14 a15 a16 a17 a18 a19 a20 a21 : Nat → Int32} {x y z : Int32} {mm l st : Nat} (hx : x = nI mm) (hy : y = nI l) (hz : z = nI st) (hmm : mm < 2) (hl : l < 16) (hst : st < 16) (H : ∀ r, post r (v1, v2, 0, v4, v5, v6, v7, a1, a2, upd a3 (16 * mm + l) (nI st), a4, a5, a6, a7, a8, a9, a10, a11, a12, a13, a14, a15, a16, a17, a18, a19, a20, a21)) : wpX_twoRule post (v1, v2, v3, v4, v5, v6, v7, a1, a2, a3, a4, a5, a6, a7, a8, a9, a10, a11, a12, a13, a14, a15, a16, a17, a18, a19, a20, a21) x y z := by
  subst hx
  subst hy
  subst hz
  unfold wpX_twoRule
  have i1 := pk_in (x := (16 : Int32) * nI mm + nI l) (16 * mm + l) 32 (by omega) (tl_m16 mm l)
  refine tw_badAutomaton rfl hmm (br_t rfl (tw_badSet rfl hl (br_t rfl (tw_badSet rfl hst (br_t rfl (And.intro i1 (nm_e (And.intro i1 (nm_r (e' := upd a3 (16 * mm + l) (nI st)) ?_ (H _))))))))))
  rw [tl_m16, nI_clamp (by omega), tl_b8 st (by omega)]
theorem tw_finals {post : Int32 → St1 → Prop} {v1 v2 v3 v4 v5 v6 v7 : Int32} {a1 a2 a3 a4 a5 a6 a7 a8 a9 a10 a11 a12 a13 a14 a15 a16 a17 a18 a19 a20 a21 : Nat → Int32} {x z : Int32} {mm st : Nat} (hx : x = nI mm) (hz : z = nI st) (hmm : mm < 2) (hst : st < 16) (H : ∀ r, post r (v1, v2, v3, v4, v5, v6, v7, a1, a2, a3, upd a4 mm (nI st), a5, a6, a7, a8, a9, a10, a11, a12, a13, a14, a15, a16, a17, a18, a19, a20, a21)) : wpX_finals post (v1, v2, v3, v4, v5, v6, v7, a1, a2, a3, a4, a5, a6, a7, a8, a9, a10, a11, a12, a13, a14, a15, a16, a17, a18, a19, a20, a21) x z := by
  subst hx
  subst hz
  unfold wpX_finals
  have i1 := pk_in (x := nI mm) mm 2 hmm
  refine tw_badAutomaton rfl hmm (br_t rfl (tw_badSet rfl hst (br_t rfl (And.intro i1 (nm_e (And.intro i1 (nm_r (e' := upd a4 mm (nI st)) ?_ (H _))))))))
  rw [nI_clamp (by omega), tl_b8 st (by omega)]
def tl_e0 (op mm st e : Nat) : Nat := if (op = 11 ∨ op = 12) ∧ mm = 0 then st else e
def tl_e1 (op mm st e : Nat) : Nat := if (op = 11 ∨ op = 12) ∧ mm = 1 then st else e
theorem tw_turn {post : St1 → Prop} {v3 v4 v5 v6 v7 : Int32} {a1 a2 a3 a4 a5 a6 a7 a8 a9 a10 a11 a12 a13 a14 a15 a16 a17 a18 a19 a20 a21 : Nat → Int32} {p1 p2 : Int32} {m h e0 e1 op mm st : Nat} (eop : p1 &&& 15 = nI op) (hop : op < 16) (emm : (p1 >>> ((4 : Int32) &&& 31)) &&& 1 = nI mm) (hmm : mm < 2) (est : p2 &&& 15 = nI st) (hst : st < 16)
    (I : tl_I e0 e1 m h v3 a1 a2 a3 a4 a5 a6 a7 a8 a9 a14 a15)
    (H : ∀ m h v3 a1 a2 a3 a4 a5 a6 a7 a8 a9, tl_I (tl_e0 op mm st e0) (tl_e1 op mm st e1) m h v3 a1 a2 a3 a4 a5 a6 a7 a8 a9 a14 a15 → post (nI m, nI h, v3, v4, v5, v6, v7, a1, a2, a3, a4, a5, a6, a7, a8, a9, a10, a11, a12, a13, a14, a15, a16, a17, a18, a19, a20, a21)) : wpL_turn post (nI m, nI h, v3, v4, v5, v6, v7, a1, a2, a3, a4, a5, a6, a7, a8, a9, a10, a11, a12, a13, a14, a15, a16, a17, a18, a19, a20, a21) p1 p2 := by
  obtain ⟨r1, r2, r3, h0, h1, hb0, hb1, Tr, hkn, hA⟩ := I
  have same : ¬ (op = 11 ∨ op = 12) → tl_e0 op mm st e0 = e0 ∧ tl_e1 op mm st e1 = e1 := fun z => ⟨if_neg (fun q => z q.1), if_neg (fun q => z q.1)⟩
  refine nm_r eop (nm_r emm (nm_r est ?_))
  refine pk_le 4 op (fun z4 => pk_le 6 op (fun z6 => pk_le 11 op (fun z11 => pk_le 13 op (fun z13 => pk_eq op 13 (fun z => ?_) (fun z => pk_eq op 14 (fun z' => ?_) (fun z' => ?_))) (fun z13 => ?_)) (fun z11 => ?_)) (fun z6 => ?_)) (fun z4 => ?_)
  · obtain ⟨c, hc, ec⟩ := pk_andE p2 (m := 1) 1 (by decide)
    obtain ⟨s0, s1⟩ := same (by omega)
    refine tw_leaf ec hc Tr (fun r m h a5 a6 a7 a8 a9 T' => H m h v3 a1 a2 a3 a4 a5 a6 a7 a8 a9 ?_)
    rw [s0, s1]
    exact ⟨r1, r2, r3, h0, h1, hb0, hb1, T', hkn, hA⟩
  · obtain ⟨s0, s1⟩ := same (by omega)
    refine tw_one Tr (fun r m h a5 a6 a7 a8 a9 T' => H m h v3 a1 a2 a3 a4 a5 a6 a7 a8 a9 ?_)
    rw [s0, s1]
    exact ⟨r1, r2, r3, h0, h1, hb0, hb1, T', hkn, hA⟩
  · obtain ⟨s0, s1⟩ := same (by omega)
    refine tw_two Tr (fun r m h a5 a6 a7 a8 a9 T' => H m h v3 a1 a2 a3 a4 a5 a6 a7 a8 a9 ?_)
    rw [s0, s1]
    exact ⟨r1, r2, r3, h0, h1, hb0, hb1, T', hkn, hA⟩
  · refine tw_finals rfl rfl hmm hst (fun r => H m h v3 a1 a2 a3 _ a5 a6 a7 a8 a9 ?_)
    have ho : op = 11 ∨ op = 12 := by omega
    by_cases hz : mm = 0
    · subst hz
      rw [show tl_e0 op 0 st e0 = st from if_pos ⟨ho, rfl⟩, show tl_e1 op 0 st e1 = e1 from if_neg (fun q => absurd q.2 (by omega))]
      exact ⟨r1, r2, r3, pk_us, by rw [pk_un (by omega)]; exact h1, hst, hb1, Tr, hkn, hA⟩
    · have hz1 : mm = 1 := by omega
      subst hz1
      rw [show tl_e0 op 1 st e0 = e0 from if_neg (fun q => absurd q.2 (by omega)), show tl_e1 op 1 st e1 = st from if_pos ⟨ho, rfl⟩]
      exact ⟨r1, r2, r3, by rw [pk_un (by omega)]; exact h0, pk_us, hb0, hst, Tr, hkn, hA⟩
  · obtain ⟨c, hc, ec⟩ := pk_andE (p2 >>> ((4 : Int32) &&& 31)) (m := 15) 4 (by decide)
    obtain ⟨s0, s1⟩ := same (by omega)
    refine tw_twoRule rfl ec rfl hmm hc hst (fun r => H m h 0 a1 a2 _ a4 a5 a6 a7 a8 a9 ?_)
    rw [s0, s1]
    exact ⟨r1, r2, tl_R_upd r3 hst, h0, h1, hb0, hb1, Tr, Or.inl rfl, hA⟩
  · obtain ⟨c, hc, ec⟩ := pk_andE (p2 >>> ((4 : Int32) &&& 31)) (m := 3) 2 (by decide)
    obtain ⟨s0, s1⟩ := same (by omega)
    refine tw_oneRule rfl ec rfl hmm hc hst (fun r => H m h 0 a1 _ a3 a4 a5 a6 a7 a8 a9 ?_)
    rw [s0, s1]
    exact ⟨r1, tl_R_upd r2 hst, r3, h0, h1, hb0, hb1, Tr, Or.inl rfl, hA⟩
  · obtain ⟨c, hc, ec⟩ := pk_andE (p2 >>> ((4 : Int32) &&& 31)) (m := 1) 1 (by decide)
    obtain ⟨s0, s1⟩ := same (by omega)
    refine tw_leafRule rfl ec rfl hmm hc hst (fun r => H m h 0 _ a2 a3 a4 a5 a6 a7 a8 a9 ?_)
    rw [s0, s1]
    exact ⟨tl_R_upd r1 hst, r2, r3, h0, h1, hb0, hb1, Tr, Or.inl rfl, hA⟩
theorem tw_cell {post : Int32 → Prop} {L : Nat} {xs : Nat → Int32} {p : Int32} {k : Nat} (hp : p = nI k) (hk : k < 2 ^ 31) (hL : L < 2 ^ 31) (H : ∀ v, post v) : wpL_cell post L xs () p := by
  subst hp
  exact pk_le L k (fun _ => H _) (fun z => And.intro (pk_in k L z rfl hL) (H _))
theorem tw_171 {post : Int32 → Prop} {L : Nat} {xs : Nat → Int32} {v3 v4 v5 v6 v7 : Int32} {a1 a2 a3 a4 a5 a6 a7 a8 a9 a10 a11 a12 a13 a14 a15 a16 a17 a18 a19 a20 a21 : Nat → Int32} {x4 x5 x6 x7 : Int32} {kc ks N k n e0 e1 m h : Nat} (hk : k < 7) (hn1 : 1 ≤ n) (hn : n ≤ 7) (I : tl_I e0 e1 m h v3 a1 a2 a3 a4 a5 a6 a7 a8 a9 a14 a15)
    (H : ∀ x4 m h v3 v4 v5 v6 v7 a5 a6 a7 a8 a9 a12 a13 a14 a16 a17 a18 a19 a20 a21, tl_I e0 e1 m h v3 a1 a2 a3 a4 a5 a6 a7 a8 a9 a14 a15 → wL_law_18 post L xs kc ks N (nI e0) (nI e1) x4 (x5 + 2) (nI m) (nI h) v3 v4 v5 v6 v7 a1 a2 a3 a4 a5 a6 a7 a8 a9 a10 a11 a12 a13 a14 a15 a16 a17 a18 a19 a20 a21) :
    wL_law_171 post L xs (wL_law_18 post L xs kc ks N) (nI e0) (nI e1) x4 x5 x6 x7 (nI k) (nI n) kc ks (nI m) (nI h) v3 v4 v5 v6 v7 a1 a2 a3 a4 a5 a6 a7 a8 a9 a10 a11 a12 a13 a14 a15 a16 a17 a18 a19 a20 a21 := by
  have I0 := I
  obtain ⟨r1, r2, r3, h0, h1, hb0, hb1, Tr, hkn, hA⟩ := I
  refine br_c (fun _ => nm_e (br_c (fun _ => nm_e (H _ m h v3 v4 v5 v6 v7 a5 a6 a7 a8 a9 a12 a13 a14 a16 a17 a18 a19 a20 a21 I0)) (fun _ => ?_))) (fun _ => nm_e (H _ m h v3 v4 v5 v6 v7 a5 a6 a7 a8 a9 a12 a13 a14 a16 a17 a18 a19 a20 a21 I0))
  refine tw_counts rfl hn1 hn r1 r2 r3 h0 h1 hb0 hb1 hkn (fun s hs => br_f (by decide) ?_)
  obtain ⟨kk, hkk, ekk⟩ := pk_andE (x7 >>> ((8 : Int32) &&& 31)) (m := 63) 6 (by decide)
  exact tw_loads rfl rfl ekk rfl rfl hk hn1 hn hkk ⟨r1, r2, r3, h0, h1, hb0, hb1, Tr, Or.inr ⟨rfl, hs⟩, hA⟩ (fun m h v3 v4 v5 v6 v7 a5 a6 a7 a8 a9 a12 a13 a14 a16 a17 a18 a19 a20 a21 I' => br_f (by decide) (nm_e (H _ m h v3 v4 v5 v6 v7 a5 a6 a7 a8 a9 a12 a13 a14 a16 a17 a18 a19 a20 a21 I')))
theorem tw_117 {post : Int32 → Prop} {L : Nat} {xs : Nat → Int32} {v3 v4 v5 v6 v7 : Int32} {a1 a2 a3 a4 a5 a6 a7 a8 a9 a10 a11 a12 a13 a14 a15 a16 a17 a18 a19 a20 a21 : Nat → Int32} {x4 x5 x6 x7 : Int32} {kc ks N e0 e1 m h : Nat} (I : tl_I e0 e1 m h v3 a1 a2 a3 a4 a5 a6 a7 a8 a9 a14 a15)
    (H : ∀ x4 m h v3 v4 v5 v6 v7 a5 a6 a7 a8 a9 a12 a13 a14 a16 a17 a18 a19 a20 a21, tl_I e0 e1 m h v3 a1 a2 a3 a4 a5 a6 a7 a8 a9 a14 a15 → wL_law_18 post L xs kc ks N (nI e0) (nI e1) x4 (x5 + 2) (nI m) (nI h) v3 v4 v5 v6 v7 a1 a2 a3 a4 a5 a6 a7 a8 a9 a10 a11 a12 a13 a14 a15 a16 a17 a18 a19 a20 a21) :
    wL_law_117 post L xs (wL_law_18 post L xs kc ks N) (nI e0) (nI e1) x4 x5 x6 x7 kc ks (nI m) (nI h) v3 v4 v5 v6 v7 a1 a2 a3 a4 a5 a6 a7 a8 a9 a10 a11 a12 a13 a14 a15 a16 a17 a18 a19 a20 a21 := by
  have I0 := I
  obtain ⟨r1, r2, r3, h0, h1, hb0, hb1, Tr, hkn, hA⟩ := I
  obtain ⟨k, hk, ek⟩ := pk_andE (x6 >>> ((5 : Int32) &&& 31)) (m := 127) 7 (by decide)
  obtain ⟨n, hn, en⟩ := pk_andE (x6 >>> ((12 : Int32) &&& 31)) (m := 127) 7 (by decide)
  have hk' : k < 128 := hk
  have hn' : n < 128 := hn
  have q1 : ((x6 >>> ((5 : Int32) &&& 31)) &&& 127) - ((x6 >>> ((5 : Int32) &&& 31)) &&& 127) / 7 * 7 = nI (k % 7) := by
    rw [ek]
    exact pk_rem (d := 7) (by omega) (by omega) (by omega)
  have q2 : 1 + (((x6 >>> ((12 : Int32) &&& 31)) &&& 127) - ((x6 >>> ((12 : Int32) &&& 31)) &&& 127) / 7 * 7) = nI (1 + n % 7) := by
    have q3 : nI n - nI n / 7 * 7 = nI (n % 7) := pk_rem (d := 7) (by omega) (by omega) (by omega)
    rw [en, q3]
    exact nI_add 1 _
  refine And.intro (by decide) (nm_r q1 (And.intro (by decide) (nm_r q2 (tw_size Tr (fun z => br_t (by decide) (tw_171 (by omega) (by omega) (by omega) I0 H)) (fun z => ?_)))))
  have hs1 := (tl_tp_at Tr z).2
  have hs2 := (Tr.2.2.2.2.2.2.2.2.1 _ hs1).1
  have hs3 := (tl_R_at Tr.2.2.2.2.2.1 hs1).2
  have ht : tl_tp h a9 = tl_N a9 (h - 1) := rfl
  rw [ht] at hs1 hs2 hs3
  refine br_f (nI_nle (by omega) (by omega)) (tw_ended (mm := 0) rfl rfl (by omega) z Tr r1 r2 r3 h0 hb0 (fun s12 s13 => br_f (by decide) ?_))
  refine tw_ended (mm := 1) rfl rfl (by omega) z Tr r1 r2 r3 h1 hb1 (fun s12 s13 => br_f (by decide) ?_)
  exact tw_171 (by omega) (by omega) (by omega) I0 H
theorem tw_tail {post : Int32 → Prop} {L : Nat} {xs : Nat → Int32} {v1 v2 v3 v4 v5 v6 v7 : Int32} {a1 a2 a3 a4 a5 a6 a7 a8 a9 a10 a11 a12 a13 a14 a15 a16 a17 a18 a19 a20 a21 : Nat → Int32} {x4 x5 x6 x7 x8 : Int32} {kc ks N e0 e1 op mm st : Nat} (eop : x8 = nI op) (hop : op < 16) (emm : (x6 >>> ((4 : Int32) &&& 31)) &&& 1 = nI mm) (hmm : mm < 2) (est : x7 &&& 15 = nI st)
    (H : wL_law_117 post L xs (wL_law_18 post L xs kc ks N) (nI (tl_e0 op mm st e0)) (nI (tl_e1 op mm st e1)) x4 x5 x6 x7 kc ks v1 v2 v3 v4 v5 v6 v7 a1 a2 a3 a4 a5 a6 a7 a8 a9 a10 a11 a12 a13 a14 a15 a16 a17 a18 a19 a20 a21) :
    (x8 = 11 → wL_law_72 post L xs (wL_law_18 post L xs kc ks N) (nI e0) (nI e1) x4 x5 x6 x7 x8 kc ks v1 v2 v3 v4 v5 v6 v7 a1 a2 a3 a4 a5 a6 a7 a8 a9 a10 a11 a12 a13 a14 a15 a16 a17 a18 a19 a20 a21) ∧ (¬ x8 = 11 → ((x8 = 12 → wL_law_72 post L xs (wL_law_18 post L xs kc ks N) (nI e0) (nI e1) x4 x5 x6 x7 x8 kc ks v1 v2 v3 v4 v5 v6 v7 a1 a2 a3 a4 a5 a6 a7 a8 a9 a10 a11 a12 a13 a14 a15 a16 a17 a18 a19 a20 a21) ∧ (¬ x8 = 12 → wL_law_87 post L xs (wL_law_18 post L xs kc ks N) (nI e0) (nI e1) x4 x5 x6 x7 x8 kc ks v1 v2 v3 v4 v5 v6 v7 a1 a2 a3 a4 a5 a6 a7 a8 a9 a10 a11 a12 a13 a14 a15 a16 a17 a18 a19 a20 a21))) := by
  subst eop
  have A : op = 11 ∨ op = 12 → wL_law_72 post L xs (wL_law_18 post L xs kc ks N) (nI e0) (nI e1) x4 x5 x6 x7 (nI op) kc ks v1 v2 v3 v4 v5 v6 v7 a1 a2 a3 a4 a5 a6 a7 a8 a9 a10 a11 a12 a13 a14 a15 a16 a17 a18 a19 a20 a21 := by
    intro ho
    by_cases hz : mm = 0
    · rw [show tl_e0 op mm st e0 = st from if_pos ⟨ho, hz⟩, show tl_e1 op mm st e1 = e1 from if_neg (fun q => absurd q.2 (by omega))] at H
      have k101 : wL_law_101 post L xs (wL_law_18 post L xs kc ks N) (nI st) (nI e1) x4 x5 x6 x7 kc ks v1 v2 v3 v4 v5 v6 v7 a1 a2 a3 a4 a5 a6 a7 a8 a9 a10 a11 a12 a13 a14 a15 a16 a17 a18 a19 a20 a21 := br_f (by rw [emm, hz]; decide) H
      exact br_t (by rw [emm, hz]; rfl) (nm_r est (pk_eq op 11 (fun _ => k101) (fun z => br_t (by rw [show op = 12 by omega]; rfl) k101)))
    · have hz1 : mm = 1 := by omega
      rw [show tl_e0 op mm st e0 = e0 from if_neg (fun q => absurd q.2 (by omega)), show tl_e1 op mm st e1 = st from if_pos ⟨ho, hz1⟩] at H
      have k101 : wL_law_101 post L xs (wL_law_18 post L xs kc ks N) (nI e0) (nI e1) x4 x5 x6 x7 kc ks v1 v2 v3 v4 v5 v6 v7 a1 a2 a3 a4 a5 a6 a7 a8 a9 a10 a11 a12 a13 a14 a15 a16 a17 a18 a19 a20 a21 := br_t (by rw [emm, hz1]; rfl) (nm_r est H)
      exact br_f (by rw [emm, hz1]; decide) (pk_eq op 11 (fun _ => k101) (fun z => br_t (by rw [show op = 12 by omega]; rfl) k101))
  refine pk_eq op 11 (fun z => A (Or.inl z)) (fun z => pk_eq op 12 (fun z' => A (Or.inr z')) (fun z' => ?_))
  rw [show tl_e0 op mm st e0 = e0 from if_neg (fun q => by have := q.1; omega), show tl_e1 op mm st e1 = e1 from if_neg (fun q => by have := q.1; omega)] at H
  exact pk_eq op 11 (fun w => absurd w z) (fun _ => pk_eq op 12 (fun w => absurd w z') (fun _ => H))
end
section
/-! the making of an object; the law's loop -/
theorem tl_q_s {n i : Nat} (hi : 1 ≤ i) : tl_q n i + tl_all i * tl_all (n - 1 - i) = tl_q n (i + 1) := by
  obtain ⟨j, e⟩ : ∃ j, i = j + 1 := ⟨i - 1, by omega⟩
  subst e
  show tl_sg (fun i => tl_all (i + 1) * tl_all (n - 2 - i)) j + _ = tl_sg (fun i => tl_all (i + 1) * tl_all (n - 2 - i)) j + tl_all (j + 1) * tl_all (n - 2 - j)
  rw [show n - 1 - (j + 1) = n - 2 - j by omega]
theorem tw_init {post : St1 → Prop} (H : ∀ s, (∀ j, j < 13 → s j = nI (tl_all j)) → post (0, 0, 0, 0, 0, 0, 0, (fun _ => 0), (fun _ => 0), (fun _ => 0), (fun _ => 0), (fun _ => 0), (fun _ => 0), (fun _ => 0), (fun _ => 0), (fun _ => 0), (fun _ => 0), (fun _ => 0), (fun _ => 0), (fun _ => 0), (fun _ => 0), s, (fun _ => 0), (fun _ => 0), (fun _ => 0), (fun _ => 0), (fun _ => 0), (fun _ => 0))) : wpX_init post 21 4347 (0, 0, 0, 0, 0, 0, 0) := by
  unfold wpX_init
  iterate 42 refine And.intro (by decide) ?_
  refine nm_e ?_
  refine pk_loop (fun n' i s => wX_init_181 post 21 4347 21 4347 0 0 0 0 0 0 0 n' (nI i) (fun _ => 0) (fun _ => 0) (fun _ => 0) (fun _ => 0) (fun _ => 0) (fun _ => 0) (fun _ => 0) (fun _ => 0) (fun _ => 0) (fun _ => 0) (fun _ => 0) (fun _ => 0) (fun _ => 0) (fun _ => 0) s (fun _ => 0) (fun _ => 0) (fun _ => 0) (fun _ => 0) (fun _ => 0) (fun _ => 0)) (fun i s => 2 ≤ i ∧ ∀ j, j < i → s j = nI (tl_all j)) 13 2 (upd (fun _ => 0) 1 2) (by omega) ⟨by omega, fun j hj => ?_⟩
    (fun n' s hs => pk_lt 12 13 (fun _ => H s hs.2) (fun z => absurd z (by omega)))
    (fun n' n s hn hs hw => pk_lt 12 n (fun z => absurd z (by omega)) (fun _ => ?_))
  · by_cases e : j = 1
    · subst e
      rfl
    · have e0 : j = 0 := by omega
      subst e0
      rfl
  · obtain ⟨hn2, hs⟩ := hs
    have e1 : nI n - 1 = nI (n - 1) := tl_s1 (by omega)
    have en := nI_clamp (show n < 2 ^ 31 by omega)
    refine And.intro (pk_in (n - 1) 13 (by omega) e1) (nm_r (e' := nI (tl_all (n - 1) + tl_q n 1)) (by rw [e1, nI_clamp (by omega)]; exact hs _ (by omega)) ?_)
    refine pk_loop (σ := Unit) (fun f i _ => wX_init_198 post 21 4347 (wX_init_181 post 21 4347 21 4347 0 0 0 0 0 0 0 n') (nI n) 21 4347 0 0 0 0 0 0 0 (fun _ => 0) (fun _ => 0) (fun _ => 0) (fun _ => 0) (fun _ => 0) (fun _ => 0) (fun _ => 0) (fun _ => 0) (fun _ => 0) (fun _ => 0) (fun _ => 0) (fun _ => 0) (fun _ => 0) (fun _ => 0) s (fun _ => 0) (fun _ => 0) (fun _ => 0) (fun _ => 0) (fun _ => 0) (fun _ => 0) f (nI (tl_all (n - 1) + tl_q n i)) (nI i)) (fun i _ => 1 ≤ i) (n - 1) 1 () (by omega) (Nat.le_refl _)
      (fun f _ _ => pk_le (n - 1) (n - 1) (fun _ => And.intro (pk_in n 13 hn) (nm_e (nm_r (nI_1 n) (hw _ ⟨by omega, ?_⟩)))) (fun z => absurd z (by omega)) e1)
      (fun f i _ hi hi1 hw2 => pk_le (n - 1) i (fun z => absurd z (by omega)) (fun _ => ?_) e1)
    · rw [en, tl_all_s n hn hn2]
      exact tl_fill (f := fun j => nI (tl_all j)) hs rfl
    · have e2 : nI n - 1 - nI i = nI (n - 1 - i) := by rw [e1, pk_sub (by omega)]
      refine And.intro (pk_in i 13 (by omega)) (And.intro (pk_in (n - 1 - i) 13 (by omega) e2) (nm_r ?_ (nm_r (nI_1 i) (hw2 () (by omega)))))
      rw [e2, nI_clamp (show i < 2 ^ 31 by omega), nI_clamp (show n - 1 - i < 2 ^ 31 by omega), hs i (by omega), hs (n - 1 - i) (by omega), pk_mul, nI_add, Nat.add_assoc, tl_q_s hi1]
theorem tw_law {L : Nat} {xs : Nat → Int32} {kc ks : Nat} (hL : L ≤ 260) : ∀ (N k e0 e1 m h : Nat) (x4 v3 v4 v5 v6 v7 : Int32) (a1 a2 a3 a4 a5 a6 a7 a8 a9 a10 a11 a12 a13 a14 a15 a16 a17 a18 a19 a20 a21 : Nat → Int32), k ≤ L + 1 → L ≤ k + 2 * N → tl_I e0 e1 m h v3 a1 a2 a3 a4 a5 a6 a7 a8 a9 a14 a15 → wL_law_18 (fun r => r = 1) L xs kc ks (N + 1) (nI e0) (nI e1) x4 (nI k) (nI m) (nI h) v3 v4 v5 v6 v7 a1 a2 a3 a4 a5 a6 a7 a8 a9 a10 a11 a12 a13 a14 a15 a16 a17 a18 a19 a20 a21 := by
  have done : ∀ (N k e0 e1 m h : Nat) (x4 v3 v4 v5 v6 v7 : Int32) (a1 a2 a3 a4 a5 a6 a7 a8 a9 a10 a11 a12 a13 a14 a15 a16 a17 a18 a19 a20 a21 : Nat → Int32), k ≤ L + 1 → L ≤ k → tl_I e0 e1 m h v3 a1 a2 a3 a4 a5 a6 a7 a8 a9 a14 a15 → wL_law_18 (fun r => r = 1) L xs kc ks (N + 1) (nI e0) (nI e1) x4 (nI k) (nI m) (nI h) v3 v4 v5 v6 v7 a1 a2 a3 a4 a5 a6 a7 a8 a9 a10 a11 a12 a13 a14 a15 a16 a17 a18 a19 a20 a21 := by
    intro N k e0 e1 m h x4 v3 v4 v5 v6 v7 a1 a2 a3 a4 a5 a6 a7 a8 a9 a10 a11 a12 a13 a14 a15 a16 a17 a18 a19 a20 a21 hk hLk I
    obtain ⟨r1, r2, r3, h0, h1, hb0, hb1, Tr, hkn, hA⟩ := I
    refine pk_le L k (fun _ => ?_) (fun z => absurd z (by omega))
    refine tw_counts (n := 3) rfl (by omega) (by omega) r1 r2 r3 h0 h1 hb0 hb1 hkn (fun s hs => br_f (by decide) ?_)
    refine tw_counts (n := 5) rfl (by omega) (by omega) r1 r2 r3 h0 h1 hb0 hb1 (Or.inr ⟨rfl, hs⟩) (fun s hs => br_f (by decide) ?_)
    refine tw_loads (k := 4) (n := 4) (kk := 1) rfl rfl rfl rfl rfl (by omega) (by omega) (by omega) (by omega) ⟨r1, r2, r3, h0, h1, hb0, hb1, Tr, Or.inr ⟨rfl, hs⟩, hA⟩ (fun m h v3 v4 v5 v6 v7 a5 a6 a7 a8 a9 a12 a13 a14 a16 a17 a18 a19 a20 a21 I' => br_f (by decide) ?_)
    refine tw_loads (k := 0) (n := 5) (kk := 2) rfl rfl rfl rfl rfl (by omega) (by omega) (by omega) (by omega) I' (fun m h v3 v4 v5 v6 v7 a5 a6 a7 a8 a9 a12 a13 a14 a16 a17 a18 a19 a20 a21 I' => br_f (by decide) ?_)
    exact tw_loads (k := 6) (n := 6) (kk := 50) rfl rfl rfl rfl rfl (by omega) (by omega) (by omega) (by omega) I' (fun m h v3 v4 v5 v6 v7 a5 a6 a7 a8 a9 a12 a13 a14 a16 a17 a18 a19 a20 a21 I' => br_f (by decide) rfl)
  intro N
  induction N with
  | zero =>
    intro k e0 e1 m h x4 v3 v4 v5 v6 v7 a1 a2 a3 a4 a5 a6 a7 a8 a9 a10 a11 a12 a13 a14 a15 a16 a17 a18 a19 a20 a21 hk hN I
    exact done 0 k e0 e1 m h x4 v3 v4 v5 v6 v7 a1 a2 a3 a4 a5 a6 a7 a8 a9 a10 a11 a12 a13 a14 a15 a16 a17 a18 a19 a20 a21 hk (by omega) I
  | succ N ih =>
    intro k e0 e1 m h x4 v3 v4 v5 v6 v7 a1 a2 a3 a4 a5 a6 a7 a8 a9 a10 a11 a12 a13 a14 a15 a16 a17 a18 a19 a20 a21 hk hN I
    by_cases hLk : L ≤ k
    · exact done (N + 1) k e0 e1 m h x4 v3 v4 v5 v6 v7 a1 a2 a3 a4 a5 a6 a7 a8 a9 a10 a11 a12 a13 a14 a15 a16 a17 a18 a19 a20 a21 hk hLk I
    · refine pk_le L k (fun z => absurd z hLk) (fun _ => ?_)
      refine tw_cell (k := k) rfl (by omega) (by omega) (fun c => tw_cell (k := k + 1) (nI_1 k) (by omega) (by omega) (fun d => nm_e ?_))
      obtain ⟨op, hop, eop⟩ := pk_andE c (m := 15) 4 (by decide)
      obtain ⟨mm, hmm, emm⟩ := pk_andE (c >>> ((4 : Int32) &&& 31)) (m := 1) 1 (by decide)
      obtain ⟨st, hst, est⟩ := pk_andE d (m := 15) 4 (by decide)
      refine tw_turn eop hop emm hmm est hst I (fun m h v3 a1 a2 a3 a4 a5 a6 a7 a8 a9 I' => ?_)
      refine tw_tail eop hop emm hmm est (tw_117 I' (fun x4 m h v3 v4 v5 v6 v7 a5 a6 a7 a8 a9 a12 a13 a14 a16 a17 a18 a19 a20 a21 I'' => ?_))
      have e2 : nI k + 2 = nI (k + 2) := nI_add k 2
      rw [e2]
      exact ih (k + 2) _ _ m h x4 v3 v4 v5 v6 v7 a1 a2 a3 a4 a5 a6 a7 a8 a9 a10 a11 a12 a13 a14 a15 a16 a17 a18 a19 a20 a21 (by omega) (by omega) I''
end
section
theorem tl_R_0 {n b : Nat} (hb : 0 < b) : tl_R (fun _ => 0) n b := fun _ _ => ⟨0, hb, rfl⟩
theorem i_vc (xs : Nat → Int32) (L : Nat) (hL : L ≤ 260) : wpL_law (fun r => r = 1) L xs := by
  refine ⟨21, 4347, by omega, by omega, tw_init (fun s hs => ⟨261, ?_⟩)⟩
  exact tw_law hL 260 0 0 0 0 0 _ _ _ _ _ _ _ _ _ _ _ _ _ _ _ _ _ _ _ _ _ _ _ _ _ _ _ (by omega) (by omega) ⟨tl_R_0 (by omega), tl_R_0 (by omega), tl_R_0 (by omega), rfl, rfl, by omega, by omega, tl_T_0, Or.inl rfl, hs⟩
end
