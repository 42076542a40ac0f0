section
/-! rows of kit/rows/PURE-ROWS (a starting text) -/
theorem pk_us {f : Nat → Int32} {k : Nat} {x : Int32} : upd f k x k = x := if_pos rfl
theorem pk_un {f : Nat → Int32} {k j : Nat} {x : Int32} (h : j ≠ k) : upd f k x j = f j := if_neg h
theorem pk_sub {a b : Nat} (h : b ≤ a) : nI a - nI b = nI (a - b) := by
  obtain ⟨c, rfl⟩ : ∃ c, a = c + b := ⟨a - b, by omega⟩
  rw [← nI_add, Int32.add_sub_cancel, Nat.add_sub_cancel]
theorem pk_m1 (n : Nat) : nI (n + 1) + (-1) = nI n := by
  rw [← nI_1, Int32.add_assoc, show (1 : Int32) + (-1) = 0 from rfl, Int32.add_zero]
theorem pk_mul (a b : Nat) : nI a * nI b = nI (a * b) := (Int32.ofNat_mul a b).symm
theorem pk_div {a d : Nat} (ha : a < 2 ^ 31) (h0 : 0 < d) (hd : d < 2 ^ 31) : nI a / nI d = nI (a / d) := by
  apply Int32.toInt_inj.mp
  rw [lg_idiv_nonneg (by rw [nI_toInt ha]; omega) (by rw [nI_toInt hd]; omega), nI_toInt ha, nI_toInt hd, nI_toInt (Nat.lt_of_le_of_lt (Nat.div_le_self a d) ha)]
  first | rfl | exact (Int.natCast_ediv _ _).symm
theorem pk_rem {a d : Nat} (ha : a < 2 ^ 31) (h0 : 0 < d) (hd : d < 2 ^ 31) : nI a - nI a / nI d * nI d = nI (a % d) := by
  rw [pk_div ha h0 hd, pk_mul, pk_sub (Nat.div_mul_le_self a d)]
  exact congrArg nI (by have := Nat.div_add_mod' a d; omega)
theorem pk_le {x y : Int32} {A B : Prop} (a b : Nat) (f : a ≤ b → A) (g : b < a → B) (hx : x = nI a := by rfl) (hy : y = nI b := by rfl) (ha : a < 2 ^ 31 := by omega) (hb : b < 2 ^ 31 := by omega) : (x ≤ y → A) ∧ (¬ x ≤ y → B) := by
  subst hx hy
  rw [nI_leI ha hb]
  exact ⟨f, fun z => g (by omega)⟩
theorem pk_lt {x y : Int32} {A B : Prop} (a b : Nat) (f : a < b → A) (g : b ≤ a → B) (hx : x = nI a := by rfl) (hy : y = nI b := by rfl) (ha : a < 2 ^ 31 := by omega) (hb : b < 2 ^ 31 := by omega) : (x < y → A) ∧ (¬ x < y → B) := by
  subst hx hy
  rw [nI_ltI ha hb]
  exact ⟨f, fun z => g (by omega)⟩
theorem pk_eq {x y : Int32} {A B : Prop} (a b : Nat) (f : a = b → A) (g : a ≠ b → B) (hx : x = nI a := by rfl) (hy : y = nI b := by rfl) (ha : a < 2 ^ 31 := by omega) (hb : b < 2 ^ 31 := by omega) : (x = y → A) ∧ (¬ x = y → B) := by
  subst hx hy
  rw [nI_eq ha hb]
  exact ⟨f, g⟩
theorem pk_in {x : Int32} (n N : Nat) (h : n < N) (hx : x = nI n := by rfl) (hN : N < 2 ^ 31 := by omega) : vp_in x N := by
  subst hx
  exact vp_in_nI h hN
theorem pk_cl {x : Int32} (n : Nat) (hx : x = nI n := by rfl) (h : n < 2 ^ 31 := by omega) : x.toNatClampNeg = n := by
  subst hx
  exact nI_clamp h
end
section
/-! the pure law: atoms, their sizes and letters, where they lead, programs counted, the first one -/
/-- a number, or none, as the program writes it -/
def el_en (o : Option Nat) : Int32 := match o with
  | none => -1
  | some t => nI t
theorem el_m1lt : (-1 : Int32) < 0 := by decide
theorem el_m1le {u : Nat} (h : u < 2 ^ 31) : (-1 : Int32) ≤ nI u := by
  rw [Int32.le_iff_toInt_le, nI_toInt h, show (-1 : Int32).toInt = -1 from by decide]
  omega
theorem el_m1ne {u : Nat} (h : u < 2 ^ 31) : ¬ (-1 : Int32) = nI u := by
  intro e
  have e2 := congrArg Int32.toInt e
  rw [nI_toInt h, show (-1 : Int32).toInt = -1 from by decide] at e2
  omega
/-- the place of a position in a text of length n -/
def el_pl (pos n : Nat) : Option Nat := if pos < 7 then (if pos ≤ n then some pos else none) else (if pos - 7 ≤ n then some (n - (pos - 7)) else none)
theorem el_pl_le {pos n p : Nat} (h : el_pl pos n = some p) : p ≤ n := by
  unfold el_pl at h
  split at h <;> split at h <;> simp at h <;> omega
/-- how many letters an atom gives for an input of length n -/
def el_sz (n a : Nat) : Nat := if a < 4 then 1 else match el_pl ((a - 4) / 14) n with
  | none => 0
  | some p => match el_pl ((a - 4) % 14) n with
    | none => 0
    | some q => q - p
theorem el_sz_1 {n a : Nat} (h4 : a < 4) : el_sz n a = 1 := if_pos h4
theorem el_sz_n1 {n a : Nat} (h4 : ¬ a < 4) (h1 : el_pl ((a - 4) / 14) n = none) : el_sz n a = 0 := by
  simp [el_sz, h4, h1]
theorem el_sz_n2 {n a p : Nat} (h4 : ¬ a < 4) (h1 : el_pl ((a - 4) / 14) n = some p) (h2 : el_pl ((a - 4) % 14) n = none) : el_sz n a = 0 := by
  simp [el_sz, h4, h1, h2]
theorem el_sz_s {n a p q : Nat} (h4 : ¬ a < 4) (h1 : el_pl ((a - 4) / 14) n = some p) (h2 : el_pl ((a - 4) % 14) n = some q) : el_sz n a = q - p := by
  simp [el_sz, h4, h1, h2]
theorem el_sz_le {n a : Nat} (h : n ≤ 6) : el_sz n a ≤ 6 := by
  by_cases h4 : a < 4
  · rw [el_sz_1 h4]; omega
  · cases h1 : el_pl ((a - 4) / 14) n with
    | none => rw [el_sz_n1 h4 h1]; omega
    | some p =>
      cases h2 : el_pl ((a - 4) % 14) n with
      | none => rw [el_sz_n2 h4 h1 h2]; omega
      | some q =>
        have := el_pl_le h2
        rw [el_sz_s h4 h1 h2]; omega
theorem el_sz_lt {n a i : Nat} (h4 : ¬ a < 4) (hi : i < el_sz n a) : ∃ p, el_pl ((a - 4) / 14) n = some p ∧ p + i < n := by
  cases h1 : el_pl ((a - 4) / 14) n with
  | none => rw [el_sz_n1 h4 h1] at hi; omega
  | some p =>
    cases h2 : el_pl ((a - 4) % 14) n with
    | none => rw [el_sz_n2 h4 h1 h2] at hi; omega
    | some q =>
      have := el_pl_le h2
      rw [el_sz_s h4 h1 h2] at hi
      exact ⟨p, rfl, by omega⟩
/-- letter i of what an atom gives for pair p -/
def el_le (ia : Nat → Int32) (n p a i : Nat) : Int32 := if a < 4 then nI a else match el_pl ((a - 4) / 14) n with
  | none => 0
  | some q => ia (p * 6 + q + i)
theorem el_le_1 {ia : Nat → Int32} {n p a i : Nat} (h4 : a < 4) : el_le ia n p a i = nI a := if_pos h4
theorem el_le_2 {ia : Nat → Int32} {n p a i q : Nat} (h4 : ¬ a < 4) (h1 : el_pl ((a - 4) / 14) n = some q) : el_le ia n p a i = ia (p * 6 + q + i) := by
  simp [el_le, h4, h1]
/-- where atom a leads in pair p from place s of the output -/
def el_af (ln mn : Nat → Nat) (ia oa : Nat → Int32) (p a s : Nat) : Option Nat :=
  if 0 < el_sz (ln p) a ∧ s + el_sz (ln p) a ≤ mn p ∧ (∀ i, i < el_sz (ln p) a → el_le ia (ln p) p a i = oa (p * 6 + s + i)) then some (s + el_sz (ln p) a) else none
theorem el_af_r {ln mn : Nat → Nat} {ia oa : Nat → Int32} {p a s t : Nat} (h : el_af ln mn ia oa p a s = some t) : s < t ∧ t ≤ mn p := by
  unfold el_af at h
  split at h
  · rename_i c
    obtain ⟨c1, c2, _⟩ := c
    have e := Option.some.inj h
    omega
  · exact absurd h (by simp)
theorem el_af_c {ln mn ln' mn' : Nat → Nat} {ia oa ia' oa' : Nat → Int32} {p : Nat} (hl : ln p = ln' p) (hm : mn p = mn' p) (hl6 : ln p ≤ 6) (hm6 : mn p ≤ 6) (hi : ∀ i, i < 6 → ia (p * 6 + i) = ia' (p * 6 + i)) (ho : ∀ i, i < 6 → oa (p * 6 + i) = oa' (p * 6 + i)) (a s : Nat) : el_af ln mn ia oa p a s = el_af ln' mn' ia' oa' p a s := by
  have hle : ∀ i, i < el_sz (ln p) a → el_le ia (ln p) p a i = el_le ia' (ln p) p a i := by
    intro i h
    by_cases h4 : a < 4
    · rw [el_le_1 h4, el_le_1 h4]
    · obtain ⟨q, e, hq⟩ := el_sz_lt h4 h
      rw [el_le_2 h4 e, el_le_2 h4 e, Nat.add_assoc]
      exact hi _ (by omega)
  have hoo : s + el_sz (ln p) a ≤ mn p → ∀ i, i < el_sz (ln p) a → oa (p * 6 + s + i) = oa' (p * 6 + s + i) := by
    intro h2 i h
    rw [Nat.add_assoc]
    exact ho _ (by omega)
  unfold el_af
  rw [← hl, ← hm]
  by_cases c : 0 < el_sz (ln p) a ∧ s + el_sz (ln p) a ≤ mn p ∧ (∀ i, i < el_sz (ln p) a → el_le ia (ln p) p a i = oa (p * 6 + s + i))
  · rw [if_pos c, if_pos ⟨c.1, c.2.1, fun i h => by rw [← hle i h, ← hoo c.2.1 i h]; exact c.2.2 i h⟩]
  · rw [if_neg c, if_neg (fun z => c ⟨z.1, z.2.1, fun i h => by rw [hle i h, hoo z.2.1 i h]; exact z.2.2 i h⟩)]
/-- whether a pair counts -/
def el_ct (E : Nat) (t : Bool) (p : Nat) : Bool := decide (p < E) || (decide (p = 2) && t)
theorem el_ct_lt {E p : Nat} {t : Bool} (h : p < E) : el_ct E t p = true := by simp [el_ct, h]
theorem el_ct_2 {E : Nat} : el_ct E true 2 = true := by simp [el_ct]
theorem el_ct_n {E p : Nat} {t : Bool} (h : ¬ p < E) (h2 : p ≠ 2) : el_ct E t p = false := by simp [el_ct, h, h2]
theorem el_ct_f {E p : Nat} (h : ¬ p < E) : el_ct E false p = false := by simp [el_ct, h]
theorem el_ct_c {E p : Nat} {t : Bool} (h : el_ct E t p = true) : p < E ∨ (p = 2 ∧ t = true) := by
  simpa [el_ct] using h
/-- where an atom leads in a pair; a pair that doesn't count stays -/
def el_g (ct : Nat → Bool) (af : Nat → Nat → Nat → Option Nat) (p a s : Nat) : Option Nat := if ct p = true then af p a s else some s
theorem el_g_t {ct : Nat → Bool} {af : Nat → Nat → Nat → Option Nat} {p a s : Nat} (h : ct p = true) : el_g ct af p a s = af p a s := if_pos h
theorem el_g_f {ct : Nat → Bool} {af : Nat → Nat → Nat → Option Nat} {p a s : Nat} (h : ct p = false) : el_g ct af p a s = some s := if_neg (by simp [h])
/-- steps stay within seven places and don't go back -/
def el_gr (g : Nat → Nat → Nat → Option Nat) : Prop := ∀ p a s t, p < 3 → s < 7 → g p a s = some t → s ≤ t ∧ t < 7
theorem el_gr_g {E : Nat} {t : Bool} {ln mn : Nat → Nat} {ia oa : Nat → Int32} (hm : ∀ p, p < 3 → mn p ≤ 6) : el_gr (el_g (el_ct E t) (el_af ln mn ia oa)) := by
  intro p a s u hp hs h
  cases c : el_ct E t p with
  | true =>
    rw [el_g_t c] at h
    have := el_af_r h
    have := hm p hp
    omega
  | false =>
    rw [el_g_f c] at h
    have := Option.some.inj h
    omega
/-- the node an atom leads to -/
def el_sp (g : Nat → Nat → Nat → Option Nat) (N a : Nat) : Option Nat := match g 0 a (N % 7) with
  | none => none
  | some x => match g 1 a (N / 7 % 7) with
    | none => none
    | some y => match g 2 a (N / 49) with
      | none => none
      | some z => some (x + 7 * y + 49 * z)
theorem el_sp_0 {g : Nat → Nat → Nat → Option Nat} {N a : Nat} (h : g 0 a (N % 7) = none) : el_sp g N a = none := by simp [el_sp, h]
theorem el_sp_1 {g : Nat → Nat → Nat → Option Nat} {N a : Nat} (h : g 1 a (N / 7 % 7) = none) : el_sp g N a = none := by
  cases h0 : g 0 a (N % 7) <;> simp [el_sp, h, h0]
theorem el_sp_2 {g : Nat → Nat → Nat → Option Nat} {N a : Nat} (h : g 2 a (N / 49) = none) : el_sp g N a = none := by
  cases h0 : g 0 a (N % 7) <;> cases h1 : g 1 a (N / 7 % 7) <;> simp [el_sp, h, h0, h1]
theorem el_sp_s {g : Nat → Nat → Nat → Option Nat} {N a x y z : Nat} (h0 : g 0 a (N % 7) = some x) (h1 : g 1 a (N / 7 % 7) = some y) (h2 : g 2 a (N / 49) = some z) : el_sp g N a = some (x + 7 * y + 49 * z) := by
  simp [el_sp, h0, h1, h2]
theorem el_sp_e {g : Nat → Nat → Nat → Option Nat} {N a N' : Nat} (h : el_sp g N a = some N') : ∃ x y z, g 0 a (N % 7) = some x ∧ g 1 a (N / 7 % 7) = some y ∧ g 2 a (N / 49) = some z ∧ N' = x + 7 * y + 49 * z := by
  cases h0 : g 0 a (N % 7) with
  | none => rw [el_sp_0 h0] at h; exact absurd h (by simp)
  | some x =>
    cases h1 : g 1 a (N / 7 % 7) with
    | none => rw [el_sp_1 h1] at h; exact absurd h (by simp)
    | some y =>
      cases h2 : g 2 a (N / 49) with
      | none => rw [el_sp_2 h2] at h; exact absurd h (by simp)
      | some z =>
        rw [el_sp_s h0 h1 h2] at h
        exact ⟨x, y, z, rfl, rfl, rfl, (Option.some.inj h).symm⟩
theorem el_dig {x y z : Nat} (hx : x < 7) (hy : y < 7) (hz : z < 7) : (x + 7 * y + 49 * z) % 7 = x ∧ (x + 7 * y + 49 * z) / 7 % 7 = y ∧ (x + 7 * y + 49 * z) / 49 = z ∧ x + 7 * y + 49 * z < 343 := by
  omega
theorem el_sp_r {g : Nat → Nat → Nat → Option Nat} {N a N' : Nat} (hg : el_gr g) (hN : N < 343) (h : el_sp g N a = some N') : N' < 343 ∧ N % 7 ≤ N' % 7 ∧ N / 7 % 7 ≤ N' / 7 % 7 ∧ N / 49 ≤ N' / 49 ∧ g 0 a (N % 7) = some (N' % 7) ∧ g 1 a (N / 7 % 7) = some (N' / 7 % 7) ∧ g 2 a (N / 49) = some (N' / 49) := by
  obtain ⟨x, y, z, h0, h1, h2, e⟩ := el_sp_e h
  have r0 := hg _ _ _ _ (by omega) (by omega) h0
  have r1 := hg _ _ _ _ (by omega) (by omega) h1
  have r2 := hg _ _ _ _ (by omega) (by omega) h2
  obtain ⟨d0, d1, d2, d3⟩ := el_dig r0.2 r1.2 r2.2
  subst e
  rw [d0, d1, d2]
  exact ⟨d3, r0.1, r1.1, r2.1, h0, h1, h2⟩
end
section
/-! sums, counted programs, the first program -/
def el_su (q : Nat → Nat) : Nat → Nat
  | 0 => 0
  | n + 1 => el_su q n + q n
theorem el_su_s (q : Nat → Nat) (n : Nat) : el_su q (n + 1) = el_su q n + q n := rfl
theorem el_su_0 {q : Nat → Nat} : ∀ {n : Nat}, el_su q n = 0 → ∀ i, i < n → q i = 0 := by
  intro n
  induction n with
  | zero => intro _ i hi; omega
  | succ n ih =>
    intro h i hi
    rw [el_su_s] at h
    by_cases e : i = n
    · rw [e]; omega
    · exact ih (by omega) i (by omega)
theorem el_su_z {q : Nat → Nat} : ∀ {n : Nat}, (∀ i, i < n → q i = 0) → el_su q n = 0 := by
  intro n
  induction n with
  | zero => intro _; rfl
  | succ n ih =>
    intro h
    rw [el_su_s, ih (fun i hi => h i (by omega)), h n (by omega)]
theorem el_su_le {q : Nat → Nat} {B : Nat} (h : ∀ i, q i ≤ B) : ∀ n : Nat, el_su q n ≤ n * B := by
  intro n
  induction n with
  | zero => exact Nat.zero_le _
  | succ n ih =>
    have := h n
    rw [el_su_s, Nat.add_mul]
    omega
theorem el_su_i {q : Nat → Nat} : ∀ {n i : Nat}, i < n → q i ≤ el_su q n := by
  intro n
  induction n with
  | zero => intro i hi; omega
  | succ n ih =>
    intro i hi
    rw [el_su_s]
    by_cases e : i = n
    · rw [e]; omega
    · have := ih (i := i) (by omega)
      omega
theorem el_su_c {B : Nat} : ∀ n : Nat, el_su (fun _ => B) n = n * B := by
  intro n
  induction n with
  | zero => exact (Nat.zero_mul _).symm
  | succ n ih => rw [el_su_s, ih, Nat.add_mul]; omega
/-- i is the first with a count -/
def el_Fst (q : Nat → Nat) (i : Nat) : Prop := 0 < q i ∧ ∀ j, j < i → q j = 0
theorem el_Fst_u {q : Nat → Nat} {i j : Nat} (h : el_Fst q i) (h' : el_Fst q j) : i = j := by
  obtain ⟨a, b⟩ := h
  obtain ⟨c, d⟩ := h'
  by_cases x : i < j
  · have := d i x; omega
  · by_cases y : j < i
    · have := b j y; omega
    · omega
def el_o (f : Nat → Nat) (o : Option Nat) : Nat := match o with
  | none => 0
  | some n => f n
/-- in how many ways k atoms lead from node N to node l -/
def el_W (g : Nat → Nat → Nat → Option Nat) (l : Nat) : Nat → Nat → Nat
  | 0 => fun N => if N = l then 1 else 0
  | k + 1 => fun N => el_su (fun a => el_o (el_W g l k) (el_sp g N a)) 200
/-- the same with atom a ahead -/
def el_q (g : Nat → Nat → Nat → Option Nat) (l k N a : Nat) : Nat := el_o (el_W g l k) (el_sp g N a)
theorem el_W_s {g : Nat → Nat → Nat → Option Nat} {l k N : Nat} : el_W g l (k + 1) N = el_su (el_q g l k N) 200 := rfl
theorem el_W_0 {g : Nat → Nat → Nat → Option Nat} {l : Nat} : el_W g l 0 l = 1 := if_pos rfl
theorem el_W_0n {g : Nat → Nat → Nat → Option Nat} {l N : Nat} (h : ¬ N = l) : el_W g l 0 N = 0 := if_neg h
theorem el_q_n {g : Nat → Nat → Nat → Option Nat} {l k N a : Nat} (h : el_sp g N a = none) : el_q g l k N a = 0 := by
  unfold el_q; rw [h]; rfl
theorem el_q_s {g : Nat → Nat → Nat → Option Nat} {l k N a N' : Nat} (h : el_sp g N a = some N') : el_q g l k N a = el_W g l k N' := by
  unfold el_q; rw [h]; rfl
theorem el_q_p {g : Nat → Nat → Nat → Option Nat} {l k N a : Nat} (h : 0 < el_q g l k N a) : ∃ N', el_sp g N a = some N' ∧ 0 < el_W g l k N' := by
  cases e : el_sp g N a with
  | none => rw [el_q_n e] at h; omega
  | some N' => rw [el_q_s e] at h; exact ⟨N', rfl, h⟩
theorem el_W_le {g : Nat → Nat → Nat → Option Nat} {l : Nat} : ∀ k N : Nat, el_W g l k N ≤ 200 ^ k := by
  intro k
  induction k with
  | zero =>
    intro N
    show (if N = l then 1 else 0) ≤ 1
    split <;> omega
  | succ k ih =>
    intro N
    rw [el_W_s, Nat.pow_succ, Nat.mul_comm]
    refine el_su_le (fun i => ?_) 200
    cases e : el_sp g N i with
    | none => rw [el_q_n e]; exact Nat.zero_le _
    | some N' => rw [el_q_s e]; exact ih N'
theorem el_W_lt {g : Nat → Nat → Nat → Option Nat} {l k N : Nat} (hk : k ≤ 3) : el_W g l k N < 2 ^ 31 := by
  have h := el_W_le (g := g) (l := l) k N
  have h2 : (200 : Nat) ^ k ≤ 200 ^ 3 := Nat.pow_le_pow_right (by decide) hk
  have h3 : (200 : Nat) ^ 3 < 2 ^ 31 := by decide
  omega
/-- a node not beyond the last one in any pair -/
def el_ex (N l : Nat) : Prop := N % 7 ≤ l % 7 ∧ N / 7 % 7 ≤ l / 7 % 7 ∧ N / 49 ≤ l / 49
theorem el_W_ex {g : Nat → Nat → Nat → Option Nat} {l : Nat} (hg : el_gr g) : ∀ k N : Nat, N < 343 → ¬ el_ex N l → el_W g l k N = 0 := by
  intro k
  induction k with
  | zero =>
    intro N _ h
    refine el_W_0n (fun e => h ?_)
    rw [e]
    exact ⟨Nat.le_refl _, Nat.le_refl _, Nat.le_refl _⟩
  | succ k ih =>
    intro N hN h
    rw [el_W_s]
    refine el_su_z (fun a _ => ?_)
    cases e : el_sp g N a with
    | none => exact el_q_n e
    | some N' =>
      rw [el_q_s e]
      obtain ⟨r, r0, r1, r2, _⟩ := el_sp_r hg hN e
      refine ih N' r (fun z => h ?_)
      obtain ⟨z0, z1, z2⟩ := z
      exact ⟨Nat.le_trans r0 z0, Nat.le_trans r1 z1, Nat.le_trans r2 z2⟩
/-- f holds from place i on the first program of k atoms from node N -/
def el_GF (g : Nat → Nat → Nat → Option Nat) (l : Nat) : Nat → Nat → Nat → (Nat → Int32) → Prop
  | 0 => fun _ _ _ => True
  | k + 1 => fun N i f => ∃ a N', a < 200 ∧ el_Fst (el_q g l k N) a ∧ el_sp g N a = some N' ∧ f i = nI a ∧ el_GF g l k N' (i + 1) f
theorem el_GF_a {g : Nat → Nat → Nat → Option Nat} {l : Nat} {f : Nat → Int32} : ∀ k N i : Nat, el_GF g l k N i f → ∀ j, j < k → ∃ a, a < 200 ∧ f (i + j) = nI a := by
  intro k
  induction k with
  | zero => intro N i _ j hj; omega
  | succ k ih =>
    intro N i h j hj
    obtain ⟨a, N', ha, _, _, hf, hr⟩ := h
    cases j with
    | zero => exact ⟨a, ha, hf⟩
    | succ j =>
      obtain ⟨b, hb, e⟩ := ih N' (i + 1) hr j (by omega)
      exact ⟨b, hb, by rw [← e]; exact congrArg f (by omega)⟩
theorem el_GF_u {g : Nat → Nat → Nat → Option Nat} {l : Nat} {f f' : Nat → Int32} : ∀ k N i : Nat, el_GF g l k N i f → el_GF g l k N i f' → ∀ j, j < k → f (i + j) = f' (i + j) := by
  intro k
  induction k with
  | zero => intro N i _ _ j hj; omega
  | succ k ih =>
    intro N i h h' j hj
    obtain ⟨a, N1, ha, h1, h2, h3, h4⟩ := h
    obtain ⟨a', N1', ha', h1', h2', h3', h4'⟩ := h'
    have e := el_Fst_u h1 h1'
    subst e
    rw [h2] at h2'
    have e2 := Option.some.inj h2'
    subst e2
    cases j with
    | zero => exact h3.trans h3'.symm
    | succ j =>
      have := ih N1 (i + 1) h4 h4' j (by omega)
      rw [show i + (j + 1) = i + 1 + j from by omega]
      exact this
/-- what a search leaves noted: the first found, if any, unless one stood there -/
def el_Sub (n : Nat) (T : (Nat → Int32) → Prop) (fd : Int32) (ft : Nat → Int32) (fd' : Int32) (ft' : Nat → Int32) : Prop :=
  (fd ≠ 0 → fd' = fd ∧ ft' = ft) ∧ (fd = 0 → (n = 0 → fd' = 0) ∧ (0 < n → fd' ≠ 0 ∧ T ft'))
theorem el_Sub_0 {T : (Nat → Int32) → Prop} {fd : Int32} {ft : Nat → Int32} : el_Sub 0 T fd ft fd ft :=
  ⟨fun _ => ⟨rfl, rfl⟩, fun h => ⟨fun _ => h, fun h0 => absurd h0 (by omega)⟩⟩
theorem el_Sub_w {n : Nat} {T T' : (Nat → Int32) → Prop} {fd fd' : Int32} {ft ft' : Nat → Int32} (h : el_Sub n T fd ft fd' ft') (w : 0 < n → ∀ f, T f → T' f) : el_Sub n T' fd ft fd' ft' :=
  ⟨h.1, fun z => ⟨(h.2 z).1, fun p => ⟨((h.2 z).2 p).1, w p _ ((h.2 z).2 p).2⟩⟩⟩
def el_Nt (q : Nat → Nat) (T : Nat → (Nat → Int32) → Prop) (c : Nat) (f : Nat → Int32) : Prop := ∃ j, j < c ∧ el_Fst q j ∧ T j f
theorem el_Sub_s {q : Nat → Nat} {T : Nat → (Nat → Int32) → Prop} {c : Nat} {fd fd1 fd2 : Int32} {ft ft1 ft2 : Nat → Int32} (h1 : el_Sub (el_su q c) (el_Nt q T c) fd ft fd1 ft1) (h2 : el_Sub (q c) (T c) fd1 ft1 fd2 ft2) : el_Sub (el_su q (c + 1)) (el_Nt q T (c + 1)) fd ft fd2 ft2 := by
  rw [el_su_s]
  constructor
  · intro hz
    obtain ⟨a, b⟩ := h1.1 hz
    subst a b
    exact h2.1 hz
  · intro hz
    obtain ⟨a, b⟩ := h1.2 hz
    by_cases hs : el_su q c = 0
    · have h0 := a hs
      obtain ⟨u, v⟩ := h2.2 h0
      refine ⟨fun e => u (by omega), fun e => ?_⟩
      obtain ⟨v1, v2⟩ := v (by omega)
      exact ⟨v1, c, by omega, ⟨by omega, el_su_0 hs⟩, v2⟩
    · obtain ⟨b1, j, b2, b3, b4⟩ := b (by omega)
      obtain ⟨u, v⟩ := h2.1 b1
      subst u v
      exact ⟨fun e => absurd e (by omega), fun _ => ⟨b1, j, by omega, b3, b4⟩⟩
theorem el_GF_mk {g : Nat → Nat → Nat → Option Nat} {l k N i : Nat} {pre : (Nat → Int32) → Prop} {f : Nat → Int32} (h : el_Nt (el_q g l k N) (fun a f => pre f ∧ f i = nI a ∧ ∀ N', el_sp g N a = some N' → el_GF g l k N' (i + 1) f) 200 f) : pre f ∧ el_GF g l (k + 1) N i f := by
  obtain ⟨a, ha, hF, hp, hf, hr⟩ := h
  obtain ⟨N', e, _⟩ := el_q_p hF.1
  exact ⟨hp, a, N', ha, hF, e, hf, hr N' e⟩
/-- the last node -/
def el_last (E : Nat) (t : Bool) (mn : Nat → Nat) : Nat := (if 0 < E then mn 0 else 0) + 7 * (if 1 < E then mn 1 else 0) + 49 * (if t = true then mn 2 else 0)
def el_co (N p : Nat) : Nat := if p = 0 then N % 7 else if p = 1 then N / 7 % 7 else N / 49
theorem el_last_c {E : Nat} {t : Bool} {mn : Nat → Nat} (hE : E ≤ 2) (hm : ∀ p, p < 3 → mn p ≤ 6) : el_last E t mn < 343 ∧ ∀ p, p < 3 → el_co (el_last E t mn) p = if el_ct E t p = true then mn p else 0 := by
  have h0 := hm 0 (by omega)
  have h1 := hm 1 (by omega)
  have h2 := hm 2 (by omega)
  have a0 : (if 0 < E then mn 0 else 0) < 7 := by split <;> omega
  have a1 : (if 1 < E then mn 1 else 0) < 7 := by split <;> omega
  have a2 : (if t = true then mn 2 else 0) < 7 := by split <;> omega
  obtain ⟨d0, d1, d2, d3⟩ := el_dig a0 a1 a2
  refine ⟨d3, fun p hp => ?_⟩
  have c : p = 0 ∨ p = 1 ∨ p = 2 := by omega
  rcases c with rfl | rfl | rfl
  · have e : (0 < E) ↔ el_ct E t 0 = true := by simp [el_ct]
    show el_last E t mn % 7 = _
    refine d0.trans ?_
    by_cases z : 0 < E
    · rw [if_pos z, if_pos (e.mp z)]
    · rw [if_neg z, if_neg (fun y => z (e.mpr y))]
  · have e : (1 < E) ↔ el_ct E t 1 = true := by simp [el_ct]
    show el_last E t mn / 7 % 7 = _
    refine d1.trans ?_
    by_cases z : 1 < E
    · rw [if_pos z, if_pos (e.mp z)]
    · rw [if_neg z, if_neg (fun y => z (e.mpr y))]
  · have e : (t = true) ↔ el_ct E t 2 = true := by
      have : ¬ 2 < E := by omega
      simp [el_ct, this]
    show el_last E t mn / 49 = _
    refine d2.trans ?_
    by_cases z : t = true
    · rw [if_pos z, if_pos (e.mp z)]
    · rw [if_neg z, if_neg (fun y => z (e.mpr y))]
theorem el_co_e {N M : Nat} (h : ∀ p, p < 3 → el_co N p = el_co M p) : N = M := by
  have h0 : N % 7 = M % 7 := h 0 (by omega)
  have h1 : N / 7 % 7 = M / 7 % 7 := h 1 (by omega)
  have h2 : N / 49 = M / 49 := h 2 (by omega)
  omega
theorem el_co_lt {N p : Nat} (hN : N < 343) : el_co N p < 7 := by
  unfold el_co
  split
  · omega
  · split <;> omega
/-- the least count of atoms with a program, 0 if there is none -/
def el_lc (w : Nat → Nat) : Nat := if 0 < w 1 then 1 else if 0 < w 2 then 2 else if 0 < w 3 then 3 else 0
theorem el_lc_le (w : Nat → Nat) : el_lc w ≤ 3 := by
  unfold el_lc
  split
  · omega
  · split
    · omega
    · split <;> omega
theorem el_lc_p {w : Nat → Nat} (h : el_lc w ≠ 0) : 0 < w (el_lc w) := by
  unfold el_lc at h ⊢
  split
  · assumption
  · split
    · assumption
    · split
      · assumption
      · simp_all
end
section
/-! the component's atoms: places, sizes, letters, where they lead -/
theorem el_fp {a : Nat} (h4 : ¬ a < 4) (h : a < 200) : (nI a - 4) / 14 = nI ((a - 4) / 14) := by
  have e : nI a - 4 = nI (a - 4) := pk_sub (b := 4) (by omega)
  rw [e]
  exact pk_div (d := 14) (by omega) (by decide) (by decide)
theorem el_sq {a : Nat} (h4 : ¬ a < 4) (h : a < 200) : (nI a - 4) - (nI a - 4) / 14 * 14 = nI ((a - 4) % 14) := by
  have e : nI a - 4 = nI (a - 4) := pk_sub (b := 4) (by omega)
  rw [e]
  exact pk_rem (d := 14) (by omega) (by decide) (by decide)
theorem el_i6 (p s i : Nat) : nI p * 6 + nI s + nI i = nI (p * 6 + s + i) := by
  rw [show (6 : Int32) = nI 6 from rfl, pk_mul, nI_add, nI_add]
theorem el_nb1 : vp_nar .byte ((-1 : Int32).toInt8.toInt32) = -1 := by
  rw [vp_nar_byte]; decide
theorem el_nbt : ∀ t : Fin 7, (nI t.val).toInt8.toInt32.toInt8.toInt32 = nI t.val := by decide +kernel
theorem el_nbn {t : Nat} (h : t < 7) : vp_nar .byte ((nI t).toInt8.toInt32) = nI t := by
  rw [vp_nar_byte]; exact el_nbt ⟨t, h⟩
section
variable {ex lr qr wf am rs : Int32} {il ol ia oa ld wy pg gv : Nat → Int32}
theorem el_xplace {post : Int32 → Prop} {p pos n : Nat} (hp : p < 3) (hpos : pos < 14) (hn : il p = nI n) (hn6 : n ≤ 6) (h : post (el_en (el_pl pos n))) : wpX_placeOf post (ex, lr, qr, wf, am, rs, il, ol, ia, oa, ld, wy, pg, gv) (nI p) (nI pos) := by
  have hi : vp_in (nI p) 3 := vp_in_nI hp (by decide)
  have hc : il (nI p).toNatClampNeg = nI n := by rw [nI_clamp (by omega), hn]
  by_cases h7 : pos < 7
  · refine br_f (nI_ge (b := 7) h7 (by decide)) ?_
    refine And.intro hi (nm_r hc ?_)
    by_cases hk : pos ≤ n
    · refine br_t (nI_le hk (by omega)) (br_f (nI_ge (b := 7) h7 (by decide)) ?_)
      have e : el_pl pos n = some pos := by unfold el_pl; rw [if_pos h7, if_pos hk]
      rw [e] at h
      exact h
    · refine br_f (nI_ge (by omega) (by omega)) ?_
      have e : el_pl pos n = none := by unfold el_pl; rw [if_pos h7, if_neg hk]
      rw [e] at h
      exact h
  · have e7 : nI pos - 7 = nI (pos - 7) := pk_sub (b := 7) (by omega)
    refine br_t (nI_le (a := 7) (by omega) (by omega)) ?_
    rw [e7]
    refine And.intro hi (nm_r hc ?_)
    by_cases hk : pos - 7 ≤ n
    · refine br_t (nI_le hk (by omega)) (br_t (nI_le (a := 7) (by omega) (by omega)) ?_)
      have e : el_pl pos n = some (n - (pos - 7)) := by unfold el_pl; rw [if_neg h7, if_pos hk]
      rw [e] at h
      rw [pk_sub hk]
      exact h
    · refine br_f (nI_ge (by omega) (by omega)) ?_
      have e : el_pl pos n = none := by unfold el_pl; rw [if_neg h7, if_neg hk]
      rw [e] at h
      exact h
theorem el_xfirst {post : Int32 → Prop} {a : Nat} (h4 : ¬ a < 4) (ha : a < 200) (h : post (nI ((a - 4) / 14))) : wpX_firstPosition post (nI a) := by
  unfold wpX_firstPosition
  rw [el_fp h4 ha]
  exact ⟨by decide, h⟩
theorem el_xsecond {post : Int32 → Prop} {a : Nat} (h4 : ¬ a < 4) (ha : a < 200) (h : post (nI ((a - 4) % 14))) : wpX_secondPosition post (nI a) := by
  unfold wpX_secondPosition
  rw [el_sq h4 ha]
  exact ⟨by decide, h⟩
theorem el_xsize {post : Int32 → Prop} {p a n : Nat} (hp : p < 3) (ha : a < 200) (hn : il p = nI n) (hn6 : n ≤ 6) (h : post (nI (el_sz n a))) : wpX_sizeOf post (ex, lr, qr, wf, am, rs, il, ol, ia, oa, ld, wy, pg, gv) (nI p) (nI a) := by
  by_cases h4 : a < 4
  · refine br_f (nI_ge (b := 4) h4 (by decide)) ?_
    rw [el_sz_1 h4] at h
    exact h
  · refine br_t (nI_le (a := 4) (by omega) (by omega)) ?_
    refine el_xfirst h4 ha ?_
    refine el_xplace hp (by omega) hn hn6 ?_
    refine el_xsecond h4 ha ?_
    refine el_xplace hp (by omega) hn hn6 ?_
    cases e1 : el_pl ((a - 4) / 14) n with
    | none =>
      rw [el_sz_n1 h4 e1] at h
      exact br_t el_m1lt h
    | some u =>
      have hu := el_pl_le e1
      cases e2 : el_pl ((a - 4) % 14) n with
      | none =>
        rw [el_sz_n2 h4 e1 e2] at h
        exact br_f (nI_pos (by omega)) (br_t (el_m1le (by omega)) h)
      | some v =>
        have hv := el_pl_le e2
        rw [el_sz_s h4 e1 e2] at h
        refine br_f (nI_pos (by omega)) ?_
        by_cases hvu : v ≤ u
        · rw [show v - u = 0 from by omega] at h
          exact br_t (nI_le hvu (by omega)) h
        · refine br_f (nI_ge (by omega) (by omega)) ?_
          show post (nI v - nI u)
          rw [pk_sub (by omega)]
          exact h
theorem el_xletter {post : Int32 → Prop} {p a n i : Nat} (hp : p < 3) (ha : a < 200) (hn : il p = nI n) (hn6 : n ≤ 6) (hi : i < el_sz n a) (h : post (el_le ia n p a i)) : wpX_letterOf post (ex, lr, qr, wf, am, rs, il, ol, ia, oa, ld, wy, pg, gv) (nI p) (nI a) (nI i) := by
  by_cases h4 : a < 4
  · refine br_f (nI_ge (b := 4) h4 (by decide)) ?_
    rw [el_le_1 h4] at h
    exact h
  · obtain ⟨q, e1, hq⟩ := el_sz_lt h4 hi
    refine br_t (nI_le (a := 4) (by omega) (by omega)) ?_
    refine el_xfirst h4 ha ?_
    refine el_xplace hp (by omega) hn hn6 ?_
    rw [e1]
    show vp_in (nI p * 6 + nI q + nI i) 18 ∧ post (ia (nI p * 6 + nI q + nI i).toNatClampNeg)
    rw [el_i6, nI_clamp (by omega)]
    rw [el_le_2 h4 e1] at h
    exact ⟨vp_in_nI (by omega) (by decide), h⟩
theorem el_xgives {post : Int32 → Prop} {p a n s : Nat} (hp : p < 3) (ha : a < 200) (hn : il p = nI n) (hn6 : n ≤ 6) (hs : s + el_sz n a ≤ 6) (h1 : (∀ i, i < el_sz n a → el_le ia n p a i = oa (p * 6 + s + i)) → post 1) (h0 : ¬ (∀ i, i < el_sz n a → el_le ia n p a i = oa (p * 6 + s + i)) → post 0) : wpX_gives post (ex, lr, qr, wf, am, rs, il, ol, ia, oa, ld, wy, pg, gv) (nI p) (nI a) (nI s) (nI (el_sz n a)) := by
  have L : ∀ d i, i + d = el_sz n a → (∀ j, j < i → el_le ia n p a j = oa (p * 6 + s + j)) → wX_gives_3 post (nI p) (nI a) (nI s) (nI (el_sz n a)) ex lr qr wf am rs il ol ia oa ld wy pg gv (d + 1) (nI i) := by
    intro d
    induction d with
    | zero =>
      intro i hi hj
      exact br_t (nI_le (by omega) (by omega)) (h1 (fun j hj' => hj j (by omega)))
    | succ d ih =>
      intro i hi hj
      refine br_f (nI_ge (by omega) (by omega)) ?_
      refine el_xletter hp ha hn hn6 (by omega) ?_
      show vp_in (nI p * 6 + nI s + nI i) 18 ∧ ((el_le ia n p a i = oa (nI p * 6 + nI s + nI i).toNatClampNeg → _) ∧ (¬ el_le ia n p a i = oa (nI p * 6 + nI s + nI i).toNatClampNeg → _))
      rw [el_i6, nI_clamp (by omega)]
      refine ⟨vp_in_nI (by omega) (by decide), br_c (fun e => nm_r (nI_1 i) (ih (i + 1) (by omega) (fun j hj' => ?_))) (fun e => h0 (fun z => e (z i (by omega))))⟩
      by_cases ej : j = i
      · rw [ej]; exact e
      · exact hj j (by omega)
  exact ⟨_, L _ 0 (Nat.zero_add _) (fun j hj => absurd hj (by omega))⟩
theorem el_i7 (p a s : Nat) : (nI p * 200 + nI a) * 7 + nI s = nI ((p * 200 + a) * 7 + s) := by
  rw [show (200 : Int32) = nI 200 from rfl, show (7 : Int32) = nI 7 from rfl, pk_mul, nI_add, pk_mul, nI_add]
theorem el_xfollowAtom {post : SX → Prop} {p a : Nat} {ln mn : Nat → Nat} (hp : p < 3) (ha : a < 200) (hl : il p = nI (ln p)) (hl6 : ln p ≤ 6) (hm : ol p = nI (mn p)) (hm6 : mn p ≤ 6)
    (h : ∀ ld' : Nat → Int32, (∀ s, s < 7 → ld' ((p * 200 + a) * 7 + s) = el_en (el_af ln mn ia oa p a s)) → (∀ j, (j < (p * 200 + a) * 7 ∨ (p * 200 + a) * 7 + 7 ≤ j) → ld' j = ld j) → post (ex, lr, qr, wf, am, rs, il, ol, ia, oa, ld', wy, pg, gv)) : wpX_followAtom post (ex, lr, qr, wf, am, rs, il, ol, ia, oa, ld, wy, pg, gv) (nI p) (nI a) := by
  have L : ∀ d s (ld1 : Nat → Int32), s + d = 7 → (∀ j, j < s → ld1 ((p * 200 + a) * 7 + j) = el_en (el_af ln mn ia oa p a j)) → (∀ j, (j < (p * 200 + a) * 7 ∨ (p * 200 + a) * 7 + 7 ≤ j) → ld1 j = ld j) → wX_followAtom_10 post (nI p) (nI a) (nI (el_sz (ln p) a)) ex lr qr wf am rs (d + 1) (nI s) il ol ia oa ld1 wy pg gv := by
    intro d
    induction d with
    | zero =>
      intro s ld1 hs h1 h2
      exact br_t (nI_le (a := 7) (by omega) (by omega)) (h ld1 (fun s' hs' => h1 s' (by omega)) h2)
    | succ d ih =>
      intro s ld1 hs h1 h2
      have hz6 := el_sz_le (a := a) hl6
      have hin : vp_in ((nI p * 200 + nI a) * 7 + nI s) 4200 := by
        rw [el_i7]; exact vp_in_nI (by omega) (by decide)
      have nx : ∀ v : Int32, v = el_en (el_af ln mn ia oa p a s) → wX_followAtom_10 post (nI p) (nI a) (nI (el_sz (ln p) a)) ex lr qr wf am rs (d + 1) (nI s + 1) il ol ia oa (upd ld1 ((nI p * 200 + nI a) * 7 + nI s).toNatClampNeg v) wy pg gv := by
        intro v hv
        rw [el_i7, nI_clamp (by omega), nI_1]
        refine ih (s + 1) _ (by omega) ?_ ?_
        · intro j hj
          by_cases e : j = s
          · rw [e, pk_us, hv]
          · rw [pk_un (by omega)]
            exact h1 j (by omega)
        · intro j hj
          rw [pk_un (by omega)]
          exact h2 j hj
      have n0 : el_af ln mn ia oa p a s = none → wX_followAtom_55 post (wX_followAtom_10 post (nI p) (nI a) (nI (el_sz (ln p) a)) ex lr qr wf am rs (d + 1)) (nI p) (nI a) (nI (el_sz (ln p) a)) (nI s) (nI (s + el_sz (ln p) a)) 0 ex lr qr wf am rs il ol ia oa ld1 wy pg gv :=
        fun e => br_t rfl (And.intro hin (nm_e (nm_e (nx _ (by rw [e]; exact el_nb1)))))
      have n1 : el_af ln mn ia oa p a s = some (s + el_sz (ln p) a) → s + el_sz (ln p) a < 7 → wX_followAtom_55 post (wX_followAtom_10 post (nI p) (nI a) (nI (el_sz (ln p) a)) ex lr qr wf am rs (d + 1)) (nI p) (nI a) (nI (el_sz (ln p) a)) (nI s) (nI (s + el_sz (ln p) a)) 1 ex lr qr wf am rs il ol ia oa ld1 wy pg gv :=
        fun e h7 => br_f (by decide) (And.intro hin (nm_e (nm_e (nx _ (by rw [e]; exact el_nbn h7)))))
      refine br_f (nI_ge (b := 7) (by omega) (by decide)) (nm_r (nI_add _ _) ?_)
      by_cases hz : el_sz (ln p) a = 0
      · refine br_t (by rw [hz]; decide) ?_
        exact n0 (if_neg (fun z => by omega))
      · refine br_f (nI_nle (by omega) (by omega)) ⟨vp_in_nI hp (by decide), ?_⟩
        rw [nI_clamp (by omega), hm]
        by_cases hb : mn p < s + el_sz (ln p) a
        · refine br_t (nI_lt hb (by omega)) ?_
          exact n0 (if_neg (fun z => by omega))
        · refine br_f (nI_nlt (by omega) (by omega)) ?_
          refine el_xgives hp ha hl hl6 (by omega) (fun c => ?_) (fun c => ?_)
          · refine br_f (by decide) ?_
            exact n1 (if_pos ⟨by omega, by omega, c⟩) (by omega)
          · refine br_t rfl ?_
            exact n0 (if_neg (fun z => c z.2.2))
  unfold wpX_followAtom
  dsimp only
  refine el_xsize hp ha hl hl6 ?_
  exact ⟨_, L 7 0 ld rfl (fun j hj => absurd hj (by omega)) (fun _ _ => rfl)⟩
/-- the table of leads is right for pair p -/
def el_LD (ln mn : Nat → Nat) (ia oa ld : Nat → Int32) (p : Nat) : Prop := ∀ a s, a < 200 → s < 7 → ld ((p * 200 + a) * 7 + s) = el_en (el_af ln mn ia oa p a s)
theorem el_xfollowAll {post : SX → Prop} {p : Nat} {ln mn : Nat → Nat} (hp : p < 3) (hl : il p = nI (ln p)) (hl6 : ln p ≤ 6) (hm : ol p = nI (mn p)) (hm6 : mn p ≤ 6)
    (h : ∀ ld' : Nat → Int32, el_LD ln mn ia oa ld' p → (∀ j, (j < p * 1400 ∨ p * 1400 + 1400 ≤ j) → ld' j = ld j) → post (ex, lr, qr, wf, am, rs, il, ol, ia, oa, ld', wy, pg, gv)) : wpX_followAll post (ex, lr, qr, wf, am, rs, il, ol, ia, oa, ld, wy, pg, gv) (nI p) := by
  have L : ∀ d a (ld1 : Nat → Int32), a + d = 200 → (∀ a' s, a' < a → s < 7 → ld1 ((p * 200 + a') * 7 + s) = el_en (el_af ln mn ia oa p a' s)) → (∀ j, (j < p * 1400 ∨ p * 1400 + 1400 ≤ j) → ld1 j = ld j) → wX_followAll_2 post (nI p) (d + 1) (nI a) ex lr qr wf am rs il ol ia oa ld1 wy pg gv := by
    intro d
    induction d with
    | zero =>
      intro a ld1 hd h1 h2
      exact br_t (nI_le (a := 200) (by omega) (by omega)) (h ld1 (fun a' s h3 h4 => h1 a' s (by omega) h4) h2)
    | succ d ih =>
      intro a ld1 hd h1 h2
      refine br_f (nI_ge (b := 200) (by omega) (by decide)) ?_
      refine el_xfollowAtom hp (by omega) hl hl6 hm hm6 (fun ld' h3 h4 => ?_)
      refine nm_r (nI_1 a) (ih (a + 1) ld' (by omega) ?_ ?_)
      · intro a' s ha' hs
        by_cases e : a' = a
        · rw [e]; exact h3 s hs
        · rw [h4 _ (Or.inl (by omega))]
          exact h1 a' s (by omega) hs
      · intro j hj
        rw [h4 j (by omega)]
        exact h2 j hj
  exact ⟨_, L 200 0 ld rfl (fun j _ hj => absurd hj (by omega)) (fun _ _ => rfl)⟩
end
end
section
/-! the component's graph: steps, the last node, ways counted -/
def el_pr (t : Bool) : Int32 := match t with
  | true => 2
  | false => 0
theorem el_r7 {N : Nat} (h : N < 343) : nI N - nI N / 7 * 7 = nI (N % 7) := pk_rem (d := 7) (by omega) (by decide) (by decide)
theorem el_d7 {N : Nat} (h : N < 343) : nI N / 7 = nI (N / 7) := pk_div (d := 7) (by omega) (by decide) (by decide)
theorem el_r77 {N : Nat} (h : N < 343) : nI N / 7 - nI N / 7 / 7 * 7 = nI (N / 7 % 7) := by
  rw [el_d7 h]
  exact pk_rem (d := 7) (by omega) (by decide) (by decide)
theorem el_d49 {N : Nat} (h : N < 343) : nI N / 49 = nI (N / 49) := pk_div (d := 49) (by omega) (by decide) (by decide)
theorem el_c3 (x y z : Nat) : nI x + 7 * nI y + 49 * nI z = nI (x + 7 * y + 49 * z) := by
  rw [show (7 : Int32) = nI 7 from rfl, show (49 : Int32) = nI 49 from rfl, pk_mul, pk_mul, nI_add, nI_add]
section
variable {ex lr qr wf am rs : Int32} {il ol ia oa ld wy pg gv : Nat → Int32}
theorem el_xstepIn {post : Int32 → Prop} {p a s E : Nat} {t : Bool} {af : Nat → Nat → Nat → Option Nat} (hp : p < 3) (ha : a < 200) (hs : s < 7) (hE : E ≤ 2) (he : ex = nI E) (hld : el_ct E t p = true → ld ((p * 200 + a) * 7 + s) = el_en (af p a s)) (h : post (el_en (el_g (el_ct E t) af p a s))) : wpX_stepIn post (ex, lr, qr, wf, am, rs, il, ol, ia, oa, ld, wy, pg, gv) (nI p) (nI a) (nI s) (el_pr t) := by
  have c1 : el_ct E t p = true → wX_stepIn_19 post (nI p) (nI a) (nI s) ex lr qr wf am rs il ol ia oa ld wy pg gv := by
    intro c
    rw [el_g_t c, ← hld c] at h
    refine br_f (by decide) ?_
    rw [el_i7, nI_clamp (by omega)]
    exact ⟨vp_in_nI (by omega) (by decide), h⟩
  have c0 : el_ct E t p = false → wX_stepIn_23 post (nI p) (nI a) (nI s) ex lr qr wf am rs il ol ia oa ld wy pg gv := by
    intro c
    rw [el_g_f c] at h
    exact br_t rfl h
  subst he
  by_cases h1 : p < E
  · exact br_t (nI_lt h1 (by omega)) (c1 (el_ct_lt h1))
  · refine br_f (nI_nlt (by omega) (by omega)) ?_
    by_cases h2 : p = 2
    · subst h2
      refine br_t rfl ?_
      cases t with
      | true => exact br_t rfl (c1 el_ct_2)
      | false => exact br_f (by decide) (c0 (el_ct_f h1))
    · refine br_f (fun z => h2 ((nI_eq (b := 2) (by omega) (by decide)).mp z)) (c0 (el_ct_n h1 h2))
theorem el_xstep {post : Int32 → Prop} {N a E : Nat} {t : Bool} {af : Nat → Nat → Nat → Option Nat} (hN : N < 343) (ha : a < 200) (hE : E ≤ 2) (he : ex = nI E) (hld : ∀ p s, p < 3 → s < 7 → el_ct E t p = true → ld ((p * 200 + a) * 7 + s) = el_en (af p a s)) (hg : el_gr (el_g (el_ct E t) af)) (h : post (el_en (el_sp (el_g (el_ct E t) af) N a))) : wpX_step post (ex, lr, qr, wf, am, rs, il, ol, ia, oa, ld, wy, pg, gv) (nI N) (nI a) (el_pr t) := by
  refine And.intro (by decide) ?_
  rw [el_r7 hN]
  refine el_xstepIn (p := 0) (af := af) (by omega) ha (by omega) hE he (hld 0 _ (by omega) (by omega)) ?_
  refine And.intro (by decide) (And.intro (by decide) ?_)
  rw [el_r77 hN]
  refine el_xstepIn (p := 1) (af := af) (by omega) ha (by omega) hE he (hld 1 _ (by omega) (by omega)) ?_
  refine And.intro (by decide) ?_
  rw [el_d49 hN]
  refine el_xstepIn (p := 2) (af := af) (by omega) ha (by omega) hE he (hld 2 _ (by omega) (by omega)) ?_
  cases e0 : el_g (el_ct E t) af 0 a (N % 7) with
  | none =>
    rw [el_sp_0 e0] at h
    exact br_t el_m1lt h
  | some x =>
    have x7 := (hg _ _ _ _ (by omega) (by omega) e0).2
    refine br_f (nI_pos (by omega)) ?_
    cases e1 : el_g (el_ct E t) af 1 a (N / 7 % 7) with
    | none =>
      rw [el_sp_1 e1] at h
      exact br_t el_m1lt h
    | some y =>
      have y7 := (hg _ _ _ _ (by omega) (by omega) e1).2
      refine br_f (nI_pos (by omega)) ?_
      cases e2 : el_g (el_ct E t) af 2 a (N / 49) with
      | none =>
        rw [el_sp_2 e2] at h
        exact br_f (by decide) h
      | some z =>
        have z7 := (hg _ _ _ _ (by omega) (by omega) e2).2
        rw [el_sp_s e0 e1 e2] at h
        refine br_t (nI_pos' (by omega)) ?_
        show post (nI x + 7 * nI y + 49 * nI z)
        rw [el_c3]
        exact h
theorem el_xlast {post : Int32 → Prop} {E : Nat} {t : Bool} {mn : Nat → Nat} (hE : E ≤ 2) (he : ex = nI E) (hm : ∀ p, p < 3 → ol p = nI (mn p)) (h : post (nI (el_last E t mn))) : wpX_lastNode post (ex, lr, qr, wf, am, rs, il, ol, ia, oa, ld, wy, pg, gv) (el_pr t) := by
  subst he
  have k52 : ∀ x y z, x + 7 * y + 49 * z = el_last E t mn → wX_lastNode_52 post (nI x) (nI y) (nI z) (nI E) lr qr wf am rs il ol ia oa ld wy pg gv := by
    intro x y z e
    show post (nI x + 7 * nI y + 49 * nI z)
    rw [el_c3, e]
    exact h
  have k36 : ∀ x y, x + 7 * y + 49 * (if t = true then mn 2 else 0) = el_last E t mn → wX_lastNode_36 post (el_pr t) (nI x) (nI y) (nI E) lr qr wf am rs il ol ia oa ld wy pg gv := by
    intro x y e
    cases t with
    | true =>
      refine br_t rfl ?_
      rw [hm 2 (by omega)]
      exact k52 _ _ _ e
    | false => exact br_f (by decide) (k52 x y 0 e)
  have k17 : ∀ x, x + 7 * (if 1 < E then mn 1 else 0) + 49 * (if t = true then mn 2 else 0) = el_last E t mn → wX_lastNode_17 post (el_pr t) (nI x) (nI E) lr qr wf am rs il ol ia oa ld wy pg gv := by
    intro x e
    by_cases h1 : 1 < E
    · rw [if_pos h1] at e
      refine br_f (nI_ge (a := 1) h1 (by omega)) ?_
      rw [hm 1 (by omega)]
      exact k36 _ _ e
    · rw [if_neg h1] at e
      exact br_t (nI_le (b := 1) (by omega) (by omega)) (k36 x 0 e)
  by_cases h0 : 0 < E
  · refine br_f (nI_ge (a := 0) h0 (by omega)) ?_
    rw [hm 0 (by omega)]
    exact k17 _ (by unfold el_last; rw [if_pos h0])
  · exact br_t (nI_le (b := 0) (by omega) (by omega)) (k17 0 (by unfold el_last; rw [if_neg h0]))
theorem el_xexists {post : Int32 → Prop} {N l : Nat} (hN : N < 343) (hl : l < 343) (h1 : el_ex N l → post 1) (h0 : ¬ el_ex N l → post 0) : wpX_exists post (ex, lr, qr, wf, am, rs, il, ol, ia, oa, ld, wy, pg, gv) (nI N) (nI l) := by
  refine And.intro (by decide) (And.intro (by decide) ?_)
  refine pk_lt (l % 7) (N % 7) (fun a => h0 (fun z => ?_)) (fun a => ?_) (hx := el_r7 hl) (hy := el_r7 hN)
  · have := z.1; omega
  refine And.intro (by decide) (And.intro (by decide) (And.intro (by decide) (And.intro (by decide) ?_)))
  refine pk_lt (l / 7 % 7) (N / 7 % 7) (fun b => h0 (fun z => ?_)) (fun b => ?_) (hx := el_r77 hl) (hy := el_r77 hN)
  · have := z.2.1; omega
  refine And.intro (by decide) (And.intro (by decide) ?_)
  refine pk_lt (l / 49) (N / 49) (fun c => h0 (fun z => ?_)) (fun c => h1 ⟨a, b, c⟩) (hx := el_d49 hl) (hy := el_d49 hN)
  have := z.2.2; omega
theorem el_i343 (j N : Nat) : nI j * 343 + nI N = nI (j * 343 + N) := by
  rw [show (343 : Int32) = nI 343 from rfl, pk_mul, nI_add]
theorem el_xcountFrom {post : Int32 → Prop} {N j E : Nat} {t : Bool} {af : Nat → Nat → Nat → Option Nat} {w : Nat → Nat} (hN : N < 343) (hj : j < 3) (hE : E ≤ 2) (he : ex = nI E) (hld : ∀ p a s, p < 3 → a < 200 → s < 7 → el_ct E t p = true → ld ((p * 200 + a) * 7 + s) = el_en (af p a s)) (hg : el_gr (el_g (el_ct E t) af)) (hw : ∀ M, M < 343 → wy (j * 343 + M) = nI (w M)) (h : post (nI (el_su (fun a => el_o w (el_sp (el_g (el_ct E t) af) N a)) 200))) : wpX_countFrom post (ex, lr, qr, wf, am, rs, il, ol, ia, oa, ld, wy, pg, gv) (nI N) (nI (j + 1)) (el_pr t) := by
  have L : ∀ d a, a + d = 200 → wX_countFrom_6 post (nI N) (nI (j + 1)) (el_pr t) ex lr qr wf am rs il ol ia oa ld wy pg gv (d + 1) (nI (el_su (fun a => el_o w (el_sp (el_g (el_ct E t) af) N a)) a)) (nI a) := by
    intro d
    induction d with
    | zero =>
      intro a ha
      refine br_t (nI_le (a := 200) (by omega) (by omega)) ?_
      rw [show a = 200 from by omega]
      exact h
    | succ d ih =>
      intro a ha
      refine br_f (nI_ge (b := 200) (by omega) (by decide)) ?_
      refine el_xstep hN (by omega) hE he (fun p s h1 h2 h3 => hld p a s h1 (by omega) h2 h3) hg ?_
      have ih1 := ih (a + 1) (by omega)
      rw [el_su_s] at ih1
      cases e : el_sp (el_g (el_ct E t) af) N a with
      | none =>
        rw [e] at ih1
        exact br_t el_m1lt (nm_r (nI_1 a) ih1)
      | some M =>
        have hM := (el_sp_r hg hN e).1
        rw [e] at ih1
        refine br_f (nI_pos (by omega)) ?_
        show vp_in ((nI (j + 1) - 1) * 343 + nI M) 1372 ∧ ∀ y : Int32, y = nI _ + wy ((nI (j + 1) - 1) * 343 + nI M).toNatClampNeg → _
        rw [nI_pred, el_i343, nI_clamp (by omega), hw M hM, nI_add]
        exact ⟨vp_in_nI (by omega) (by decide), nm_e (nm_r (nI_1 a) ih1)⟩
  exact ⟨_, L 200 0 rfl⟩
/-- ways is right for the steps g and the last node l -/
def el_WS (g : Nat → Nat → Nat → Option Nat) (l : Nat) (wy : Nat → Int32) : Prop := ∀ k N, k < 4 → N < 343 → wy (k * 343 + N) = nI (el_W g l k N)
theorem el_xcnt116 {post : SX → Prop} {J : Int32 → (Nat → Int32) → (Nat → Int32) → (Nat → Int32) → (Nat → Int32) → (Nat → Int32) → (Nat → Int32) → (Nat → Int32) → (Nat → Int32) → Prop} {j E l : Nat} {t : Bool} {af : Nat → Nat → Nat → Option Nat} (hj : j < 3) (hE : E ≤ 2) (he : ex = nI E) (hl : l < 343) (hld : ∀ p a s, p < 3 → a < 200 → s < 7 → el_ct E t p = true → ld ((p * 200 + a) * 7 + s) = el_en (af p a s)) (hg : el_gr (el_g (el_ct E t) af))
    (hJ : ∀ wy' : Nat → Int32, (∀ i N, i < j + 2 → N < 343 → wy' (i * 343 + N) = nI (el_W (el_g (el_ct E t) af) l i N)) → J (nI (j + 2)) il ol ia oa ld wy' pg gv) :
    ∀ d N (wy1 : Nat → Int32), N + d = 343 → (∀ i M, i < j + 1 → M < 343 → wy1 (i * 343 + M) = nI (el_W (el_g (el_ct E t) af) l i M)) → (∀ M, M < N → wy1 ((j + 1) * 343 + M) = nI (el_W (el_g (el_ct E t) af) l (j + 1) M)) → wX_count_116 post J (el_pr t) (nI l) (nI (j + 1)) ex lr qr wf am rs (d + 1) (nI N) il ol ia oa ld wy1 pg gv := by
  intro d
  induction d with
  | zero =>
    intro N wy1 hN h1 h2
    refine br_t (nI_le (a := 343) (by omega) (by omega)) (nm_r (nI_1 (j + 1)) (hJ wy1 (fun i M hi hM => ?_)))
    by_cases e : i = j + 1
    · rw [e]; exact h2 M (by omega)
    · exact h1 i M (by omega) hM
  | succ d ih =>
    intro N wy1 hN h1 h2
    have hin : vp_in (nI (j + 1) * 343 + nI N) 1372 := by
      rw [el_i343]; exact vp_in_nI (by omega) (by decide)
    have nx : ∀ v : Int32, v = nI (el_W (el_g (el_ct E t) af) l (j + 1) N) → wX_count_116 post J (el_pr t) (nI l) (nI (j + 1)) ex lr qr wf am rs (d + 1) (nI N + 1) il ol ia oa ld (upd wy1 (nI (j + 1) * 343 + nI N).toNatClampNeg v) pg gv := by
      intro v hv
      rw [el_i343, nI_clamp (by omega), nI_1]
      refine ih (N + 1) _ (by omega) ?_ ?_
      · intro i M hi hM
        rw [pk_un (by omega)]
        exact h1 i M hi hM
      · intro M hM
        by_cases e : M = N
        · rw [e, pk_us, hv]
        · rw [pk_un (by omega)]
          exact h2 M (by omega)
    refine br_f (nI_ge (b := 343) (by omega) (by decide)) ?_
    refine el_xexists (by omega) hl (fun c => ?_) (fun c => ?_)
    · refine br_f (by decide) ?_
      refine el_xcountFrom (w := el_W (el_g (el_ct E t) af) l j) (by omega) hj hE he hld hg (fun M hM => h1 j M (by omega) hM) ?_
      exact And.intro hin (nm_e (nm_e (nx _ rfl)))
    · refine br_t rfl ?_
      refine And.intro hin (nm_e (nm_e (nx _ ?_)))
      rw [el_W_ex hg _ _ (by omega) c]
      rfl
theorem el_xcnt108 {post : SX → Prop} {E l : Nat} {t : Bool} {af : Nat → Nat → Nat → Option Nat} (hE : E ≤ 2) (he : ex = nI E) (hl : l < 343) (hld : ∀ p a s, p < 3 → a < 200 → s < 7 → el_ct E t p = true → ld ((p * 200 + a) * 7 + s) = el_en (af p a s)) (hg : el_gr (el_g (el_ct E t) af))
    (h : ∀ wy' : Nat → Int32, el_WS (el_g (el_ct E t) af) l wy' → post (ex, lr, qr, wf, am, rs, il, ol, ia, oa, ld, wy', pg, gv)) :
    ∀ d j (wy1 : Nat → Int32), j + d = 3 → (∀ i M, i < j + 1 → M < 343 → wy1 (i * 343 + M) = nI (el_W (el_g (el_ct E t) af) l i M)) → wX_count_108 post (el_pr t) (nI l) ex lr qr wf am rs (d + 1) (nI (j + 1)) il ol ia oa ld wy1 pg gv := by
  intro d
  induction d with
  | zero =>
    intro j wy1 hj h1
    exact br_t (nI_lt (a := 3) (by omega) (by omega)) (h wy1 (fun k N hk hN => h1 k N (by omega) hN))
  | succ d ih =>
    intro j wy1 hj h1
    refine br_f (nI_nlt (a := 3) (by omega) (by omega)) ⟨343 + 1, ?_⟩
    exact el_xcnt116 (j := j) (by omega) hE he hl hld hg (fun wy' h2 => ih (j + 1) wy' (by omega) h2) 343 0 wy1 rfl h1 (fun M hM => absurd hM (by omega))
theorem el_xcnt77 {post : SX → Prop} {E l : Nat} {t : Bool} {af : Nat → Nat → Nat → Option Nat} (hE : E ≤ 2) (he : ex = nI E) (hl : l < 343) (hld : ∀ p a s, p < 3 → a < 200 → s < 7 → el_ct E t p = true → ld ((p * 200 + a) * 7 + s) = el_en (af p a s)) (hg : el_gr (el_g (el_ct E t) af))
    (h : ∀ wy' : Nat → Int32, el_WS (el_g (el_ct E t) af) l wy' → post (ex, lr, qr, wf, am, rs, il, ol, ia, oa, ld, wy', pg, gv)) :
    ∀ d N (wy1 : Nat → Int32), N + d = 343 → (∀ M, M < N → wy1 M = nI (el_W (el_g (el_ct E t) af) l 0 M)) → wX_count_77 post (el_pr t) (nI l) ex lr qr wf am rs (d + 1) (nI N) il ol ia oa ld wy1 pg gv := by
  intro d
  induction d with
  | zero =>
    intro N wy1 hN h1
    refine br_t (nI_le (a := 343) (by omega) (by omega)) ⟨3 + 1, ?_⟩
    refine el_xcnt108 hE he hl hld hg h 3 0 wy1 rfl (fun i M hi hM => ?_)
    rw [show i = 0 from by omega, Nat.zero_mul, Nat.zero_add]
    exact h1 M (by omega)
  | succ d ih =>
    intro N wy1 hN h1
    have hin : vp_in (nI N) 1372 := vp_in_nI (by omega) (by decide)
    have nx : ∀ v : Int32, v = nI (el_W (el_g (el_ct E t) af) l 0 N) → wX_count_77 post (el_pr t) (nI l) ex lr qr wf am rs (d + 1) (nI N + 1) il ol ia oa ld (upd wy1 (nI N).toNatClampNeg v) pg gv := by
      intro v hv
      rw [nI_clamp (by omega), nI_1]
      refine ih (N + 1) _ (by omega) ?_
      intro M hM
      by_cases e : M = N
      · rw [e, pk_us, hv]
      · rw [pk_un e]
        exact h1 M (by omega)
    refine br_f (nI_ge (b := 343) (by omega) (by decide)) ?_
    by_cases e : N = l
    · refine br_t (by rw [e]) (And.intro hin (nm_e (nm_e (nx _ ?_))))
      rw [e, el_W_0]
      rfl
    · refine br_f (fun z => e ((nI_eq (by omega) (by omega)).mp z)) (And.intro hin (nm_e (nm_e (nx _ ?_))))
      rw [el_W_0n e]
      rfl
end
end
section
/-! the relation's parts; the component counts, finds the first program and runs it -/
def el_cl (f : Nat → Int32) (p : Nat) : Nat := (f p).toNatClampNeg
/-- lengths of three texts -/
def el_len (f : Nat → Int32) : Prop := ∀ p, p < 3 → f p = nI (el_cl f p) ∧ el_cl f p ≤ 6
/-- the steps and the last node of the texts that count -/
def el_gt (E : Nat) (t : Bool) (il ol ia oa : Nat → Int32) : Nat → Nat → Nat → Option Nat := el_g (el_ct E t) (el_af (el_cl il) (el_cl ol) ia oa)
def el_lt (E : Nat) (t : Bool) (ol : Nat → Int32) : Nat := el_last E t (el_cl ol)
/-- the number of right programs of k atoms -/
def el_w (E : Nat) (t : Bool) (il ol ia oa : Nat → Int32) (k : Nat) : Nat := el_W (el_gt E t il ol ia oa) (el_lt E t ol) k 0
def el_Txt (ex : Int32) (il ol : Nat → Int32) (E : Nat) : Prop := E ≤ 2 ∧ ex = nI E ∧ el_len il ∧ el_len ol
def el_Inv (ex lr qr wf : Int32) (il ol ia oa ld wy : Nat → Int32) (E : Nat) : Prop :=
  el_Txt ex il ol E ∧ (lr ≠ 0 → ∀ p, p < E → el_LD (el_cl il) (el_cl ol) ia oa ld p) ∧ (qr ≠ 0 → el_LD (el_cl il) (el_cl ol) ia oa ld 2) ∧
  (wf = 0 → el_WS (el_gt E false il ol ia oa) (el_lt E false ol) wy) ∧ (wf = 2 → el_WS (el_gt E true il ol ia oa) (el_lt E true ol) wy)
theorem el_gtr {ex : Int32} {E : Nat} {t : Bool} {il ol ia oa : Nat → Int32} (T : el_Txt ex il ol E) : el_gr (el_gt E t il ol ia oa) :=
  el_gr_g (fun p hp => (T.2.2.2 p hp).2)
theorem el_ltr {ex : Int32} {E : Nat} {t : Bool} {il ol : Nat → Int32} (T : el_Txt ex il ol E) : el_lt E t ol < 343 :=
  (el_last_c T.1 (fun p hp => (T.2.2.2 p hp).2)).1
section
variable {ex lr qr wf am rs : Int32} {il ol ia oa ld wy pg gv : Nat → Int32}
theorem el_hld {E : Nat} {t : Bool} (hE : E ≤ 2) (h1 : ∀ p, p < E → el_LD (el_cl il) (el_cl ol) ia oa ld p) (h2 : t = true → el_LD (el_cl il) (el_cl ol) ia oa ld 2) : ∀ p a s, p < 3 → a < 200 → s < 7 → el_ct E t p = true → ld ((p * 200 + a) * 7 + s) = el_en (el_af (el_cl il) (el_cl ol) ia oa p a s) := by
  intro p a s hp ha hs c
  rcases el_ct_c c with d | ⟨rfl, d⟩
  · exact h1 p d a s ha hs
  · exact h2 d a s ha hs
theorem el_xc55 {post : SX → Prop} {E : Nat} {t : Bool} (H : el_Inv ex lr qr wf il ol ia oa ld wy E) (hlr : lr ≠ 0) (hqr : t = true → qr ≠ 0)
    (h : ∀ wy' : Nat → Int32, el_Inv ex lr qr (el_pr t) il ol ia oa ld wy' E → post (ex, lr, qr, el_pr t, am, rs, il, ol, ia, oa, ld, wy', pg, gv)) : wX_count_55 post (el_pr t) ex lr qr wf am rs il ol ia oa ld wy pg gv := by
  obtain ⟨T, H1, H2, H3, H4⟩ := H
  by_cases e : wf = el_pr t
  · subst e
    exact br_t rfl (h wy ⟨T, H1, H2, H3, H4⟩)
  · refine br_f e ?_
    refine el_xlast (mn := el_cl ol) T.1 T.2.1 (fun p hp => (T.2.2.2 p hp).1) ?_
    refine ⟨_, el_xcnt77 T.1 T.2.1 (el_ltr T) (el_hld T.1 (H1 hlr) (fun z => H2 (hqr z))) (el_gtr T) (fun wy' hw => h wy' ⟨T, H1, H2, ?_, ?_⟩) 343 0 wy rfl (fun M hM => absurd hM (by omega))⟩
    · intro z
      cases t with
      | true => exact absurd z (by decide)
      | false => exact hw
    · intro z
      cases t with
      | true => exact hw
      | false => exact absurd z (by decide)
theorem el_LD_k {p q : Nat} {ln mn : Nat → Nat} {ld' : Nat → Int32} (h : el_LD ln mn ia oa ld p) (hpq : p ≠ q) (hk : ∀ j, (j < q * 1400 ∨ q * 1400 + 1400 ≤ j) → ld' j = ld j) : el_LD ln mn ia oa ld' p := by
  intro a s ha hs
  rw [hk _ (by omega)]
  exact h a s ha hs
theorem el_xc33 {post : SX → Prop} {E : Nat} {t : Bool} (H : el_Inv ex lr qr wf il ol ia oa ld wy E) (hlr : lr ≠ 0)
    (h : ∀ (qr' : Int32) (ld' wy' : Nat → Int32), el_Inv ex lr qr' (el_pr t) il ol ia oa ld' wy' E → post (ex, lr, qr', el_pr t, am, rs, il, ol, ia, oa, ld', wy', pg, gv)) : wX_count_33 post (el_pr t) ex lr qr wf am rs il ol ia oa ld wy pg gv := by
  cases t with
  | false => exact br_f (by decide) (el_xc55 (t := false) H hlr (fun z => absurd z (by decide)) (fun wy' h' => h qr ld wy' h'))
  | true =>
    refine br_t rfl ?_
    by_cases e : qr = 0
    · refine br_t e ?_
      obtain ⟨T, H1, H2, H3, H4⟩ := H
      refine el_xfollowAll (p := 2) (by omega) (T.2.2.1 2 (by omega)).1 (T.2.2.1 2 (by omega)).2 (T.2.2.2 2 (by omega)).1 (T.2.2.2 2 (by omega)).2 (fun ld' hd hk => ?_)
      refine el_xc55 (t := true) (qr := 1) (ld := ld') ⟨T, fun z p hp => el_LD_k (H1 z p hp) (by have := T.1; omega) hk, fun _ => hd, H3, H4⟩ hlr (fun _ => by decide) (fun wy' h' => h 1 ld' wy' h')
    · exact br_f e (el_xc55 (t := true) H hlr (fun _ => e) (fun wy' h' => h qr ld wy' h'))
theorem el_xcount {post : SX → Prop} {E : Nat} (t : Bool) (H : el_Inv ex lr qr wf il ol ia oa ld wy E)
    (h : ∀ (lr' qr' : Int32) (ld' wy' : Nat → Int32), el_Inv ex lr' qr' (el_pr t) il ol ia oa ld' wy' E → lr' ≠ 0 → post (ex, lr', qr', el_pr t, am, rs, il, ol, ia, oa, ld', wy', pg, gv)) : wpX_count post (ex, lr, qr, wf, am, rs, il, ol, ia, oa, ld, wy, pg, gv) (el_pr t) := by
  by_cases e : lr = 0
  · refine br_t e ⟨E + 1, ?_⟩
    obtain ⟨T, H1, H2, H3, H4⟩ := H
    have L : ∀ d i (ld1 : Nat → Int32), i + d = E → (∀ p, p < i → el_LD (el_cl il) (el_cl ol) ia oa ld1 p) → (qr ≠ 0 → el_LD (el_cl il) (el_cl ol) ia oa ld1 2) → wX_count_9 post (el_pr t) (d + 1) (nI i) ex lr qr wf am rs il ol ia oa ld1 wy pg gv := by
      intro d
      have hE := T.1
      induction d with
      | zero =>
        intro i ld1 hi h1 h2
        refine br_t ?_ ?_
        · rw [T.2.1]
          exact nI_le (by omega) (by omega)
        · exact el_xc33 (lr := 1) (ld := ld1) ⟨T, fun _ p hp => h1 p (by omega), h2, H3, H4⟩ (by decide) (fun qr' ld' wy' h' => h 1 qr' ld' wy' h' (by decide))
      | succ d ih =>
        intro i ld1 hi h1 h2
        refine br_f ?_ ?_
        · rw [T.2.1]
          exact nI_ge (by omega) (by omega)
        · refine el_xfollowAll (p := i) (by omega) (T.2.2.1 i (by omega)).1 (T.2.2.1 i (by omega)).2 (T.2.2.2 i (by omega)).1 (T.2.2.2 i (by omega)).2 (fun ld' hd hk => ?_)
          refine nm_r (nI_1 i) (ih (i + 1) ld' (by omega) (fun p hp => ?_) (fun z => el_LD_k (h2 z) (by omega) hk))
          by_cases ep : p = i
          · rw [ep]; exact hd
          · exact el_LD_k (h1 p (by omega)) ep hk
    exact L E 0 ld (Nat.zero_add _) (fun p hp => absurd hp (by omega)) H2
  · exact br_f e (el_xc33 H e (fun qr' ld' wy' h' => h lr qr' ld' wy' h' e))
theorem el_i343' (k : Nat) : nI k * 343 = nI (k * 343) := by
  rw [show (343 : Int32) = nI 343 from rfl, pk_mul]
theorem el_wy0 {E k : Nat} {t : Bool} (hk : k < 4) (h : el_WS (el_gt E t il ol ia oa) (el_lt E t ol) wy) : wy (k * 343) = nI (el_w E t il ol ia oa k) := h k 0 hk (by omega)
theorem el_xlc7 {post : Int32 → SX → Prop} {E : Nat} (hw : el_WS (el_gt E false il ol ia oa) (el_lt E false ol) wy) (h : post (nI (el_lc (el_w E false il ol ia oa))) (ex, lr, qr, wf, am, rs, il, ol, ia, oa, ld, wy, pg, gv)) : ∃ n, wX_leastCount_7 post ex lr qr wf am rs il ol ia oa ld wy pg gv n 1 := by
  have S1 : ∀ n k, k < 4 → 0 < k → 0 < el_w E false il ol ia oa k → post (nI k) (ex, lr, qr, wf, am, rs, il, ol, ia, oa, ld, wy, pg, gv) → wX_leastCount_7 post ex lr qr wf am rs il ol ia oa ld wy pg gv (n + 1) (nI k) := by
    intro n k hk hk0 hp hpost
    refine br_f (nI_nlt (a := 3) (by omega) (by omega)) ?_
    rw [el_i343', nI_clamp (by omega), el_wy0 hk hw]
    exact ⟨vp_in_nI (by omega) (by decide), br_f (nI_nle hp (el_W_lt (by omega))) hpost⟩
  have S0 : ∀ n k, k < 4 → 0 < k → ¬ 0 < el_w E false il ol ia oa k → wX_leastCount_7 post ex lr qr wf am rs il ol ia oa ld wy pg gv n (nI (k + 1)) → wX_leastCount_7 post ex lr qr wf am rs il ol ia oa ld wy pg gv (n + 1) (nI k) := by
    intro n k hk hk0 hp hpost
    refine br_f (nI_nlt (a := 3) (by omega) (by omega)) ?_
    rw [el_i343', nI_clamp (by omega), el_wy0 hk hw]
    refine ⟨vp_in_nI (by omega) (by decide), br_t ?_ (nm_r (nI_1 k) hpost)⟩
    rw [show el_w E false il ol ia oa k = 0 from by omega]
    decide
  refine ⟨4, ?_⟩
  unfold el_lc at h
  by_cases w1 : 0 < el_w E false il ol ia oa 1
  · rw [if_pos w1] at h
    exact S1 3 1 (by omega) (by omega) w1 h
  · rw [if_neg w1] at h
    refine S0 3 1 (by omega) (by omega) w1 ?_
    by_cases w2 : 0 < el_w E false il ol ia oa 2
    · rw [if_pos w2] at h
      exact S1 2 2 (by omega) (by omega) w2 h
    · rw [if_neg w2] at h
      refine S0 2 2 (by omega) (by omega) w2 ?_
      by_cases w3 : 0 < el_w E false il ol ia oa 3
      · rw [if_pos w3] at h
        exact S1 1 3 (by omega) (by omega) w3 h
      · rw [if_neg w3] at h
        refine S0 1 3 (by omega) (by omega) w3 ?_
        exact br_t (nI_lt (a := 3) (b := 4) (by omega) (by omega)) h
theorem el_xleastCount {post : Int32 → SX → Prop} {E : Nat} (H : el_Inv ex lr qr wf il ol ia oa ld wy E)
    (h : ∀ (lr' qr' : Int32) (ld' wy' : Nat → Int32), el_Inv ex lr' qr' 0 il ol ia oa ld' wy' E → lr' ≠ 0 → post (nI (el_lc (el_w E false il ol ia oa))) (ex, lr', qr', 0, am, rs, il, ol, ia, oa, ld', wy', pg, gv)) : wpX_leastCount post (ex, lr, qr, wf, am, rs, il, ol, ia, oa, ld, wy, pg, gv) := by
  unfold wpX_leastCount
  dsimp only
  refine el_xcount false H (fun lr' qr' ld' wy' H' hl => ?_)
  exact el_xlc7 (H'.2.2.2.1 rfl) (h lr' qr' ld' wy' H' hl)
theorem el_xgoesOn {post : Int32 → Prop} {N a k E : Nat} (hN : N < 343) (ha : a < 200) (hk : k < 4) (H : el_Inv ex lr qr wf il ol ia oa ld wy E) (hl : lr ≠ 0) (hw : el_WS (el_gt E false il ol ia oa) (el_lt E false ol) wy)
    (h1 : 0 < el_q (el_gt E false il ol ia oa) (el_lt E false ol) k N a → post 1) (h0 : el_q (el_gt E false il ol ia oa) (el_lt E false ol) k N a = 0 → post 0) : wpX_goesOn post (ex, lr, qr, wf, am, rs, il, ol, ia, oa, ld, wy, pg, gv) (nI N) (nI a) (nI k) := by
  have T := H.1
  unfold wpX_goesOn
  dsimp only
  refine el_xstep (t := false) hN ha T.1 T.2.1 (fun p s hp hs c => el_hld (t := false) T.1 (H.2.1 hl) (fun z => absurd z (by decide)) p a s hp ha hs c) (el_gtr (t := false) T) ?_
  cases e : el_sp (el_g (el_ct E false) (el_af (el_cl il) (el_cl ol) ia oa)) N a with
  | none => exact br_t el_m1lt (h0 (el_q_n e))
  | some M =>
    have hM := (el_sp_r (el_gtr T) hN e).1
    have eg : el_sp (el_gt E false il ol ia oa) N a = some M := e
    refine br_f (nI_pos (by omega)) ?_
    show vp_in (nI k * 343 + nI M) 1372 ∧ ((wy (nI k * 343 + nI M).toNatClampNeg ≤ 0 → _) ∧ (¬ wy (nI k * 343 + nI M).toNatClampNeg ≤ 0 → _))
    rw [el_i343, nI_clamp (by omega), hw k M hk hM]
    refine ⟨vp_in_nI (by omega) (by decide), ?_⟩
    by_cases z : 0 < el_W (el_gt E false il ol ia oa) (el_lt E false ol) k M
    · exact br_f (nI_nle z (el_W_lt (by omega))) (h1 (by rw [el_q_s eg]; exact z))
    · refine br_t ?_ (h0 (by rw [el_q_s eg]; omega))
      rw [show el_W (el_gt E false il ol ia oa) (el_lt E false ol) k M = 0 from by omega]
      decide
theorem el_xff22 {post : SX → Prop} {J : Int32 → Int32 → (Nat → Int32) → (Nat → Int32) → (Nat → Int32) → (Nat → Int32) → (Nat → Int32) → (Nat → Int32) → (Nat → Int32) → (Nat → Int32) → Prop} {N i k E : Nat} (hN : N < 343) (hk : k < 3) (hi : i < 3) (ham : am = nI (i + k + 1)) (H : el_Inv ex lr qr wf il ol ia oa ld wy E) (hl : lr ≠ 0) (hw : el_WS (el_gt E false il ol ia oa) (el_lt E false ol) wy)
    (hp : 0 < el_W (el_gt E false il ol ia oa) (el_lt E false ol) (k + 1) N)
    (hJ : ∀ a N', a < 200 → el_Fst (el_q (el_gt E false il ol ia oa) (el_lt E false ol) k N) a → el_sp (el_gt E false il ol ia oa) N a = some N' → J (nI N') (nI (i + 1)) il ol ia oa ld wy (upd pg i (nI a)) gv) :
    ∃ n, wX_findFirst_22 post J (nI N) (nI i) ex lr qr wf am rs il ol ia oa ld wy pg gv n 0 := by
  have T := H.1
  have K : ∀ a, a < 200 → el_Fst (el_q (el_gt E false il ol ia oa) (el_lt E false ol) k N) a → wX_findFirst_52 post J (nI N) (nI i) (nI a) ex lr qr wf am rs il ol ia oa ld wy pg gv := by
    intro a ha hF
    refine And.intro (vp_in_nI hi (by decide)) (nm_r (by rw [nI_clamp (by omega)]) ?_)
    refine el_xstep (t := false) hN ha T.1 T.2.1 (fun p s hp hs c => el_hld (t := false) T.1 (H.2.1 hl) (fun z => absurd z (by decide)) p a s hp ha hs c) (el_gtr (t := false) T) ?_
    obtain ⟨N', e, _⟩ := el_q_p hF.1
    have e' : el_sp (el_g (el_ct E false) (el_af (el_cl il) (el_cl ol) ia oa)) N a = some N' := e
    rw [e']
    exact nm_r (nI_1 i) (hJ a N' ha hF e)
  have L : ∀ d a, a + d = 199 → (∀ b, b < a → el_q (el_gt E false il ol ia oa) (el_lt E false ol) k N b = 0) → wX_findFirst_22 post J (nI N) (nI i) ex lr qr wf am rs il ol ia oa ld wy pg gv (d + 1) (nI a) := by
    intro d
    induction d with
    | zero =>
      intro a ha hb
      refine br_t (nI_le (a := 199) (by omega) (by omega)) (K a (by omega) ⟨?_, hb⟩)
      by_cases z : 0 < el_q (el_gt E false il ol ia oa) (el_lt E false ol) k N a
      · exact z
      · rw [el_W_s, el_su_z] at hp
        · omega
        · intro b hb'
          by_cases eb : b = a
          · rw [eb]; omega
          · exact hb b (by omega)
    | succ d ih =>
      intro a ha hb
      refine br_f (nI_ge (b := 199) (by omega) (by decide)) ?_
      have ek : am - nI i - 1 = nI k := by
        rw [ham, pk_sub (by omega), show i + k + 1 - i = k + 1 from by omega]
        exact nI_pred k
      rw [ek]
      refine el_xgoesOn hN (by omega) (by omega) H hl hw (fun z => ?_) (fun z => ?_)
      · exact br_f (by decide) (K a (by omega) ⟨z, hb⟩)
      · refine br_t rfl (nm_r (nI_1 a) (ih (a + 1) (by omega) (fun b hb' => ?_)))
        by_cases eb : b = a
        · rw [eb]; exact z
        · exact hb b (by omega)
  exact ⟨_, L 199 0 rfl (fun b hb => absurd hb (by omega))⟩
theorem el_xff12 {post : SX → Prop} {E K : Nat} (hK : K ≤ 3) (ham : am = nI K) (H : el_Inv ex lr qr wf il ol ia oa ld wy E) (hl : lr ≠ 0) (hw : el_WS (el_gt E false il ol ia oa) (el_lt E false ol) wy) :
    ∀ k i N (pg1 : Nat → Int32), i + k = K → N < 343 → (0 < k → 0 < el_W (el_gt E false il ol ia oa) (el_lt E false ol) k N) → (∀ pg' : Nat → Int32, (∀ j, j < i → pg' j = pg1 j) → el_GF (el_gt E false il ol ia oa) (el_lt E false ol) k N i pg' → post (ex, lr, qr, wf, am, rs, il, ol, ia, oa, ld, wy, pg', gv)) → wX_findFirst_12 post ex lr qr wf am rs (k + 1) (nI N) (nI i) il ol ia oa ld wy pg1 gv := by
  intro k
  induction k with
  | zero =>
    intro i N pg1 hi hN _ h
    refine br_t ?_ (h pg1 (fun _ _ => rfl) trivial)
    rw [ham]
    exact nI_le (by omega) (by omega)
  | succ k ih =>
    intro i N pg1 hi hN hp h
    refine br_f ?_ ?_
    · rw [ham]
      exact nI_ge (by omega) (by omega)
    · refine el_xff22 (pg := pg1) (k := k) hN (by omega) (by omega) (by rw [ham]; exact congrArg nI (by omega)) H hl hw (hp (by omega)) (fun a N' ha hF e => ?_)
      have hN' := (el_sp_r (el_gtr H.1) hN e).1
      refine ih (i + 1) N' (upd pg1 i (nI a)) (by omega) hN' (fun _ => ?_) (fun pg' h1 h2 => h pg' (fun j hj => ?_) ⟨a, N', ha, hF, e, ?_, h2⟩)
      · have := hF.1
        rw [el_q_s e] at this
        exact this
      · rw [h1 j (by omega), pk_un (by omega)]
      · rw [h1 i (by omega), pk_us]
theorem el_xfindFirst {post : SX → Prop} {E : Nat} (H : el_Inv ex lr qr wf il ol ia oa ld wy E)
    (h : ∀ (lr' qr' : Int32) (ld' wy' pg' : Nat → Int32), el_Inv ex lr' qr' 0 il ol ia oa ld' wy' E → el_GF (el_gt E false il ol ia oa) (el_lt E false ol) (el_lc (el_w E false il ol ia oa)) 0 0 pg' → post (ex, lr', qr', 0, nI (el_lc (el_w E false il ol ia oa)), rs, il, ol, ia, oa, ld', wy', pg', gv)) : wpX_findFirst post (ex, lr, qr, wf, am, rs, il, ol, ia, oa, ld, wy, pg, gv) := by
  unfold wpX_findFirst
  dsimp only
  refine el_xleastCount H (fun lr' qr' ld' wy' H' hl => ?_)
  refine ⟨_, el_xff12 (lr := lr') (qr := qr') (ld := ld') (wy := wy') (el_lc_le _) rfl H' hl (H'.2.2.2.1 rfl) (el_lc (el_w E false il ol ia oa)) 0 0 pg (Nat.zero_add _) (by omega) (fun z => el_lc_p (w := el_w E false il ol ia oa) (by omega)) (fun pg' _ hG => h lr' qr' ld' wy' pg' H' hG)⟩
end
end
section
/-! a program's run: what it gives, letter by letter; the component's run -/
/-- what is written after i atoms -/
def el_C (z : Nat → Nat) (le : Nat → Nat → Int32) : Nat → Nat → Int32
  | 0 => fun _ => 0
  | i + 1 => fun j => if el_su z i ≤ j then le i (j - el_su z i) else el_C z le i j
theorem el_C_lo {z : Nat → Nat} {le : Nat → Nat → Int32} {i j : Nat} (h : j < el_su z i) : el_C z le (i + 1) j = el_C z le i j := if_neg (by omega)
theorem el_C_hi {z : Nat → Nat} {le : Nat → Nat → Int32} {i j : Nat} : el_C z le (i + 1) (el_su z i + j) = le i j := by
  show (if el_su z i ≤ el_su z i + j then le i (el_su z i + j - el_su z i) else _) = _
  rw [if_pos (by omega), Nat.add_sub_cancel_left]
theorem el_su18 {z : Nat → Nat} (h : ∀ i, z i ≤ 6) {i : Nat} (hi : i ≤ 3) : el_su z i ≤ 18 := by
  have := el_su_le h i
  omega
section
variable {ex lr qr wf am rs : Int32} {il ol ia oa ld wy pg gv : Nat → Int32}
theorem el_xrun48 {post : Int32 → SX → Prop} {J : Int32 → Int32 → (Nat → Int32) → (Nat → Int32) → (Nat → Int32) → (Nat → Int32) → (Nat → Int32) → (Nat → Int32) → (Nat → Int32) → (Nat → Int32) → Prop} {i n : Nat} {P : Nat → Nat} {C : Nat → Int32} {b : Nat} (hi : i < 3) (hn : il 2 = nI n) (hn6 : n ≤ 6) (hP : pg i = nI (P i)) (hP2 : P i < 200) (hb : b + el_sz n (P i) ≤ 18) (hC : ∀ x, x < el_sz n (P i) → C (b + x) = el_le ia n 2 (P i) x)
    (hJ : ∀ gv' : Nat → Int32, (∀ j, j < b + el_sz n (P i) → gv' j = C j) → J (nI (i + 1)) (nI (b + el_sz n (P i))) il ol ia oa ld wy pg gv') :
    ∀ d x (gv1 : Nat → Int32), x + d = el_sz n (P i) → (∀ j, j < b + x → gv1 j = C j) → wX_run_48 post J (nI i) (nI (el_sz n (P i))) ex lr qr wf am (d + 1) (nI x) (nI (b + x)) il ol ia oa ld wy pg gv1 := by
  intro d
  have z6 := el_sz_le (a := P i) hn6
  induction d with
  | zero =>
    intro x gv1 hx h1
    have ex' : x = el_sz n (P i) := by omega
    subst ex'
    exact br_t (nI_le (by omega) (by omega)) (nm_r (nI_1 i) (hJ gv1 h1))
  | succ d ih =>
    intro x gv1 hx h1
    refine br_f (nI_ge (by omega) (by omega)) ⟨vp_in_nI hi (by decide), ?_⟩
    rw [nI_clamp (n := i) (by omega), hP]
    refine el_xletter (p := 2) (by omega) hP2 hn hn6 (by omega) ?_
    refine And.intro (vp_in_nI (by omega) (by decide)) (nm_r (by rw [nI_clamp (by omega)]) (nm_r (nI_1 _) (nm_r (nI_1 x) ?_)))
    refine ih (x + 1) _ (by omega) (fun j hj => ?_)
    by_cases e : j = b + x
    · rw [e, pk_us, hC x (by omega)]
    · rw [pk_un e]
      exact h1 j (by omega)
theorem el_xrun20 {post : Int32 → SX → Prop} {K n : Nat} {P : Nat → Nat} (hK : K ≤ 3) (ham : am = nI K) (hn : il 2 = nI n) (hn6 : n ≤ 6) (hP : ∀ i, i < K → pg i = nI (P i)) (hP2 : ∀ i, P i < 200)
    (h0 : ∀ (i : Nat) (rs' : Int32) (gv' : Nat → Int32), i < K → el_sz n (P i) = 0 → post 0 (ex, lr, qr, wf, am, rs', il, ol, ia, oa, ld, wy, pg, gv'))
    (h1 : ∀ gv' : Nat → Int32, (∀ i, i < K → 0 < el_sz n (P i)) → (∀ j, j < el_su (fun i => el_sz n (P i)) K → gv' j = el_C (fun i => el_sz n (P i)) (fun i x => el_le ia n 2 (P i) x) K j) → post 1 (ex, lr, qr, wf, am, nI (el_su (fun i => el_sz n (P i)) K), il, ol, ia, oa, ld, wy, pg, gv')) :
    ∀ d i (gv1 : Nat → Int32), i + d = K → (∀ j, j < i → 0 < el_sz n (P j)) → (∀ j, j < el_su (fun i => el_sz n (P i)) i → gv1 j = el_C (fun i => el_sz n (P i)) (fun i x => el_le ia n 2 (P i) x) i j) → wX_run_20 post ex lr qr wf am (d + 1) (nI i) (nI (el_su (fun i => el_sz n (P i)) i)) il ol ia oa ld wy pg gv1 := by
  intro d
  induction d with
  | zero =>
    intro i gv1 hi hz hg
    have ei : i = K := by omega
    subst ei
    refine br_t ?_ (h1 gv1 hz hg)
    rw [ham]
    exact nI_le (by omega) (by omega)
  | succ d ih =>
    intro i gv1 hi hz hg
    have z6 := el_sz_le (a := P i) hn6
    have s18 := el_su18 (z := fun i => el_sz n (P i)) (fun j => el_sz_le hn6) (i := i + 1) (by omega)
    rw [el_su_s] at s18
    refine br_f ?_ ?_
    · rw [ham]
      exact nI_ge (by omega) (by omega)
    · refine And.intro (vp_in_nI (by omega) (by decide)) ?_
      rw [nI_clamp (n := i) (by omega), hP i (by omega)]
      refine el_xsize (p := 2) (by omega) (hP2 i) hn hn6 ?_
      by_cases z : el_sz n (P i) = 0
      · refine br_t (by rw [z]; rfl) ?_
        exact h0 i _ _ (by omega) z
      · refine br_f (nI_ne0 (by omega) (by omega)) ⟨el_sz n (P i) + 1, ?_⟩
        refine el_xrun48 (P := P) (C := el_C (fun i => el_sz n (P i)) (fun i x => el_le ia n 2 (P i) x) (i + 1)) (b := el_su (fun i => el_sz n (P i)) i) (by omega) hn hn6 (hP i (by omega)) (hP2 i) s18 (fun x hx => el_C_hi) (fun gv' hg' => ?_) (el_sz n (P i)) 0 gv1 (Nat.zero_add _) (fun j hj => ?_)
        · refine ih (i + 1) gv' (by omega) (fun j hj => ?_) hg'
          by_cases e : j = i
          · rw [e]; omega
          · exact hz j (by omega)
        · rw [hg j (by omega), el_C_lo (by omega)]
end
end
section
/-! the reference's atoms -/
theorem el_yn {n pos : Nat} (h7 : 7 ≤ pos) (hk : pos - 7 ≤ n) : nI n - nI pos + 7 = nI (n - (pos - 7)) := by
  obtain ⟨k, rfl⟩ : ∃ k, pos = k + 7 := ⟨pos - 7, by omega⟩
  obtain ⟨r, rfl⟩ : ∃ r, n = r + k := ⟨n - k, by omega⟩
  rw [show r + k - (k + 7 - 7) = r from by omega, ← nI_add, ← nI_add, show nI 7 = 7 from rfl]
  grind
section
variable {ex fd : Int32} {ia oa il ol md ft rt : Nat → Int32}
theorem el_yplace {post : Int32 → Prop} {pos n : Nat} (hpos : pos < 14) (hn6 : n ≤ 6) (h : post (el_en (el_pl pos n))) : wpY_place post (ex, fd, ia, oa, il, ol, md, ft, rt) (nI pos) (nI n) := by
  by_cases h7 : pos < 7
  · refine br_f (nI_ge (b := 7) h7 (by decide)) ?_
    by_cases hk : pos ≤ n
    · have e : el_pl pos n = some pos := by unfold el_pl; rw [if_pos h7, if_pos hk]
      rw [e] at h
      exact br_f (nI_nlt hk (by omega)) h
    · have e : el_pl pos n = none := by unfold el_pl; rw [if_pos h7, if_neg hk]
      rw [e] at h
      exact br_t (nI_lt (by omega) (by omega)) h
  · have e7 : nI pos - 7 = nI (pos - 7) := pk_sub (b := 7) (by omega)
    refine br_t (nI_le (a := 7) (by omega) (by omega)) ?_
    rw [e7]
    by_cases hk : pos - 7 ≤ n
    · have e : el_pl pos n = some (n - (pos - 7)) := by unfold el_pl; rw [if_neg h7, if_pos hk]
      rw [e] at h
      refine br_f (nI_nlt hk (by omega)) ?_
      rw [el_yn (by omega) hk]
      exact h
    · have e : el_pl pos n = none := by unfold el_pl; rw [if_neg h7, if_neg hk]
      rw [e] at h
      exact br_t (nI_lt (by omega) (by omega)) h
theorem el_ysize {post : Int32 → Prop} {p a n : Nat} (hp : p < 3) (ha : a < 200) (hn : il p = nI n) (hn6 : n ≤ 6) (h : post (nI (el_sz n a))) : wpY_size post (ex, fd, ia, oa, il, ol, md, ft, rt) (nI a) (nI p) := by
  have hi : vp_in (nI p) 3 := vp_in_nI hp (by decide)
  have hc : il (nI p).toNatClampNeg = nI n := by rw [nI_clamp (by omega), hn]
  by_cases h4 : a < 4
  · refine br_f (nI_ge (b := 4) h4 (by decide)) ?_
    rw [el_sz_1 h4] at h
    exact h
  · refine br_t (nI_le (a := 4) (by omega) (by omega)) ?_
    refine And.intro (by decide) (And.intro hi ?_)
    rw [el_sq h4 ha, el_fp h4 ha, hc]
    refine el_yplace (by omega) hn6 ?_
    refine And.intro (by decide) (And.intro hi ?_)
    refine el_yplace (by omega) hn6 ?_
    cases e1 : el_pl ((a - 4) / 14) n with
    | none =>
      rw [el_sz_n1 h4 e1] at h
      exact br_t el_m1lt h
    | some u =>
      have hu := el_pl_le e1
      cases e2 : el_pl ((a - 4) % 14) n with
      | none =>
        rw [el_sz_n2 h4 e1 e2] at h
        exact br_f (nI_pos (by omega)) (br_t (el_m1le (by omega)) h)
      | some v =>
        have hv := el_pl_le e2
        rw [el_sz_s h4 e1 e2] at h
        refine br_f (nI_pos (by omega)) ?_
        by_cases hvu : v ≤ u
        · rw [show v - u = 0 from by omega] at h
          exact br_t (nI_le hvu (by omega)) h
        · refine br_f (nI_ge (by omega) (by omega)) ?_
          show post (nI v - nI u)
          rw [pk_sub (by omega)]
          exact h
theorem el_yletter {post : Int32 → Prop} {p a n i : Nat} (hp : p < 3) (ha : a < 200) (hn : il p = nI n) (hn6 : n ≤ 6) (hi : i < el_sz n a) (h : post (el_le ia n p a i)) : wpY_letter post (ex, fd, ia, oa, il, ol, md, ft, rt) (nI a) (nI p) (nI i) := by
  have hin : vp_in (nI p) 3 := vp_in_nI hp (by decide)
  have hc : il (nI p).toNatClampNeg = nI n := by rw [nI_clamp (by omega), hn]
  by_cases h4 : a < 4
  · refine br_f (nI_ge (b := 4) h4 (by decide)) ?_
    rw [el_le_1 h4] at h
    exact h
  · obtain ⟨q, e1, hq⟩ := el_sz_lt h4 hi
    refine br_t (nI_le (a := 4) (by omega) (by omega)) ?_
    refine And.intro (by decide) (And.intro hin ?_)
    rw [el_fp h4 ha, hc]
    refine el_yplace (by omega) hn6 ?_
    rw [e1]
    refine nm_r (e' := nI (q + i)) (nI_add q i) ?_
    refine br_f (nI_pos (by omega)) (br_f (nI_ge (b := 6) (by omega) (by decide)) ?_)
    have ei : nI p * 6 + nI (q + i) = nI (p * 6 + q + i) := by
      rw [show (6 : Int32) = nI 6 from rfl, pk_mul, nI_add, Nat.add_assoc]
    rw [ei, nI_clamp (by omega)]
    rw [el_le_2 h4 e1] at h
    exact ⟨vp_in_nI (by omega) (by decide), h⟩
theorem el_yafter {post : Int32 → Prop} {p a s : Nat} {ln mn : Nat → Nat} (hp : p < 3) (ha : a < 200) (hs : s < 7) (hl : il p = nI (ln p)) (hl6 : ln p ≤ 6) (hm : ol p = nI (mn p)) (hm6 : mn p ≤ 6) (h : post (el_en (el_af ln mn ia oa p a s))) : wpY_after post (ex, fd, ia, oa, il, ol, md, ft, rt) (nI a) (nI p) (nI s) := by
  have z6 := el_sz_le (a := a) hl6
  unfold wpY_after
  dsimp only
  refine el_ysize hp ha hl hl6 ?_
  by_cases hz : el_sz (ln p) a = 0
  · refine br_t (by rw [hz]; rfl) ?_
    rw [show el_af ln mn ia oa p a s = none from if_neg (fun z => by omega)] at h
    exact h
  · refine br_f (nI_ne0 (by omega) (by omega)) (br_f (nI_pos (by omega)) ⟨vp_in_nI hp (by decide), ?_⟩)
    rw [nI_clamp (by omega), hm, nI_add]
    by_cases hb : s + el_sz (ln p) a ≤ mn p
    · refine br_t (nI_le hb (by omega)) ?_
      have L : ∀ d i, i + d = el_sz (ln p) a → (∀ j, j < i → el_le ia (ln p) p a j = oa (p * 6 + s + j)) → wY_after_35 post (nI a) (nI p) (nI s) (nI (el_sz (ln p) a)) ex fd ia oa il ol md ft rt (d + 1) (nI i) := by
        intro d
        induction d with
        | zero =>
          intro i hi hj
          refine br_t (nI_le (by omega) (by omega)) ?_
          rw [nI_add]
          rw [show el_af ln mn ia oa p a s = some (s + el_sz (ln p) a) from if_pos ⟨by omega, hb, fun j hj' => hj j (by omega)⟩] at h
          exact h
        | succ d ih =>
          intro i hi hj
          refine br_f (nI_ge (by omega) (by omega)) ?_
          refine el_yletter hp ha hl hl6 (by omega) ?_
          show vp_in (nI p * 6 + nI s + nI i) 18 ∧ ((el_le ia (ln p) p a i = oa (nI p * 6 + nI s + nI i).toNatClampNeg → _) ∧ (¬ el_le ia (ln p) p a i = oa (nI p * 6 + nI s + nI i).toNatClampNeg → _))
          rw [el_i6, nI_clamp (by omega)]
          refine ⟨vp_in_nI (by omega) (by decide), br_c (fun e => nm_r (nI_1 i) (ih (i + 1) (by omega) (fun j hj' => ?_))) (fun e => ?_)⟩
          · by_cases ej : j = i
            · rw [ej]; exact e
            · exact hj j (by omega)
          · rw [show el_af ln mn ia oa p a s = none from if_neg (fun z => e (z.2.2 i (by omega)))] at h
            exact h
      exact ⟨_, L _ 0 (Nat.zero_add _) (fun j hj => absurd hj (by omega))⟩
    · refine br_f (nI_ge (by omega) (by omega)) ?_
      rw [show el_af ln mn ia oa p a s = none from if_neg (fun z => hb z.2.1)] at h
      exact h
end
end
section
/-! the reference's search -/
def el_tb (t : Bool) : Int32 := match t with
  | true => 1
  | false => 0
/-- after so many atoms the outputs are made as far as node N says -/
def el_Rp (ct : Nat → Bool) (md : Nat → Int32) (l N : Nat) : Prop := ∀ p, p < 3 → (ct p = true → md (l * 3 + p) = nI (el_co N p)) ∧ (ct p = false → el_co N p = 0)
theorem el_Rp_k {ct : Nat → Bool} {md md' : Nat → Int32} {l N : Nat} (h : el_Rp ct md l N) (hk : ∀ j, j < l * 3 + 3 → md' j = md j) : el_Rp ct md' l N :=
  fun p hp => ⟨fun c => (hk _ (by omega)).trans ((h p hp).1 c), (h p hp).2⟩
theorem el_sp_n {g : Nat → Nat → Nat → Option Nat} {N a p : Nat} (hp : p < 3) (h : g p a (el_co N p) = none) : el_sp g N a = none := by
  have c : p = 0 ∨ p = 1 ∨ p = 2 := by omega
  rcases c with rfl | rfl | rfl
  · exact el_sp_0 h
  · exact el_sp_1 h
  · exact el_sp_2 h
theorem el_i3 (l p : Nat) : nI l * 3 + nI p = nI (l * 3 + p) := by
  rw [show (3 : Int32) = nI 3 from rfl, pk_mul, nI_add]
theorem el_i33 (l p : Nat) : nI l * 3 + 3 + nI p = nI (l * 3 + 3 + p) := by
  rw [show (3 : Int32) = nI 3 from rfl, pk_mul, nI_add, nI_add]
section
variable {ex fd : Int32} {ia oa il ol md ft rt : Nat → Int32}
theorem el_ycounts {post : Int32 → Prop} {p E : Nat} {t : Bool} (hp : p < 3) (hE : E ≤ 2) (he : ex = nI E) (h1 : el_ct E t p = true → post 1) (h0 : el_ct E t p = false → post 0) : wpY_counts post (ex, fd, ia, oa, il, ol, md, ft, rt) (nI p) (el_tb t) := by
  subst he
  by_cases c : p < E
  · exact br_t (nI_lt c (by omega)) (h1 (el_ct_lt c))
  · refine br_f (nI_nlt (by omega) (by omega)) ?_
    by_cases h2 : p = 2
    · subst h2
      refine br_t rfl ?_
      cases t with
      | true => exact br_f (by decide) (h1 el_ct_2)
      | false => exact br_t rfl (h0 (el_ct_f c))
    · exact br_f (fun z => h2 ((nI_eq (b := 2) (by omega) (by decide)).mp z)) (h0 (el_ct_n c h2))
theorem el_yput {post : Int32 → SY → Prop} {l N a E : Nat} {t : Bool} (T : el_Txt ex il ol E) (hl : l < 3) (hN : N < 343) (ha : a < 200) (hR : el_Rp (el_ct E t) md l N)
    (h1 : ∀ (N' : Nat) (md' : Nat → Int32), el_sp (el_gt E t il ol ia oa) N a = some N' → (∀ j, j < l * 3 + 3 → md' j = md j) → el_Rp (el_ct E t) md' (l + 1) N' → post 1 (ex, fd, ia, oa, il, ol, md', ft, rt))
    (h0 : ∀ md' : Nat → Int32, el_sp (el_gt E t il ol ia oa) N a = none → (∀ j, j < l * 3 + 3 → md' j = md j) → post 0 (ex, fd, ia, oa, il, ol, md', ft, rt)) : wpY_put post (ex, fd, ia, oa, il, ol, md, ft, rt) (nI a) (nI l) (el_tb t) := by
  have hg : el_gr (el_gt E t il ol ia oa) := el_gtr T
  have L : ∀ d p (md1 : Nat → Int32), p + d = 3 → (∀ j, j < l * 3 + 3 → md1 j = md j) → (∀ q, q < p → ∃ u, el_gt E t il ol ia oa q a (el_co N q) = some u ∧ (el_ct E t q = true → md1 (l * 3 + 3 + q) = nI u)) → wY_put_3 post (nI a) (nI l) (el_tb t) ex fd (d + 1) (nI p) ia oa il ol md1 ft rt := by
    intro d
    induction d with
    | zero =>
      intro p md1 hp hk hq
      refine br_t (nI_le (a := 3) (by omega) (by omega)) ?_
      obtain ⟨x, gx, mx⟩ := hq 0 (by omega)
      obtain ⟨y, gy, my⟩ := hq 1 (by omega)
      obtain ⟨z, gz, mz⟩ := hq 2 (by omega)
      have x7 := (hg _ _ _ _ (by omega) (el_co_lt hN) gx).2
      have y7 := (hg _ _ _ _ (by omega) (el_co_lt hN) gy).2
      have z7 := (hg _ _ _ _ (by omega) (el_co_lt hN) gz).2
      obtain ⟨d0, d1, d2, d3⟩ := el_dig x7 y7 z7
      refine h1 (x + 7 * y + 49 * z) md1 (el_sp_s gx gy gz) hk (fun r hr => ?_)
      have c : r = 0 ∨ r = 1 ∨ r = 2 := by omega
      rcases c with rfl | rfl | rfl
      · have e0 : el_co (x + 7 * y + 49 * z) 0 = x := d0
        rw [e0]
        refine ⟨fun c => ?_, fun c => ?_⟩
        · rw [← mx c]; exact congrArg md1 (by omega)
        · have e : el_gt E t il ol ia oa 0 a (el_co N 0) = some (el_co N 0) := el_g_f c
          rw [e] at gx
          rw [← Option.some.inj gx]
          exact (hR 0 (by omega)).2 c
      · have e0 : el_co (x + 7 * y + 49 * z) 1 = y := d1
        rw [e0]
        refine ⟨fun c => ?_, fun c => ?_⟩
        · rw [← my c]; exact congrArg md1 (by omega)
        · have e : el_gt E t il ol ia oa 1 a (el_co N 1) = some (el_co N 1) := el_g_f c
          rw [e] at gy
          rw [← Option.some.inj gy]
          exact (hR 1 (by omega)).2 c
      · have e0 : el_co (x + 7 * y + 49 * z) 2 = z := d2
        rw [e0]
        refine ⟨fun c => ?_, fun c => ?_⟩
        · rw [← mz c]; exact congrArg md1 (by omega)
        · have e : el_gt E t il ol ia oa 2 a (el_co N 2) = some (el_co N 2) := el_g_f c
          rw [e] at gz
          rw [← Option.some.inj gz]
          exact (hR 2 (by omega)).2 c
    | succ d ih =>
      intro p md1 hp hk hq
      have hc7 := el_co_lt (p := p) hN
      refine br_f (nI_ge (b := 3) (by omega) (by decide)) ?_
      refine el_ycounts (t := t) (by omega) T.1 T.2.1 (fun c => ?_) (fun c => ?_)
      · refine br_f (by decide) ?_
        rw [el_i3, nI_clamp (by omega), hk _ (by omega), (hR p (by omega)).1 c]
        refine And.intro (vp_in_nI (by omega) (by decide)) ?_
        refine el_yafter (ln := el_cl il) (mn := el_cl ol) (by omega) ha hc7 (T.2.2.1 p (by omega)).1 (T.2.2.1 p (by omega)).2 (T.2.2.2 p (by omega)).1 (T.2.2.2 p (by omega)).2 ?_
        cases e : el_af (el_cl il) (el_cl ol) ia oa p a (el_co N p) with
        | none =>
          refine br_f (by decide) (h0 md1 (el_sp_n (by omega : p < 3) ?_) hk)
          exact (el_g_t c).trans e
        | some u =>
          have hu := el_af_r e
          have hm6 := (T.2.2.2 p (by omega)).2
          refine br_t (nI_pos' (by omega)) ?_
          rw [el_i33, nI_clamp (by omega)]
          refine And.intro (vp_in_nI (by omega) (by decide)) (nm_e (nm_r (nI_1 p) (ih (p + 1) _ (by omega) (fun j hj => ?_) (fun q hq' => ?_))))
          · rw [pk_un (by omega)]
            exact hk j hj
          · by_cases eq : q = p
            · refine ⟨u, ?_, fun _ => ?_⟩
              · rw [eq]; exact (el_g_t c).trans e
              · rw [eq, pk_us]; rfl
            · obtain ⟨v, g1, m1⟩ := hq q (by omega)
              exact ⟨v, g1, fun c' => by rw [pk_un (by omega)]; exact m1 c'⟩
      · refine br_t rfl (nm_r (nI_1 p) (ih (p + 1) md1 (by omega) hk (fun q hq' => ?_)))
        by_cases eq : q = p
        · refine ⟨el_co N p, ?_, fun c' => ?_⟩
          · rw [eq]; exact el_g_f c
          · rw [eq, c] at c'; exact absurd c' (by decide)
        · exact hq q (by omega)
  exact ⟨_, L 3 0 md rfl (fun _ _ => rfl) (fun q hq => absurd hq (by omega))⟩
theorem el_ywhole {post : Int32 → Prop} {l N E : Nat} {t : Bool} (T : el_Txt ex il ol E) (hl : l < 4) (hN : N < 343) (hR : el_Rp (el_ct E t) md l N) (h1 : N = el_lt E t ol → post 1) (h0 : ¬ N = el_lt E t ol → post 0) : wpY_whole post (ex, fd, ia, oa, il, ol, md, ft, rt) (nI l) (el_tb t) := by
  have hL := (el_last_c (t := t) T.1 (fun p hp => (T.2.2.2 p hp).2)).2
  have L : ∀ d p, p + d = 3 → (∀ q, q < p → el_co N q = el_co (el_lt E t ol) q) → wY_whole_2 post (nI l) (el_tb t) ex fd ia oa il ol md ft rt (d + 1) (nI p) := by
    intro d
    induction d with
    | zero =>
      intro p hp hq
      exact br_t (nI_le (a := 3) (by omega) (by omega)) (h1 (el_co_e (fun q hq' => hq q (by omega))))
    | succ d ih =>
      intro p hp hq
      have hLp := hL p (by omega)
      refine br_f (nI_ge (b := 3) (by omega) (by decide)) ?_
      refine el_ycounts (t := t) (by omega) T.1 T.2.1 (fun c => ?_) (fun c => ?_)
      · have hc7 := el_co_lt (p := p) hN
        obtain ⟨o1, o2⟩ := T.2.2.2 p (by omega)
        rw [if_pos c] at hLp
        refine br_f (by decide) ?_
        rw [el_i3, nI_clamp (by omega), nI_clamp (by omega), (hR p (by omega)).1 c, o1]
        refine And.intro (vp_in_nI (by omega) (by decide)) (And.intro (vp_in_nI (by omega) (by decide)) ?_)
        by_cases e : el_co N p = el_cl ol p
        · refine br_t (by rw [e]) (nm_r (nI_1 p) (ih (p + 1) (by omega) (fun q hq' => ?_)))
          by_cases eq : q = p
          · rw [eq]; exact e.trans hLp.symm
          · exact hq q (by omega)
        · refine br_f (fun z => e ((nI_eq (by omega) (by omega)).mp z)) (h0 (fun z => e ?_))
          rw [z]; exact hLp
      · rw [if_neg (by rw [c]; decide)] at hLp
        refine br_t rfl (nm_r (nI_1 p) (ih (p + 1) (by omega) (fun q hq' => ?_)))
        by_cases eq : q = p
        · rw [eq]; exact ((hR p (by omega)).2 c).trans hLp.symm
        · exact hq q (by omega)
  exact ⟨_, L 3 0 rfl (fun q hq => absurd hq (by omega))⟩
theorem el_ynote {post : SY → Prop} {a b c : Int32} (h : ∀ (fd' : Int32) (ft' : Nat → Int32), el_Sub 1 (fun f => f 0 = a ∧ f 1 = b ∧ f 2 = c) fd ft fd' ft' → post (ex, fd', ia, oa, il, ol, md, ft', rt)) : wpY_note post (ex, fd, ia, oa, il, ol, md, ft, rt) a b c := by
  refine br_c (fun e => nm_e (nm_e (nm_e (h 1 _ ⟨fun z => absurd e z, fun _ => ⟨fun z => absurd z (by omega), fun _ => ⟨by decide, ?_, ?_, ?_⟩⟩⟩)))) (fun e => h fd ft ⟨fun _ => ⟨rfl, rfl⟩, fun z => absurd z e⟩)
  · rw [pk_un (by omega), pk_un (by omega), pk_us]
  · rw [pk_un (by omega), pk_us]
  · rw [pk_us]
theorem el_ythirds {post : Int32 → SY → Prop} {a b : Int32} {N E : Nat} {t : Bool} (T : el_Txt ex il ol E) (hN : N < 343) (hR : el_Rp (el_ct E t) md 2 N)
    (h : ∀ (fd' : Int32) (md' ft' : Nat → Int32), (∀ j, j < 9 → md' j = md j) → el_Sub (el_W (el_gt E t il ol ia oa) (el_lt E t ol) 1 N) (fun f => (f 0 = a ∧ f 1 = b) ∧ el_GF (el_gt E t il ol ia oa) (el_lt E t ol) 1 N 2 f) fd ft fd' ft' → post (nI (el_W (el_gt E t il ol ia oa) (el_lt E t ol) 1 N)) (ex, fd', ia, oa, il, ol, md', ft', rt)) : wpY_thirds post (ex, fd, ia, oa, il, ol, md, ft, rt) a b (el_tb t) := by
  have hg : el_gr (el_gt E t il ol ia oa) := el_gtr T
  have L : ∀ d c (fd1 : Int32) (md1 ft1 : Nat → Int32), c + d = 200 → (∀ j, j < 9 → md1 j = md j) → el_Sub (el_su (el_q (el_gt E t il ol ia oa) (el_lt E t ol) 0 N) c) (el_Nt (el_q (el_gt E t il ol ia oa) (el_lt E t ol) 0 N) (fun c f => (f 0 = a ∧ f 1 = b) ∧ f 2 = nI c ∧ ∀ N', el_sp (el_gt E t il ol ia oa) N c = some N' → el_GF (el_gt E t il ol ia oa) (el_lt E t ol) 0 N' (2 + 1) f) c) fd ft fd1 ft1 → wY_thirds_6 post a b (el_tb t) (d + 1) (nI (el_su (el_q (el_gt E t il ol ia oa) (el_lt E t ol) 0 N) c)) (nI c) ex fd1 ia oa il ol md1 ft1 rt := by
    intro d
    induction d with
    | zero =>
      intro c fd1 md1 ft1 hc hm hS
      have ec : c = 200 := by omega
      subst ec
      exact br_t (nI_le (a := 200) (by omega) (by omega)) (h fd1 md1 ft1 hm (el_Sub_w hS (fun _ f hf => el_GF_mk hf)))
    | succ d ih =>
      intro c fd1 md1 ft1 hc hm hS
      have ihz : ∀ md' : Nat → Int32, (∀ j, j < 9 → md' j = md1 j) → el_q (el_gt E t il ol ia oa) (el_lt E t ol) 0 N c = 0 → wY_thirds_6 post a b (el_tb t) (d + 1) (nI (el_su (el_q (el_gt E t il ol ia oa) (el_lt E t ol) 0 N) c)) (nI (c + 1)) ex fd1 ia oa il ol md' ft1 rt := by
        intro md' hm' hq
        have i1 := ih (c + 1) fd1 md' ft1 (by omega) (fun j hj => (hm' j hj).trans (hm j hj)) (el_Sub_s hS (by rw [hq]; exact el_Sub_0))
        rw [el_su_s, hq, Nat.add_zero] at i1
        exact i1
      refine br_f (nI_ge (b := 200) (by omega) (by decide)) ?_
      refine el_yput (l := 2) T (by omega) hN (by omega) (el_Rp_k hR hm) (fun N' md' e hm' hR' => ?_) (fun md' e hm' => ?_)
      · refine br_f (by decide) ?_
        refine el_ywhole (l := 3) T (by omega) (el_sp_r hg hN e).1 hR' (fun en => ?_) (fun en => ?_)
        · refine br_f (by decide) ?_
          refine el_ynote (fun fd' ft' hS' => ?_)
          have hq : el_q (el_gt E t il ol ia oa) (el_lt E t ol) 0 N c = 1 := by rw [el_q_s e, en, el_W_0]
          refine nm_r (e' := nI (el_su (el_q (el_gt E t il ol ia oa) (el_lt E t ol) 0 N) (c + 1))) (by rw [el_su_s, hq, nI_1]) (nm_r (nI_1 c) ?_)
          refine ih (c + 1) fd' md' ft' (by omega) (fun j hj => (hm' j hj).trans (hm j hj)) (el_Sub_s hS ?_)
          rw [hq]
          exact el_Sub_w hS' (fun _ f hf => ⟨⟨hf.1, hf.2.1⟩, hf.2.2, fun _ _ => trivial⟩)
        · refine br_t rfl (nm_r (nI_1 c) (ihz md' hm' ?_))
          rw [el_q_s e, el_W_0n en]
      · exact br_t rfl (nm_r (nI_1 c) (ihz md' hm' (el_q_n e)))
  exact ⟨_, L 200 0 fd md ft rfl (fun _ _ => rfl) el_Sub_0⟩
theorem el_yseconds {post : Int32 → SY → Prop} {a : Int32} {k N E : Nat} {t : Bool} (T : el_Txt ex il ol E) (hk : k < 2) (hN : N < 343) (hR : el_Rp (el_ct E t) md 1 N)
    (h : ∀ (fd' : Int32) (md' ft' : Nat → Int32), (∀ j, j < 6 → md' j = md j) → el_Sub (el_W (el_gt E t il ol ia oa) (el_lt E t ol) (k + 1) N) (fun f => f 0 = a ∧ el_GF (el_gt E t il ol ia oa) (el_lt E t ol) (k + 1) N 1 f) fd ft fd' ft' → post (nI (el_W (el_gt E t il ol ia oa) (el_lt E t ol) (k + 1) N)) (ex, fd', ia, oa, il, ol, md', ft', rt)) : wpY_seconds post (ex, fd, ia, oa, il, ol, md, ft, rt) a (nI (k + 2)) (el_tb t) := by
  have hg : el_gr (el_gt E t il ol ia oa) := el_gtr T
  have L : ∀ d c (fd1 : Int32) (md1 ft1 : Nat → Int32), c + d = 200 → (∀ j, j < 6 → md1 j = md j) → el_Sub (el_su (el_q (el_gt E t il ol ia oa) (el_lt E t ol) k N) c) (el_Nt (el_q (el_gt E t il ol ia oa) (el_lt E t ol) k N) (fun c f => f 0 = a ∧ f 1 = nI c ∧ ∀ N', el_sp (el_gt E t il ol ia oa) N c = some N' → el_GF (el_gt E t il ol ia oa) (el_lt E t ol) k N' (1 + 1) f) c) fd ft fd1 ft1 → wY_seconds_6 post a (nI (k + 2)) (el_tb t) (d + 1) (nI (el_su (el_q (el_gt E t il ol ia oa) (el_lt E t ol) k N) c)) (nI c) ex fd1 ia oa il ol md1 ft1 rt := by
    intro d
    induction d with
    | zero =>
      intro c fd1 md1 ft1 hc hm hS
      have ec : c = 200 := by omega
      subst ec
      exact br_t (nI_le (a := 200) (by omega) (by omega)) (h fd1 md1 ft1 hm (el_Sub_w hS (fun _ f hf => el_GF_mk hf)))
    | succ d ih =>
      intro c fd1 md1 ft1 hc hm hS
      have ihz : ∀ md' : Nat → Int32, (∀ j, j < 6 → md' j = md1 j) → el_q (el_gt E t il ol ia oa) (el_lt E t ol) k N c = 0 → wY_seconds_6 post a (nI (k + 2)) (el_tb t) (d + 1) (nI (el_su (el_q (el_gt E t il ol ia oa) (el_lt E t ol) k N) c)) (nI (c + 1)) ex fd1 ia oa il ol md' ft1 rt := by
        intro md' hm' hq
        have i1 := ih (c + 1) fd1 md' ft1 (by omega) (fun j hj => (hm' j hj).trans (hm j hj)) (el_Sub_s hS (by rw [hq]; exact el_Sub_0))
        rw [el_su_s, hq, Nat.add_zero] at i1
        exact i1
      refine br_f (nI_ge (b := 200) (by omega) (by decide)) ?_
      refine el_yput (l := 1) T (by omega) hN (by omega) (el_Rp_k hR hm) (fun N' md' e hm' hR' => ?_) (fun md' e hm' => ?_)
      · have hN' := (el_sp_r hg hN e).1
        refine br_f (by decide) ?_
        by_cases k1 : k = 1
        · subst k1
          refine br_t rfl ?_
          refine el_ythirds T hN' hR' (fun fd' md2 ft' hm2 hS' => ?_)
          refine nm_r (e' := nI (el_su (el_q (el_gt E t il ol ia oa) (el_lt E t ol) 1 N) (c + 1))) (by rw [el_su_s, el_q_s e, nI_add]) (nm_r (nI_1 c) ?_)
          refine ih (c + 1) fd' md2 ft' (by omega) (fun j hj => ((hm2 j (by omega)).trans (hm' j hj)).trans (hm j hj)) (el_Sub_s hS ?_)
          rw [el_q_s e]
          refine el_Sub_w hS' (fun _ f hf => ⟨hf.1.1, hf.1.2, fun N2 e2 => ?_⟩)
          rw [e] at e2
          rw [← Option.some.inj e2]
          exact hf.2
        · have k0 : k = 0 := by omega
          subst k0
          refine br_f (by decide) ?_
          refine el_ywhole (l := 2) T (by omega) hN' hR' (fun en => ?_) (fun en => ?_)
          · refine br_f (by decide) ?_
            refine el_ynote (fun fd' ft' hS' => ?_)
            have hq : el_q (el_gt E t il ol ia oa) (el_lt E t ol) 0 N c = 1 := by rw [el_q_s e, en, el_W_0]
            refine nm_r (e' := nI (el_su (el_q (el_gt E t il ol ia oa) (el_lt E t ol) 0 N) (c + 1))) (by rw [el_su_s, hq, nI_1]) (nm_r (nI_1 c) ?_)
            refine ih (c + 1) fd' md' ft' (by omega) (fun j hj => (hm' j hj).trans (hm j hj)) (el_Sub_s hS ?_)
            rw [hq]
            exact el_Sub_w hS' (fun _ f hf => ⟨hf.1, hf.2.1, fun _ _ => trivial⟩)
          · refine br_t rfl (nm_r (nI_1 c) (ihz md' hm' ?_))
            rw [el_q_s e, el_W_0n en]
      · exact br_t rfl (nm_r (nI_1 c) (ihz md' hm' (el_q_n e)))
  exact ⟨_, L 200 0 fd md ft rfl (fun _ _ => rfl) el_Sub_0⟩
theorem el_ysearch91 {post : Int32 → SY → Prop} {k E : Nat} {t : Bool} (T : el_Txt ex il ol E) (hk : k < 3) (hR : el_Rp (el_ct E t) md 0 0)
    (h : ∀ (fd' : Int32) (md' ft' : Nat → Int32), el_Sub (el_w E t il ol ia oa (k + 1)) (el_GF (el_gt E t il ol ia oa) (el_lt E t ol) (k + 1) 0 0) fd ft fd' ft' → post (nI (el_w E t il ol ia oa (k + 1))) (ex, fd', ia, oa, il, ol, md', ft', rt)) : ∃ n, wY_search_91 post (nI (k + 1)) (el_tb t) n 0 0 ex fd ia oa il ol md ft rt := by
  have hg : el_gr (el_gt E t il ol ia oa) := el_gtr T
  have L : ∀ d c (fd1 : Int32) (md1 ft1 : Nat → Int32), c + d = 200 → (∀ j, j < 3 → md1 j = md j) → el_Sub (el_su (el_q (el_gt E t il ol ia oa) (el_lt E t ol) k 0) c) (el_Nt (el_q (el_gt E t il ol ia oa) (el_lt E t ol) k 0) (fun c f => True ∧ f 0 = nI c ∧ ∀ N', el_sp (el_gt E t il ol ia oa) 0 c = some N' → el_GF (el_gt E t il ol ia oa) (el_lt E t ol) k N' (0 + 1) f) c) fd ft fd1 ft1 → wY_search_91 post (nI (k + 1)) (el_tb t) (d + 1) (nI (el_su (el_q (el_gt E t il ol ia oa) (el_lt E t ol) k 0) c)) (nI c) ex fd1 ia oa il ol md1 ft1 rt := by
    intro d
    induction d with
    | zero =>
      intro c fd1 md1 ft1 hc hm hS
      have ec : c = 200 := by omega
      subst ec
      exact br_t (nI_le (a := 200) (by omega) (by omega)) (h fd1 md1 ft1 (el_Sub_w hS (fun _ f hf => (el_GF_mk (pre := fun _ => True) hf).2)))
    | succ d ih =>
      intro c fd1 md1 ft1 hc hm hS
      have ihz : ∀ md' : Nat → Int32, (∀ j, j < 3 → md' j = md1 j) → el_q (el_gt E t il ol ia oa) (el_lt E t ol) k 0 c = 0 → wY_search_91 post (nI (k + 1)) (el_tb t) (d + 1) (nI (el_su (el_q (el_gt E t il ol ia oa) (el_lt E t ol) k 0) c)) (nI (c + 1)) ex fd1 ia oa il ol md' ft1 rt := by
        intro md' hm' hq
        have i1 := ih (c + 1) fd1 md' ft1 (by omega) (fun j hj => (hm' j hj).trans (hm j hj)) (el_Sub_s hS (by rw [hq]; exact el_Sub_0))
        rw [el_su_s, hq, Nat.add_zero] at i1
        exact i1
      refine br_f (nI_ge (b := 200) (by omega) (by decide)) ?_
      refine el_yput (l := 0) (N := 0) T (by omega) (by omega) (by omega) (el_Rp_k hR hm) (fun N' md' e hm' hR' => ?_) (fun md' e hm' => ?_)
      · have hN' := (el_sp_r hg (by omega) e).1
        refine br_f (by decide) ?_
        by_cases k0 : k = 0
        · subst k0
          refine br_t (by decide) ?_
          refine el_ywhole (l := 1) T (by omega) hN' hR' (fun en => ?_) (fun en => ?_)
          · refine br_f (by decide) ?_
            refine el_ynote (fun fd' ft' hS' => ?_)
            have hq : el_q (el_gt E t il ol ia oa) (el_lt E t ol) 0 0 c = 1 := by rw [el_q_s e, en, el_W_0]
            refine nm_r (e' := nI (el_su (el_q (el_gt E t il ol ia oa) (el_lt E t ol) 0 0) (c + 1))) (by rw [el_su_s, hq, nI_1]) (nm_r (nI_1 c) ?_)
            refine ih (c + 1) fd' md' ft' (by omega) (fun j hj => (hm' j hj).trans (hm j hj)) (el_Sub_s hS ?_)
            rw [hq]
            exact el_Sub_w hS' (fun _ f hf => ⟨trivial, hf.1, fun _ _ => trivial⟩)
          · refine br_t rfl (nm_r (nI_1 c) (ihz md' hm' ?_))
            rw [el_q_s e, el_W_0n en]
        · obtain ⟨k', rfl⟩ : ∃ k', k = k' + 1 := ⟨k - 1, by omega⟩
          refine br_f (nI_ge (a := 1) (by omega) (by omega)) ?_
          refine el_yseconds (k := k') T (by omega) hN' hR' (fun fd' md2 ft' hm2 hS' => ?_)
          refine nm_r (e' := nI (el_su (el_q (el_gt E t il ol ia oa) (el_lt E t ol) (k' + 1) 0) (c + 1))) (by rw [el_su_s, el_q_s e, nI_add]) (nm_r (nI_1 c) ?_)
          refine ih (c + 1) fd' md2 ft' (by omega) (fun j hj => ((hm2 j (by omega)).trans (hm' j hj)).trans (hm j hj)) (el_Sub_s hS ?_)
          rw [el_q_s e]
          refine el_Sub_w hS' (fun _ f hf => ⟨trivial, hf.1, fun N2 e2 => ?_⟩)
          rw [e] at e2
          rw [← Option.some.inj e2]
          exact hf.2
      · exact br_t rfl (nm_r (nI_1 c) (ihz md' hm' (el_q_n e)))
  exact ⟨_, L 200 0 fd md ft rfl (fun _ _ => rfl) el_Sub_0⟩
end
end
section
/-! the reference: no example and nothing typed; the search; the least count; the result -/
theorem el_free_sp {ct : Nat → Bool} {af : Nat → Nat → Nat → Option Nat} (h : ∀ p, p < 3 → ct p = false) (N a : Nat) : el_sp (el_g ct af) N a = some N := by
  rw [el_sp_s (el_g_f (h 0 (by omega))) (el_g_f (h 1 (by omega))) (el_g_f (h 2 (by omega)))]
  exact congrArg some (by omega)
theorem el_free_W {ct : Nat → Bool} {af : Nat → Nat → Nat → Option Nat} (h : ∀ p, p < 3 → ct p = false) (l : Nat) : ∀ k, el_W (el_g ct af) l k l = 200 ^ k := by
  intro k
  induction k with
  | zero => exact el_W_0
  | succ k ih =>
    have e : el_q (el_g ct af) l k l = fun _ => 200 ^ k := by
      funext a
      rw [el_q_s (el_free_sp h l a), ih]
    rw [el_W_s, e, el_su_c, Nat.pow_succ, Nat.mul_comm]
theorem el_free_GF {ct : Nat → Bool} {af : Nat → Nat → Nat → Option Nat} (h : ∀ p, p < 3 → ct p = false) (l : Nat) {f : Nat → Int32} : ∀ k i, (∀ j, j < k → f (i + j) = 0) → el_GF (el_g ct af) l k l i f := by
  intro k
  induction k with
  | zero => intro i _; trivial
  | succ k ih =>
    intro i hf
    refine ⟨0, l, by omega, ⟨?_, fun j hj => absurd hj (by omega)⟩, el_free_sp h l 0, hf 0 (by omega), ih (i + 1) (fun j hj => ?_)⟩
    · rw [el_q_s (el_free_sp h l 0), el_free_W h]
      exact Nat.pow_pos (by omega)
    · rw [show i + 1 + j = i + (j + 1) from by omega]
      exact hf (j + 1) (by omega)
section
variable {ex fd : Int32} {ia oa il ol md ft rt : Nat → Int32}
theorem el_ysearch65 {post : Int32 → SY → Prop} {k E : Nat} {t : Bool} (T : el_Txt ex il ol E) (hk : k < 3)
    (h : ∀ (fd' : Int32) (md' ft' : Nat → Int32), (0 < el_w E t il ol ia oa (k + 1) → el_GF (el_gt E t il ol ia oa) (el_lt E t ol) (k + 1) 0 0 ft') → post (nI (el_w E t il ol ia oa (k + 1))) (ex, fd', ia, oa, il, ol, md', ft', rt)) : wY_search_65 post (nI (k + 1)) (el_tb t) ex 0 ia oa il ol md ft rt := by
  refine nm_e (nm_e (nm_e ?_))
  refine el_ysearch91 (fd := 0) T hk (fun p hp => ⟨fun _ => ?_, fun _ => ?_⟩) (fun fd' md' ft' hS => h fd' md' ft' (fun z => ((hS.2 rfl).2 z).2))
  · have c : p = 0 ∨ p = 1 ∨ p = 2 := by omega
    rcases c with rfl | rfl | rfl
    · rw [pk_un (by omega), pk_un (by omega), pk_us]; rfl
    · rw [pk_un (by omega), pk_us]; rfl
    · rw [pk_us]; rfl
  · have c : p = 0 ∨ p = 1 ∨ p = 2 := by omega
    rcases c with rfl | rfl | rfl <;> rfl
theorem el_ysearch {post : Int32 → SY → Prop} {k E : Nat} (t : Bool) (T : el_Txt ex il ol E) (hk : k < 3)
    (h : ∀ (fd' : Int32) (md' ft' : Nat → Int32), (0 < el_w E t il ol ia oa (k + 1) → el_GF (el_gt E t il ol ia oa) (el_lt E t ol) (k + 1) 0 0 ft') → post (nI (el_w E t il ol ia oa (k + 1))) (ex, fd', ia, oa, il, ol, md', ft', rt)) : wpY_search post (ex, fd, ia, oa, il, ol, md, ft, rt) (nI (k + 1)) (el_tb t) := by
  by_cases hE : E = 0
  · subst hE
    refine br_t T.2.1 ?_
    cases t with
    | true => exact br_f (by decide) (el_ysearch65 (t := true) T hk h)
    | false =>
      refine br_t rfl ?_
      have hc : ∀ p, p < 3 → el_ct 0 false p = false := fun p _ => el_ct_f (by omega)
      have hl : el_lt 0 false ol = 0 := rfl
      have hW : el_w 0 false il ol ia oa (k + 1) = 200 ^ (k + 1) := el_free_W hc 0 (k + 1)
      rw [hW] at h
      have N : ∀ (z1 z0 : Int32), (0 < k → z1 = 0) → (1 < k → z0 = 0) → wY_search_38 post (nI (k + 1)) z0 z1 0 ex 0 ia oa il ol md ft rt := by
        intro z1 z0 h1 h0
        refine el_ynote (fun fd' ft' hS => ?_)
        obtain ⟨_, f0, f1, f2⟩ := (hS.2 rfl).2 (by omega)
        have hG := h fd' md ft' (fun _ => el_free_GF hc 0 (k + 1) 0 (fun j hj => ?_))
        · have c : k = 0 ∨ k = 1 ∨ k = 2 := by omega
          rcases c with rfl | rfl | rfl
          · exact br_t rfl hG
          · exact br_f (by decide) (br_t rfl hG)
          · exact br_f (by decide) (br_f (by decide) hG)
        · have c : j = 0 ∨ j = 1 ∨ j = 2 := by omega
          rcases c with rfl | rfl | rfl
          · exact f0
          · exact f1.trans (h1 (by omega))
          · exact f2.trans (h0 (by omega))
      have M : ∀ z1 : Int32, (0 < k → z1 = 0) → wY_search_28 post (nI (k + 1)) z1 0 ex 0 ia oa il ol md ft rt := by
        intro z1 h1
        by_cases k2 : k + 1 ≤ 2
        · exact br_t (nI_le (b := 2) k2 (by omega)) (N z1 (-1) h1 (fun z => absurd z (by omega)))
        · exact br_f (nI_ge (a := 2) (by omega) (by omega)) (N z1 0 h1 (fun _ => rfl))
      by_cases k1 : k + 1 ≤ 1
      · exact br_t (nI_le (b := 1) k1 (by omega)) (M (-1) (fun z => absurd z (by omega)))
      · exact br_f (nI_ge (a := 1) (by omega) (by omega)) (M 0 (fun _ => rfl))
  · refine br_f ?_ (el_ysearch65 T hk h)
    rw [T.2.1]
    exact nI_ne0 (by omega) (by have := T.1; omega)
/-- the least count as the reference writes it -/
def el_ya (c : Nat) : Int32 := if c = 0 then -3 else nI c
theorem el_yleast {post : Int32 → SY → Prop} {E : Nat} (T : el_Txt ex il ol E)
    (h : ∀ (fd' : Int32) (md' ft' : Nat → Int32), el_GF (el_gt E false il ol ia oa) (el_lt E false ol) (el_lc (el_w E false il ol ia oa)) 0 0 ft' → post (el_ya (el_lc (el_w E false il ol ia oa))) (ex, fd', ia, oa, il, ol, md', ft', rt)) : wpY_least post (ex, fd, ia, oa, il, ol, md, ft, rt) := by
  have S : ∀ n k (fd1 : Int32) (md1 ft1 : Nat → Int32), k < 3 →
      (0 < el_w E false il ol ia oa (k + 1) → ∀ (fd' : Int32) (md' ft' : Nat → Int32), el_GF (el_gt E false il ol ia oa) (el_lt E false ol) (k + 1) 0 0 ft' → post (nI (k + 1)) (ex, fd', ia, oa, il, ol, md', ft', rt)) →
      (¬ 0 < el_w E false il ol ia oa (k + 1) → ∀ (fd' : Int32) (md' ft' : Nat → Int32), wY_least_2 post n (nI (k + 2)) ex fd' ia oa il ol md' ft' rt) → wY_least_2 post (n + 1) (nI (k + 1)) ex fd1 ia oa il ol md1 ft1 rt := by
    intro n k fd1 md1 ft1 hk a b
    refine br_f (nI_ge (b := 4) (by omega) (by decide)) ?_
    refine el_ysearch false T hk (fun fd' md' ft' hG => ?_)
    by_cases z : 0 < el_w E false il ol ia oa (k + 1)
    · exact br_f (nI_nle z (el_W_lt (by omega))) (a z fd' md' ft' (hG z))
    · refine br_t ?_ (nm_r (nI_1 (k + 1)) (b z fd' md' ft'))
      rw [show el_w E false il ol ia oa (k + 1) = 0 from by omega]
      decide
  refine ⟨4, ?_⟩
  refine S 3 0 fd md ft (by omega) (fun w1 fd' md' ft' hG => ?_) (fun w1 fd1 md1 ft1 => ?_)
  · have e : el_lc (el_w E false il ol ia oa) = 1 := if_pos w1
    rw [e] at h
    exact h fd' md' ft' hG
  refine S 2 1 fd1 md1 ft1 (by omega) (fun w2 fd' md' ft' hG => ?_) (fun w2 fd1 md1 ft1 => ?_)
  · have e : el_lc (el_w E false il ol ia oa) = 2 := (if_neg w1).trans (if_pos w2)
    rw [e] at h
    exact h fd' md' ft' hG
  refine S 1 2 fd1 md1 ft1 (by omega) (fun w3 fd' md' ft' hG => ?_) (fun w3 fd1 md1 ft1 => ?_)
  · have e : el_lc (el_w E false il ol ia oa) = 3 := (if_neg w1).trans ((if_neg w2).trans (if_pos w3))
    rw [e] at h
    exact h fd' md' ft' hG
  have e : el_lc (el_w E false il ol ia oa) = 0 := (if_neg w1).trans ((if_neg w2).trans (if_neg w3))
  rw [e] at h
  exact br_t (nI_le (a := 4) (b := 4) (by omega) (by omega)) (h fd1 md1 ft1 trivial)
theorem el_ymake45 {post : Int32 → SY → Prop} {J : Int32 → Int32 → (Nat → Int32) → (Nat → Int32) → (Nat → Int32) → (Nat → Int32) → (Nat → Int32) → (Nat → Int32) → (Nat → Int32) → Prop} {x1 : Int32} {i n : Nat} {P : Nat → Nat} {C : Nat → Int32} {b : Nat} (hi : i < 3) (hn : il 2 = nI n) (hn6 : n ≤ 6) (hP : ft i = nI (P i)) (hP2 : P i < 200) (hb : b + el_sz n (P i) ≤ 18) (hC : ∀ x, x < el_sz n (P i) → C (b + x) = el_le ia n 2 (P i) x)
    (hJ : ∀ rt' : Nat → Int32, (∀ j, j < b + el_sz n (P i) → rt' j = C j) → J (nI (b + el_sz n (P i))) (nI (i + 1)) ia oa il ol md ft rt') :
    ∀ d x (rt1 : Nat → Int32), x + d = el_sz n (P i) → (∀ j, j < b + x → rt1 j = C j) → wY_make_45 post J x1 (nI i) (nI (el_sz n (P i))) ex fd (d + 1) (nI (b + x)) (nI x) ia oa il ol md ft rt1 := by
  intro d
  have z6 := el_sz_le (a := P i) hn6
  induction d with
  | zero =>
    intro x rt1 hx h1
    have ex' : x = el_sz n (P i) := by omega
    subst ex'
    exact br_t (nI_le (by omega) (by omega)) (nm_r (nI_1 i) (hJ rt1 h1))
  | succ d ih =>
    intro x rt1 hx h1
    refine br_f (nI_ge (by omega) (by omega)) (br_f (nI_ge (b := 18) (by omega) (by decide)) ⟨vp_in_nI hi (by decide), ?_⟩)
    rw [nI_clamp (n := i) (by omega), hP]
    refine el_yletter (p := 2) (by omega) hP2 hn hn6 (by omega) ?_
    refine And.intro (vp_in_nI (by omega) (by decide)) (nm_r (by rw [nI_clamp (by omega)]) (nm_r (nI_1 _) (nm_r (nI_1 x) ?_)))
    refine ih (x + 1) _ (by omega) (fun j hj => ?_)
    by_cases e : j = b + x
    · rw [e, pk_us, hC x (by omega)]
    · rw [pk_un e]
      exact h1 j (by omega)
theorem el_ymake16 {post : Int32 → SY → Prop} {K n : Nat} {P : Nat → Nat} (hK : K ≤ 3) (hn : il 2 = nI n) (hn6 : n ≤ 6) (hP : ∀ i, i < K → ft i = nI (P i)) (hP2 : ∀ i, P i < 200)
    (h0 : ∀ (i : Nat) (rt' : Nat → Int32), i < K → el_sz n (P i) = 0 → post (-3) (ex, fd, ia, oa, il, ol, md, ft, rt'))
    (h1 : ∀ rt' : Nat → Int32, (∀ i, i < K → 0 < el_sz n (P i)) → (∀ j, j < el_su (fun i => el_sz n (P i)) K → rt' j = el_C (fun i => el_sz n (P i)) (fun i x => el_le ia n 2 (P i) x) K j) → post (nI (el_su (fun i => el_sz n (P i)) K)) (ex, fd, ia, oa, il, ol, md, ft, rt')) :
    ∀ d i (rt1 : Nat → Int32), i + d = K → (∀ j, j < i → 0 < el_sz n (P j)) → (∀ j, j < el_su (fun i => el_sz n (P i)) i → rt1 j = el_C (fun i => el_sz n (P i)) (fun i x => el_le ia n 2 (P i) x) i j) → wY_make_16 post (nI K) ex fd (d + 1) (nI (el_su (fun i => el_sz n (P i)) i)) (nI i) ia oa il ol md ft rt1 := by
  intro d
  induction d with
  | zero =>
    intro i rt1 hi hz hg
    have ei : i = K := by omega
    subst ei
    exact br_t (nI_le (by omega) (by omega)) (h1 rt1 hz hg)
  | succ d ih =>
    intro i rt1 hi hz hg
    have z6 := el_sz_le (a := P i) hn6
    have s18 := el_su18 (z := fun i => el_sz n (P i)) (fun j => el_sz_le hn6) (i := i + 1) (by omega)
    rw [el_su_s] at s18
    refine br_f (nI_ge (by omega) (by omega)) ?_
    refine And.intro (vp_in_nI (by omega) (by decide)) ?_
    rw [nI_clamp (n := i) (by omega), hP i (by omega)]
    refine el_ysize (p := 2) (by omega) (hP2 i) hn hn6 ?_
    by_cases z : el_sz n (P i) = 0
    · refine br_t (by rw [z]; rfl) ?_
      exact h0 i _ (by omega) z
    · refine br_f (nI_ne0 (by omega) (by omega)) ⟨el_sz n (P i) + 1, ?_⟩
      refine el_ymake45 (P := P) (C := el_C (fun i => el_sz n (P i)) (fun i x => el_le ia n 2 (P i) x) (i + 1)) (b := el_su (fun i => el_sz n (P i)) i) (by omega) hn hn6 (hP i (by omega)) (hP2 i) s18 (fun x hx => el_C_hi) (fun rt' hg' => ?_) (el_sz n (P i)) 0 rt1 (Nat.zero_add _) (fun j hj => ?_)
      · refine ih (i + 1) rt' (by omega) (fun j hj => ?_) hg'
        by_cases e : j = i
        · rw [e]; omega
        · exact hz j (by omega)
      · rw [hg j (by omega), el_C_lo (by omega)]
end
end
section
/-! the questions, one lemma a side -/
theorem el_P {g : Nat → Nat → Nat → Option Nat} {l : Nat} (k : Nat) : ∃ P : Nat → Nat, (∀ i, P i < 200) ∧ ∀ f : Nat → Int32, el_GF g l k 0 0 f → ∀ i, i < k → f i = nI (P i) := by
  by_cases z : ∃ f0 : Nat → Int32, el_GF g l k 0 0 f0
  · obtain ⟨f0, h0⟩ := z
    have A : ∀ i, i < k → (f0 i).toNatClampNeg < 200 ∧ f0 i = nI (f0 i).toNatClampNeg := by
      intro i hi
      obtain ⟨a, ha, e⟩ := el_GF_a k 0 0 h0 i hi
      rw [Nat.zero_add] at e
      rw [e, nI_clamp (by omega)]
      exact ⟨ha, rfl⟩
    refine ⟨fun i => if i < k then (f0 i).toNatClampNeg else 0, fun i => ?_, fun f hf i hi => ?_⟩
    · show (if i < k then (f0 i).toNatClampNeg else 0) < 200
      by_cases hi : i < k
      · rw [if_pos hi]; exact (A i hi).1
      · rw [if_neg hi]; omega
    · show f i = nI (if i < k then (f0 i).toNatClampNeg else 0)
      rw [if_pos hi, ← (A i hi).2]
      have := el_GF_u k 0 0 hf h0 i hi
      rw [Nat.zero_add] at this
      exact this
  · exact ⟨fun _ => 0, fun _ => Nat.zero_lt_succ 199, fun f hf => absurd ⟨f, hf⟩ z⟩
/-- the number of programs that also turn IN into OUT -/
def el_wq (E : Nat) (il ol ia oa : Nat → Int32) : Nat := if el_lc (el_w E false il ol ia oa) = 0 then 0 else el_w E true il ol ia oa (el_lc (el_w E false il ol ia oa))
theorem el_wq_lt {E : Nat} {il ol ia oa : Nat → Int32} : el_wq E il ol ia oa < 2 ^ 31 := by
  unfold el_wq
  split
  · omega
  · exact el_W_lt (el_lc_le _)
section
variable {ex lr qr wf am rs : Int32} {il ol ia oa ld wy pg gv : Nat → Int32}
theorem el_xleast {post : Int32 → SX → Prop} {E : Nat} (H : el_Inv ex lr qr wf il ol ia oa ld wy E)
    (h : ∀ (lr' qr' wf' : Int32) (ld' wy' : Nat → Int32), el_Inv ex lr' qr' wf' il ol ia oa ld' wy' E → post (el_ya (el_lc (el_w E false il ol ia oa))) (ex, lr', qr', wf', am, rs, il, ol, ia, oa, ld', wy', pg, gv)) : wpX_least post (ex, lr, qr, wf, am, rs, il, ol, ia, oa, ld, wy, pg, gv) := by
  unfold wpX_least
  dsimp only
  refine el_xleastCount H (fun lr' qr' ld' wy' H' _ => ?_)
  have h' := h lr' qr' 0 ld' wy' H'
  have l3 := el_lc_le (el_w E false il ol ia oa)
  by_cases e : el_lc (el_w E false il ol ia oa) = 0
  · rw [e] at h' ⊢
    exact br_t rfl h'
  · rw [show el_ya (el_lc (el_w E false il ol ia oa)) = nI (el_lc (el_w E false il ol ia oa)) from if_neg e] at h'
    exact br_f (nI_ne0 (by omega) (by omega)) h'
theorem el_xwq {post : Int32 → SX → Prop} {E : Nat} (H : el_Inv ex lr qr wf il ol ia oa ld wy E)
    (h : ∀ (lr' qr' wf' : Int32) (ld' wy' : Nat → Int32), el_Inv ex lr' qr' wf' il ol ia oa ld' wy' E → post (nI (el_wq E il ol ia oa)) (ex, lr', qr', wf', am, rs, il, ol, ia, oa, ld', wy', pg, gv)) : wpX_waysForQuery post (ex, lr, qr, wf, am, rs, il, ol, ia, oa, ld, wy, pg, gv) := by
  unfold wpX_waysForQuery
  dsimp only
  refine el_xleastCount H (fun lr' qr' ld' wy' H' _ => ?_)
  have l3 := el_lc_le (el_w E false il ol ia oa)
  by_cases e : el_lc (el_w E false il ol ia oa) = 0
  · have h' := h lr' qr' 0 ld' wy' H'
    rw [show el_wq E il ol ia oa = 0 from if_pos e] at h'
    rw [e]
    exact br_t rfl h'
  · refine br_f (nI_ne0 (by omega) (by omega)) ?_
    refine el_xcount true H' (fun lr2 qr2 ld2 wy2 H2 _ => ?_)
    have h' := h lr2 qr2 2 ld2 wy2 H2
    rw [show el_wq E il ol ia oa = el_w E true il ol ia oa (el_lc (el_w E false il ol ia oa)) from if_neg e] at h'
    show vp_in (nI (el_lc (el_w E false il ol ia oa)) * 343) 1372 ∧ post (wy2 (nI (el_lc (el_w E false il ol ia oa)) * 343).toNatClampNeg) _
    rw [el_i343', nI_clamp (by omega), el_wy0 (by omega) (H2.2.2.2.2 rfl)]
    exact ⟨vp_in_nI (by omega) (by decide), h'⟩
theorem el_xrun {post : Int32 → SX → Prop} {E n : Nat} {P : Nat → Nat} (H : el_Inv ex lr qr wf il ol ia oa ld wy E) (hn : il 2 = nI n) (hn6 : n ≤ 6) (hP2 : ∀ i, P i < 200) (hP : ∀ f, el_GF (el_gt E false il ol ia oa) (el_lt E false ol) (el_lc (el_w E false il ol ia oa)) 0 0 f → ∀ i, i < el_lc (el_w E false il ol ia oa) → f i = nI (P i))
    (h0 : (el_lc (el_w E false il ol ia oa) = 0 ∨ ∃ i, i < el_lc (el_w E false il ol ia oa) ∧ el_sz n (P i) = 0) → ∀ (lr' qr' wf' am' rs' : Int32) (ld' wy' pg' gv' : Nat → Int32), el_Inv ex lr' qr' wf' il ol ia oa ld' wy' E → post 0 (ex, lr', qr', wf', am', rs', il, ol, ia, oa, ld', wy', pg', gv'))
    (h1 : el_lc (el_w E false il ol ia oa) ≠ 0 → (∀ i, i < el_lc (el_w E false il ol ia oa) → 0 < el_sz n (P i)) → ∀ (lr' qr' wf' am' : Int32) (ld' wy' pg' gv' : Nat → Int32), el_Inv ex lr' qr' wf' il ol ia oa ld' wy' E → (∀ j, j < el_su (fun i => el_sz n (P i)) (el_lc (el_w E false il ol ia oa)) → gv' j = el_C (fun i => el_sz n (P i)) (fun i x => el_le ia n 2 (P i) x) (el_lc (el_w E false il ol ia oa)) j) → post 1 (ex, lr', qr', wf', am', nI (el_su (fun i => el_sz n (P i)) (el_lc (el_w E false il ol ia oa))), il, ol, ia, oa, ld', wy', pg', gv')) : wpX_run post (ex, lr, qr, wf, am, rs, il, ol, ia, oa, ld, wy, pg, gv) := by
  have l3 := el_lc_le (el_w E false il ol ia oa)
  unfold wpX_run
  dsimp only
  refine el_xfindFirst H (fun lr' qr' ld' wy' pg' H' hG => ?_)
  by_cases e : el_lc (el_w E false il ol ia oa) = 0
  · refine br_t (by rw [e]; rfl) (h0 (Or.inl e) _ _ _ _ _ _ _ _ _ H')
  · refine br_f (nI_ne0 (by omega) (by omega)) ⟨el_lc (el_w E false il ol ia oa) + 1, ?_⟩
    exact el_xrun20 (pg := pg') l3 rfl hn hn6 (hP pg' hG) hP2 (fun i rs' gv' hi hz => h0 (Or.inr ⟨i, hi, hz⟩) _ _ _ _ _ _ _ _ _ H') (fun gv' hz hg => h1 e hz _ _ _ _ _ _ _ _ H' hg) (el_lc (el_w E false il ol ia oa)) 0 gv (Nat.zero_add _) (fun j hj => absurd hj (by omega)) (fun j hj => absurd hj (Nat.not_lt_zero j))
theorem el_xright {post : Int32 → SX → Prop} {a E : Nat} (ha : a < 200) (H : el_Inv ex lr qr wf il ol ia oa ld wy E)
    (h : ∀ (r lr' qr' wf' : Int32) (ld' wy' : Nat → Int32), el_Inv ex lr' qr' wf' il ol ia oa ld' wy' E → (el_sp (el_gt E false il ol ia oa) 0 a = some (el_lt E false ol) → r = 1) → (¬ el_sp (el_gt E false il ol ia oa) 0 a = some (el_lt E false ol) → r = 0) → post r (ex, lr', qr', wf', am, rs, il, ol, ia, oa, ld', wy', pg, gv)) : wpX_right post (ex, lr, qr, wf, am, rs, il, ol, ia, oa, ld, wy, pg, gv) (nI a) := by
  refine br_f (nI_pos (by omega)) (br_t (nI_lt (b := 200) ha (by decide)) ?_)
  refine el_xcount false H (fun lr' qr' ld' wy' H' hl => ?_)
  have T := H'.1
  refine el_xstep (t := false) (N := 0) (by omega) ha T.1 T.2.1 (fun p s hp hs c => el_hld (t := false) T.1 (H'.2.1 hl) (fun z => absurd z (by decide)) p a s hp ha hs c) (el_gtr (t := false) T) ?_
  refine el_xlast (t := false) (mn := el_cl ol) T.1 T.2.1 (fun p hp => (T.2.2.2 p hp).1) ?_
  have hL := el_ltr (t := false) T
  cases e : el_sp (el_gt E false il ol ia oa) 0 a with
  | none =>
    have e' : el_sp (el_g (el_ct E false) (el_af (el_cl il) (el_cl ol) ia oa)) 0 a = none := e
    rw [e']
    refine br_f (el_m1ne (u := el_lt E false ol) (by omega)) (h 0 lr' qr' 0 ld' wy' H' (fun z => ?_) (fun _ => rfl))
    rw [e] at z
    exact absurd z (by simp)
  | some M =>
    have e' : el_sp (el_g (el_ct E false) (el_af (el_cl il) (el_cl ol) ia oa)) 0 a = some M := e
    have hM := (el_sp_r (el_gtr T) (by omega) e).1
    rw [e']
    by_cases z : M = el_lt E false ol
    · refine br_t (congrArg nI z) (h 1 lr' qr' 0 ld' wy' H' (fun _ => rfl) (fun y => absurd ?_ y))
      rw [e, z]
    · refine br_f (fun y => z ((nI_eq (a := M) (b := el_lt E false ol) (by omega) (by omega)).mp y)) (h 0 lr' qr' 0 ld' wy' H' (fun y => ?_) (fun _ => rfl))
      rw [e] at y
      exact absurd (Option.some.inj y) z
end
section
variable {ex fd : Int32} {ia oa il ol md ft rt : Nat → Int32}
theorem el_yways {post : Int32 → SY → Prop} {E : Nat} (T : el_Txt ex il ol E)
    (h : ∀ (fd' : Int32) (md' ft' : Nat → Int32), post (nI (el_wq E il ol ia oa)) (ex, fd', ia, oa, il, ol, md', ft', rt)) : wpY_ways post (ex, fd, ia, oa, il, ol, md, ft, rt) := by
  have l3 := el_lc_le (el_w E false il ol ia oa)
  unfold wpY_ways
  dsimp only
  refine el_yleast T (fun fd1 md1 ft1 hG => ?_)
  by_cases e : el_lc (el_w E false il ol ia oa) = 0
  · rw [show el_wq E il ol ia oa = 0 from if_pos e] at h
    rw [e]
    exact br_f (by decide) (h fd1 md1 ft1)
  · rw [show el_wq E il ol ia oa = el_w E true il ol ia oa (el_lc (el_w E false il ol ia oa)) from if_neg e] at h
    rw [show el_ya (el_lc (el_w E false il ol ia oa)) = nI (el_lc (el_w E false il ol ia oa)) from if_neg e]
    generalize el_lc (el_w E false il ol ia oa) = k at e h l3
    obtain ⟨k', rfl⟩ : ∃ k', k = k' + 1 := ⟨k - 1, by omega⟩
    refine br_t (nI_pos' (by omega)) ?_
    exact el_ysearch true T (by omega) (fun fd' md' ft' _ => h fd' md' ft')
theorem el_ymake {post : Int32 → SY → Prop} {E n : Nat} {P : Nat → Nat} (T : el_Txt ex il ol E) (hn : il 2 = nI n) (hn6 : n ≤ 6) (hP2 : ∀ i, P i < 200) (hP : ∀ f, el_GF (el_gt E false il ol ia oa) (el_lt E false ol) (el_lc (el_w E false il ol ia oa)) 0 0 f → ∀ i, i < el_lc (el_w E false il ol ia oa) → f i = nI (P i))
    (h0 : (el_lc (el_w E false il ol ia oa) = 0 ∨ ∃ i, i < el_lc (el_w E false il ol ia oa) ∧ el_sz n (P i) = 0) → ∀ (fd' : Int32) (md' ft' rt' : Nat → Int32), post (-3) (ex, fd', ia, oa, il, ol, md', ft', rt'))
    (h1 : el_lc (el_w E false il ol ia oa) ≠ 0 → (∀ i, i < el_lc (el_w E false il ol ia oa) → 0 < el_sz n (P i)) → ∀ (fd' : Int32) (md' ft' rt' : Nat → Int32), (∀ j, j < el_su (fun i => el_sz n (P i)) (el_lc (el_w E false il ol ia oa)) → rt' j = el_C (fun i => el_sz n (P i)) (fun i x => el_le ia n 2 (P i) x) (el_lc (el_w E false il ol ia oa)) j) → post (nI (el_su (fun i => el_sz n (P i)) (el_lc (el_w E false il ol ia oa)))) (ex, fd', ia, oa, il, ol, md', ft', rt')) : wpY_make post (ex, fd, ia, oa, il, ol, md, ft, rt) := by
  have l3 := el_lc_le (el_w E false il ol ia oa)
  unfold wpY_make
  dsimp only
  refine el_yleast T (fun fd1 md1 ft1 hG => ?_)
  by_cases e : el_lc (el_w E false il ol ia oa) = 0
  · have h0' := h0 (Or.inl e) fd1 md1 ft1 rt
    rw [e]
    exact br_f (by decide) h0'
  · rw [show el_ya (el_lc (el_w E false il ol ia oa)) = nI (el_lc (el_w E false il ol ia oa)) from if_neg e]
    refine br_t (nI_pos' (by omega)) ⟨el_lc (el_w E false il ol ia oa) + 1, ?_⟩
    exact el_ymake16 (ft := ft1) (md := md1) (fd := fd1) l3 hn hn6 (hP ft1 hG) hP2 (fun i rt' hi hz => h0 (Or.inr ⟨i, hi, hz⟩) _ _ _ _) (fun rt' hz hg => h1 e hz _ _ _ _ hg) (el_lc (el_w E false il ol ia oa)) 0 rt (Nat.zero_add _) (fun j hj => absurd hj (by omega)) (fun j hj => absurd hj (Nat.not_lt_zero j))
theorem el_yright {post : Int32 → Prop} {a E : Nat} (ha : a < 200) (T : el_Txt ex il ol E)
    (h1 : (∀ p, p < E → el_af (el_cl il) (el_cl ol) ia oa p a 0 = some (el_cl ol p)) → post 1) (h0 : ¬ (∀ p, p < E → el_af (el_cl il) (el_cl ol) ia oa p a 0 = some (el_cl ol p)) → post 0) : wpY_right post (ex, fd, ia, oa, il, ol, md, ft, rt) (nI a) := by
  have hE := T.1
  have he := T.2.1
  subst he
  refine br_f (nI_pos (by omega)) (br_t (nI_le (b := 199) (by omega) (by decide)) ?_)
  have L : ∀ d p, p + d = E → (∀ q, q < p → el_af (el_cl il) (el_cl ol) ia oa q a 0 = some (el_cl ol q)) → wY_right_15 post (nI a) (nI E) fd ia oa il ol md ft rt (d + 1) (nI p) := by
    intro d
    induction d with
    | zero =>
      intro p hp hq
      exact br_t (nI_le (by omega) (by omega)) (h1 (fun q hq' => hq q (by omega)))
    | succ d ih =>
      intro p hp hq
      obtain ⟨o1, o2⟩ := T.2.2.2 p (by omega)
      refine br_f (nI_ge (by omega) (by omega)) ?_
      refine el_yafter (ln := el_cl il) (mn := el_cl ol) (s := 0) (by omega) ha (by omega) (T.2.2.1 p (by omega)).1 (T.2.2.1 p (by omega)).2 o1 o2 ?_
      show vp_in (nI p) 3 ∧ ((el_en (el_af (el_cl il) (el_cl ol) ia oa p a 0) = ol (nI p).toNatClampNeg → _) ∧ (¬ el_en (el_af (el_cl il) (el_cl ol) ia oa p a 0) = ol (nI p).toNatClampNeg → _))
      rw [nI_clamp (by omega), o1]
      refine ⟨vp_in_nI (by omega) (by decide), ?_⟩
      cases e : el_af (el_cl il) (el_cl ol) ia oa p a 0 with
      | none =>
        refine br_f (el_m1ne (by omega)) (h0 (fun z => ?_))
        have := z p (by omega)
        rw [e] at this
        exact absurd this (by simp)
      | some u =>
        have hu := el_af_r e
        by_cases z : u = el_cl ol p
        · refine br_t (congrArg nI z) (nm_r (nI_1 p) (ih (p + 1) (by omega) (fun q hq' => ?_)))
          by_cases eq : q = p
          · rw [eq, e, z]
          · exact hq q (by omega)
        · refine br_f (fun y => z ((nI_eq (a := u) (by omega) (by omega)).mp y)) (h0 (fun y => ?_))
          have := y p (by omega)
          rw [e] at this
          exact absurd (Option.some.inj this) z
  exact ⟨_, L E 0 (Nat.zero_add _) (fun q hq => absurd hq (by omega))⟩
end
theorem el_right {ex : Int32} {il ol ia oa : Nat → Int32} {a E : Nat} (T : el_Txt ex il ol E) : el_sp (el_gt E false il ol ia oa) 0 a = some (el_lt E false ol) ↔ ∀ p, p < E → el_af (el_cl il) (el_cl ol) ia oa p a 0 = some (el_cl ol p) := by
  have hE := T.1
  have hL := (el_last_c (t := false) T.1 (fun p hp => (T.2.2.2 p hp).2)).2
  have c0 : ∀ p, el_co 0 p = 0 := by
    intro p
    unfold el_co
    split
    · rfl
    · split <;> rfl
  constructor
  · intro h p hp
    obtain ⟨_, _, _, _, g0, g1, g2⟩ := el_sp_r (el_gtr T) (by omega) h
    have hp3 : p < 3 := by omega
    have G : el_gt E false il ol ia oa p a 0 = some (el_co (el_lt E false ol) p) := by
      have c : p = 0 ∨ p = 1 ∨ p = 2 := by omega
      rcases c with rfl | rfl | rfl
      · exact g0
      · exact g1
      · exact g2
    have hLp := hL p hp3
    rw [if_pos (el_ct_lt hp)] at hLp
    have hLp' : el_co (el_lt E false ol) p = el_cl ol p := hLp
    rw [hLp'] at G
    rw [← G]
    exact (el_g_t (el_ct_lt hp)).symm
  · intro h
    have G : ∀ p, p < 3 → el_gt E false il ol ia oa p a 0 = some (el_co (el_lt E false ol) p) := by
      intro p hp
      have hLp : el_co (el_lt E false ol) p = if el_ct E false p = true then el_cl ol p else 0 := hL p hp
      by_cases c : p < E
      · rw [if_pos (el_ct_lt c)] at hLp
        rw [hLp, ← h p c]
        exact el_g_t (el_ct_lt c)
      · rw [if_neg (by rw [el_ct_f c]; decide)] at hLp
        rw [hLp]
        exact el_g_f (el_ct_f c)
    rw [el_sp_s (N := 0) (G 0 (by omega)) (G 1 (by omega)) (G 2 (by omega))]
    refine congrArg some ?_
    show el_lt E false ol % 7 + 7 * (el_lt E false ol / 7 % 7) + 49 * (el_lt E false ol / 49) = el_lt E false ol
    omega
end
section
/-! the relation, and how typing, learning and forgetting keep it -/
/-- the relation: the same texts on both sides; the component's tables are right where its marks say so -/
def i_Rel (_ : Nat) (u : SX) (v : SY) : Prop := match u with
  | (ex, lr, qr, wf, _, _, il, ol, ia, oa, ld, wy, _, _) => match v with
    | (ex', _, ia', oa', il', ol', _, _, _) => ex' = ex ∧ ia' = ia ∧ oa' = oa ∧ il' = il ∧ ol' = ol ∧ ∃ E, el_Inv ex lr qr wf il ol ia oa ld wy E
theorem i_up {k : Nat} {u : SX} {v : SY} (h : i_Rel k u v) : i_Rel (k + 2) u v := h
theorem el_el {k : Nat} {u : SX} {v : SY} {P : SX → SY → Prop} (h : ∀ (ex lr qr wf am rs : Int32) (il ol ia oa ld wy pg gv : Nat → Int32) (fd : Int32) (md ft rt : Nat → Int32) (E : Nat), el_Inv ex lr qr wf il ol ia oa ld wy E → P (ex, lr, qr, wf, am, rs, il, ol, ia, oa, ld, wy, pg, gv) (ex, fd, ia, oa, il, ol, md, ft, rt)) (I : i_Rel k u v) : P u v := by
  obtain ⟨ex, lr, qr, wf, am, rs, il, ol, ia, oa, ld, wy, pg, gv⟩ := u
  obtain ⟨ex', fd, ia', oa', il', ol', md, ft, rt⟩ := v
  obtain ⟨e1, e2, e3, e4, e5, E, H⟩ := I
  subst e1 e2 e3 e4 e5
  exact h _ _ _ _ _ _ _ _ _ _ _ _ _ _ _ _ _ _ E H
theorem el_mk {k E : Nat} {ex lr qr wf am rs fd : Int32} {il ol ia oa ld wy pg gv md ft rt : Nat → Int32} (H : el_Inv ex lr qr wf il ol ia oa ld wy E) : i_Rel k (ex, lr, qr, wf, am, rs, il, ol, ia, oa, ld, wy, pg, gv) (ex, fd, ia, oa, il, ol, md, ft, rt) :=
  ⟨rfl, rfl, rfl, rfl, rfl, E, H⟩
theorem el_len_u {f : Nat → Int32} {p n : Nat} {x : Int32} (h : el_len f) (hx : x = nI n) (hn : n ≤ 6) : el_len (upd f p x) := by
  intro q hq
  unfold el_cl
  by_cases e : q = p
  · rw [e, pk_us, hx, nI_clamp (by omega)]
    exact ⟨rfl, hn⟩
  · rw [pk_un e]
    exact h q hq
theorem el_LD_c {il ol ia oa il' ol' ia' oa' ld : Nat → Int32} {p : Nat} (hp : p < 3) (hl : el_len il) (ho : el_len ol) (h1 : il' p = il p) (h2 : ol' p = ol p) (h3 : ∀ j, j < 6 → ia (p * 6 + j) = ia' (p * 6 + j)) (h4 : ∀ j, j < 6 → oa (p * 6 + j) = oa' (p * 6 + j)) : el_af (el_cl il) (el_cl ol) ia oa p = el_af (el_cl il') (el_cl ol') ia' oa' p := by
  funext a s
  refine el_af_c ?_ ?_ (hl p hp).2 (ho p hp).2 h3 h4 a s
  · unfold el_cl; rw [h1]
  · unfold el_cl; rw [h2]
theorem el_Inv_t {ex lr qr wf wf' : Int32} {il ol ia oa il' ol' ia' oa' ld wy : Nat → Int32} {E : Nat} (H : el_Inv ex lr qr wf il ol ia oa ld wy E) (hl' : el_len il') (ho' : el_len ol') (h1 : ∀ p, p < 2 → il' p = il p) (h2 : ∀ p, p < 2 → ol' p = ol p) (h3 : ∀ j, j < 12 → ia j = ia' j) (h4 : ∀ j, j < 12 → oa j = oa' j) (hw : wf' = 0 → wf = 0) (hw2 : wf' ≠ 2) : el_Inv ex lr 0 wf' il' ol' ia' oa' ld wy E := by
  obtain ⟨T, H1, H2, H3, H4⟩ := H
  have A : ∀ p, p < 2 → el_af (el_cl il) (el_cl ol) ia oa p = el_af (el_cl il') (el_cl ol') ia' oa' p :=
    fun p hp => el_LD_c (ld := ld) (by omega) T.2.2.1 T.2.2.2 (h1 p hp) (h2 p hp) (fun j hj => h3 _ (by omega)) (fun j hj => h4 _ (by omega))
  have hE := T.1
  refine ⟨⟨T.1, T.2.1, hl', ho'⟩, fun z p hp => ?_, fun z => absurd rfl z, fun z => ?_, fun z => absurd z hw2⟩
  · intro a s ha hs
    rw [← A p (by omega)]
    exact H1 z p hp a s ha hs
  · have g : el_gt E false il' ol' ia' oa' = el_gt E false il ol ia oa := by
      funext p a s
      unfold el_gt
      by_cases c : p < E
      · rw [el_g_t (el_ct_lt c), el_g_t (el_ct_lt c), A p (by omega)]
      · rw [el_g_f (el_ct_f c), el_g_f (el_ct_f c)]
    have l : el_lt E false ol' = el_lt E false ol := by
      have e0 : el_cl ol' 0 = el_cl ol 0 := by unfold el_cl; rw [h2 0 (by omega)]
      have e1 : el_cl ol' 1 = el_cl ol 1 := by unfold el_cl; rw [h2 1 (by omega)]
      unfold el_lt el_last
      rw [e0, e1, if_neg (show ¬ false = true from by decide), if_neg (show ¬ false = true from by decide)]
    rw [g, l]
    exact H3 (hw z)
theorem el_Inv_l {ex lr qr wf : Int32} {il ol ia oa il' ol' ia' oa' ld wy : Nat → Int32} {E E' : Nat} {ex' : Int32} (H : el_Inv ex lr qr wf il ol ia oa ld wy E) (hE' : E' ≤ 2) (he' : ex' = nI E') (hl' : el_len il') (ho' : el_len ol') (h1 : il' 2 = il 2) (h2 : ol' 2 = ol 2) (h3 : ∀ j, 12 ≤ j → ia j = ia' j) (h4 : ∀ j, 12 ≤ j → oa j = oa' j) : el_Inv ex' 0 qr (-1) il' ol' ia' oa' ld wy E' := by
  obtain ⟨T, H1, H2, H3, H4⟩ := H
  have A : el_af (el_cl il) (el_cl ol) ia oa 2 = el_af (el_cl il') (el_cl ol') ia' oa' 2 :=
    el_LD_c (ld := ld) (by omega) T.2.2.1 T.2.2.2 h1 h2 (fun j hj => h3 _ (by omega)) (fun j hj => h4 _ (by omega))
  refine ⟨⟨hE', he', hl', ho'⟩, fun z => absurd rfl z, fun z => ?_, fun z => absurd z (by decide), fun z => absurd z (by decide)⟩
  intro a s ha hs
  rw [← A]
  exact H2 z a s ha hs
section
variable {ex lr qr wf am rs fd : Int32} {il ol ia oa ld wy pg gv md ft rt : Nat → Int32}
theorem el_xtyped {post : SX → Prop} (h : ∀ wf' : Int32, (wf' = 0 → wf = 0) → wf' ≠ 2 → post (ex, lr, 0, wf', am, rs, il, ol, ia, oa, ld, wy, pg, gv)) : wpX_typed post (ex, lr, qr, wf, am, rs, il, ol, ia, oa, ld, wy, pg, gv) :=
  br_c (fun _ => h (-1) (fun z => absurd z (by decide)) (by decide)) (fun e => h wf id e)
theorem el_ybad1 {post : Int32 → Prop} {x : Int32} (b : x < 0 ∨ ¬ x ≤ 3) (h : post 1) : wpY_badLetter post (ex, fd, ia, oa, il, ol, md, ft, rt) x :=
  br_c (fun _ => h) (fun n => br_f (b.resolve_left n) h)
theorem el_ybad0 {post : Int32 → Prop} {x : Int32} (b : ¬ x < 0) (c : x ≤ 3) (h : post 0) : wpY_badLetter post (ex, fd, ia, oa, il, ol, md, ft, rt) x :=
  br_f b (br_t c h)
/-- the six letters copied -/
def el_cp (f : Nat → Int32) (e : Nat) : Nat → Nat → Int32
  | 0 => f
  | i + 1 => upd (el_cp f e i) (e * 6 + i) (el_cp f e i (12 + i))
theorem el_cp_k {f : Nat → Int32} {e : Nat} (he : e < 2) : ∀ i, i ≤ 6 → ∀ j, 12 ≤ j → el_cp f e i j = f j := by
  intro i
  induction i with
  | zero => intro _ j _; rfl
  | succ i ih =>
    intro hi j hj
    show upd (el_cp f e i) (e * 6 + i) _ j = f j
    rw [pk_un (by omega)]
    exact ih (by omega) j hj
theorem el_i12 (i : Nat) : 12 + nI i = nI (12 + i) := by
  rw [show (12 : Int32) = nI 12 from rfl, nI_add]
theorem el_ie (e i : Nat) : nI e * 6 + nI i = nI (e * 6 + i) := by
  rw [show (6 : Int32) = nI 6 from rfl, pk_mul, nI_add]
theorem el_xlearn42 {post : Int32 → SX → Prop} {E : Nat} (hE : E < 2) (h : post (nI E + 1) (nI E + 1, 0, qr, (-1), am, rs, il, ol, el_cp ia E 6, el_cp oa E 6, ld, wy, pg, gv)) : ∀ d i, i + d = 6 → wX_learn_42 post (nI E) (nI E) lr qr wf am rs (d + 1) (nI i) il ol (el_cp ia E i) (el_cp oa E i) ld wy pg gv := by
  intro d
  induction d with
  | zero =>
    intro i hi
    have e : i = 6 := by omega
    subst e
    exact br_t (nI_le (a := 6) (b := 6) (by omega) (by omega)) (nm_e h)
  | succ d ih =>
    intro i hi
    refine br_f (nI_ge (b := 6) (by omega) (by decide)) ?_
    rw [el_i12, el_ie, nI_clamp (by omega), nI_clamp (by omega)]
    have v1 : vp_in (nI (12 + i)) 18 := vp_in_nI (by omega) (by decide)
    have v2 : vp_in (nI (E * 6 + i)) 18 := vp_in_nI (by omega) (by decide)
    exact And.intro v1 (And.intro v2 (nm_e (And.intro v1 (And.intro v2 (nm_e (nm_r (nI_1 i) (ih (i + 1) (by omega))))))))
theorem el_ylearn13 {post : Int32 → SY → Prop} {E : Nat} (hE : E < 2) (h : post (nI E + 1) (nI E + 1, fd, el_cp ia E 6, el_cp oa E 6, upd il E (il 2), upd ol E (ol 2), md, ft, rt)) : ∀ d i, i + d = 6 → wY_learn_13 post (nI E) fd (d + 1) (nI i) (el_cp ia E i) (el_cp oa E i) il ol md ft rt := by
  intro d
  induction d with
  | zero =>
    intro i hi
    have e : i = 6 := by omega
    subst e
    refine br_t (nI_le (a := 6) (b := 6) (by omega) (by omega)) ?_
    have v : vp_in (nI E) 3 := vp_in_nI (by omega) (by decide)
    rw [nI_clamp (by omega)]
    exact And.intro v (nm_e (And.intro v (nm_e (nm_e h))))
  | succ d ih =>
    intro i hi
    refine br_f (nI_ge (b := 6) (by omega) (by decide)) ?_
    rw [el_i12, el_ie, nI_clamp (by omega), nI_clamp (by omega)]
    have v1 : vp_in (nI (12 + i)) 18 := vp_in_nI (by omega) (by decide)
    have v2 : vp_in (nI (E * 6 + i)) 18 := vp_in_nI (by omega) (by decide)
    exact And.intro v1 (And.intro v2 (nm_e (And.intro v1 (And.intro v2 (nm_e (nm_r (nI_1 i) (ih (i + 1) (by omega))))))))
end
end
section
/-! what is owed -/
theorem el_m3le {u : Nat} (h : u < 2 ^ 31) : (-3 : Int32) ≤ nI u := by
  rw [Int32.le_iff_toInt_le, nI_toInt h, show (-3 : Int32).toInt = -3 from by decide]
  omega
theorem el_len0 : el_len (fun _ => 0) := by
  intro p _
  show (0 : Int32) = nI ((0 : Int32).toNatClampNeg) ∧ (0 : Int32).toNatClampNeg ≤ 6
  decide
theorem i_vc0 : wpX_init (fun u => wpY_init (fun v => i_Rel 0 u v)) := 
  by
  unfold wpX_init wpY_init
  exact el_mk (E := 0) ⟨⟨by omega, rfl, el_len0, el_len0⟩, fun z => absurd rfl z, fun z => absurd rfl z, fun z => absurd z (by decide), fun z => absurd z (by decide)⟩
theorem i_vc_typeIn {k : Nat} {u : SX} {v : SY} (I : i_Rel k u v) (hk : k + 2 ≤ 1024) (v1 : Int32) : wpX_typeIn (fun r u' => wpY_typeIn (fun r' v' => r' = r ∧ i_Rel (k + 2) u' v') v v1) u v1 :=  by
  refine el_el (P := fun u v => wpX_typeIn (fun r u' => wpY_typeIn (fun r' v' => r' = r ∧ i_Rel (k + 2) u' v') v v1) u v1) ?_ I
  intro ex lr qr wf am rs il ol ia oa ld wy pg gv fd md ft rt E H
  have T := H.1
  obtain ⟨l1, l6⟩ := T.2.2.1 2 (by omega)
  by_cases b0 : v1 < 0
  · refine br_t b0 ?_
    unfold wpY_typeIn
    dsimp only
    exact el_ybad1 (Or.inl b0) (br_f (by decide) ⟨rfl, el_mk H⟩)
  · refine br_f b0 ?_
    by_cases b3 : v1 ≤ 3
    · refine br_t b3 ?_
      by_cases b6 : il 2 < 6
      · have n5 : el_cl il 2 < 6 := by
          rw [l1] at b6
          exact (nI_ltI (b := 6) (by omega) (by decide)).mp b6
        have ne6 : ¬ il 2 = 6 := by
          rw [l1]
          exact fun z => absurd ((nI_eq (b := 6) (by omega) (by decide)).mp z) (by omega)
        have e12 : 12 + il 2 = nI (12 + el_cl il 2) := by
          rw [l1]
          exact nI_add 12 _
        have en : il 2 + 1 = nI (el_cl il 2 + 1) := by
          rw [l1]
          exact nI_1 _
        have hin : vp_in (12 + il 2) 18 := by
          rw [e12]
          exact vp_in_nI (by omega) (by decide)
        have ha : ∀ j, j < 12 → ia j = upd ia (12 + il 2).toNatClampNeg v1 j := by
          intro j hj
          rw [e12, nI_clamp (by omega), pk_un (by omega)]
        refine br_t b6 (And.intro hin (nm_e (nm_e ?_)))
        refine el_xtyped (fun wf' hw hw2 => ?_)
        dsimp only
        unfold wpY_typeIn
        dsimp only
        refine el_ybad0 b0 b3 (br_t rfl (br_f ne6 (And.intro hin (nm_e (nm_e ⟨rfl, el_mk (E := E) ?_⟩)))))
        exact (el_Inv_t H (el_len_u T.2.2.1 (n := el_cl il 2 + 1) en (by omega)) T.2.2.2 (fun p hp => pk_un (by omega)) (fun _ _ => rfl) (fun j hj => ha j hj) (fun _ _ => rfl) hw hw2)
      · refine br_f b6 ?_
        have e6 : il 2 = 6 := by
          rw [l1] at b6 ⊢
          have : ¬ el_cl il 2 < 6 := fun z => b6 (nI_lt (b := 6) z (by decide))
          exact congrArg nI (show el_cl il 2 = 6 from by omega)
        unfold wpY_typeIn
        dsimp only
        exact el_ybad0 b0 b3 (br_t rfl (br_t e6 ⟨rfl, el_mk H⟩))
    · refine br_f b3 ?_
      unfold wpY_typeIn
      dsimp only
      exact el_ybad1 (Or.inr b3) (br_f (by decide) ⟨rfl, el_mk H⟩)
theorem i_vc_typeOut {k : Nat} {u : SX} {v : SY} (I : i_Rel k u v) (hk : k + 2 ≤ 1024) (v1 : Int32) : wpX_typeOut (fun r u' => wpY_typeOut (fun r' v' => r' = r ∧ i_Rel (k + 2) u' v') v v1) u v1 :=  by
  refine el_el (P := fun u v => wpX_typeOut (fun r u' => wpY_typeOut (fun r' v' => r' = r ∧ i_Rel (k + 2) u' v') v v1) u v1) ?_ I
  intro ex lr qr wf am rs il ol ia oa ld wy pg gv fd md ft rt E H
  have T := H.1
  obtain ⟨l1, l6⟩ := T.2.2.2 2 (by omega)
  by_cases b0 : v1 < 0
  · refine br_t b0 ?_
    unfold wpY_typeOut
    dsimp only
    exact el_ybad1 (Or.inl b0) (br_f (by decide) ⟨rfl, el_mk H⟩)
  · refine br_f b0 ?_
    by_cases b3 : v1 ≤ 3
    · refine br_t b3 ?_
      by_cases b6 : ol 2 < 6
      · have n5 : el_cl ol 2 < 6 := by
          rw [l1] at b6
          exact (nI_ltI (b := 6) (by omega) (by decide)).mp b6
        have ne6 : ¬ ol 2 = 6 := by
          rw [l1]
          exact fun z => absurd ((nI_eq (b := 6) (by omega) (by decide)).mp z) (by omega)
        have e12 : 12 + ol 2 = nI (12 + el_cl ol 2) := by
          rw [l1]
          exact nI_add 12 _
        have en : ol 2 + 1 = nI (el_cl ol 2 + 1) := by
          rw [l1]
          exact nI_1 _
        have hin : vp_in (12 + ol 2) 18 := by
          rw [e12]
          exact vp_in_nI (by omega) (by decide)
        have ha : ∀ j, j < 12 → oa j = upd oa (12 + ol 2).toNatClampNeg v1 j := by
          intro j hj
          rw [e12, nI_clamp (by omega), pk_un (by omega)]
        refine br_t b6 (And.intro hin (nm_e (nm_e ?_)))
        refine el_xtyped (fun wf' hw hw2 => ?_)
        dsimp only
        unfold wpY_typeOut
        dsimp only
        refine el_ybad0 b0 b3 (br_t rfl (br_f ne6 (And.intro hin (nm_e (nm_e ⟨rfl, el_mk (E := E) ?_⟩)))))
        exact (el_Inv_t H T.2.2.1 (el_len_u T.2.2.2 (n := el_cl ol 2 + 1) en (by omega)) (fun _ _ => rfl) (fun p hp => pk_un (by omega)) (fun _ _ => rfl) (fun j hj => ha j hj) hw hw2)
      · refine br_f b6 ?_
        have e6 : ol 2 = 6 := by
          rw [l1] at b6 ⊢
          have : ¬ el_cl ol 2 < 6 := fun z => b6 (nI_lt (b := 6) z (by decide))
          exact congrArg nI (show el_cl ol 2 = 6 from by omega)
        unfold wpY_typeOut
        dsimp only
        exact el_ybad0 b0 b3 (br_t rfl (br_t e6 ⟨rfl, el_mk H⟩))
    · refine br_f b3 ?_
      unfold wpY_typeOut
      dsimp only
      exact el_ybad1 (Or.inr b3) (br_f (by decide) ⟨rfl, el_mk H⟩)
theorem i_vc_erase {k : Nat} {u : SX} {v : SY} (I : i_Rel k u v) (hk : k + 2 ≤ 1024) : wpX_erase (fun u' => wpY_erase (fun v' => i_Rel (k + 2) u' v') v) u :=  by
  refine el_el (P := fun u v => wpX_erase (fun u' => wpY_erase (fun v' => i_Rel (k + 2) u' v') v) u) ?_ I
  intro ex lr qr wf am rs il ol ia oa ld wy pg gv fd md ft rt E H
  have T := H.1
  refine nm_e (nm_e ?_)
  refine el_xtyped (fun wf' hw hw2 => ?_)
  refine nm_e (nm_e (el_mk (E := E) ?_))
  exact el_Inv_t H (el_len_u T.2.2.1 (n := 0) rfl (by omega)) (el_len_u T.2.2.2 (n := 0) rfl (by omega)) (fun p hp => pk_un (by omega)) (fun p hp => pk_un (by omega)) (fun _ _ => rfl) (fun _ _ => rfl) hw hw2
theorem i_vc_learn {k : Nat} {u : SX} {v : SY} (I : i_Rel k u v) (hk : k + 2 ≤ 1024) : wpX_learn (fun r u' => wpY_learn (fun r' v' => r' = r ∧ i_Rel (k + 2) u' v') v) u :=  by
  refine el_el (P := fun u v => wpX_learn (fun r u' => wpY_learn (fun r' v' => r' = r ∧ i_Rel (k + 2) u' v') v) u) ?_ I
  intro ex lr qr wf am rs il ol ia oa ld wy pg gv fd md ft rt E H
  have T := H.1
  have hE := T.1
  have he := T.2.1
  subst he
  obtain ⟨l1, l6⟩ := T.2.2.1 2 (by omega)
  obtain ⟨o1, o6⟩ := T.2.2.2 2 (by omega)
  by_cases b : E < 2
  · have v : vp_in (nI E) 3 := vp_in_nI (by omega) (by decide)
    have c : (nI E).toNatClampNeg = E := nI_clamp (by omega)
    refine br_t (nI_lt (b := 2) b (by decide)) ?_
    refine And.intro v (nm_r (e' := upd il E (il 2)) (by rw [c]) (And.intro v (nm_r (e' := upd ol E (ol 2)) (by rw [c]) ⟨6 + 1, ?_⟩)))
    refine el_xlearn42 b ?_ 6 0 rfl
    refine br_f (fun z => absurd ((nI_eq (b := 2) (by omega) (by decide)).mp z) (by omega)) ⟨6 + 1, ?_⟩
    refine el_ylearn13 b ?_ 6 0 rfl
    refine ⟨rfl, el_mk (E := E + 1) ?_⟩
    exact el_Inv_l H (by omega) (nI_1 E) (el_len_u T.2.2.1 l1 l6) (el_len_u T.2.2.2 o1 o6) (pk_un (by omega)) (pk_un (by omega)) (fun j hj => (el_cp_k b 6 (by omega) j hj).symm) (fun j hj => (el_cp_k b 6 (by omega) j hj).symm)
  · have e2 : E = 2 := by omega
    subst e2
    exact br_f (by decide) (br_t rfl ⟨rfl, el_mk H⟩)
theorem i_vc_forget {k : Nat} {u : SX} {v : SY} (I : i_Rel k u v) (hk : k + 2 ≤ 1024) : wpX_forget (fun r u' => wpY_forget (fun r' v' => r' = r ∧ i_Rel (k + 2) u' v') v) u :=  by
  refine el_el (P := fun u v => wpX_forget (fun r u' => wpY_forget (fun r' v' => r' = r ∧ i_Rel (k + 2) u' v') v) u) ?_ I
  intro ex lr qr wf am rs il ol ia oa ld wy pg gv fd md ft rt E H
  have T := H.1
  have hE := T.1
  have he := T.2.1
  subst he
  by_cases b : E = 0
  · subst b
    exact br_t rfl (br_t rfl ⟨rfl, el_mk H⟩)
  · have n0 : ¬ nI E = 0 := nI_ne0 (by omega) (by omega)
    have e1 : nI E - 1 = nI (E - 1) := pk_sub (b := 1) (by omega)
    refine br_f n0 (nm_e ?_)
    refine br_f n0 (nm_e ⟨rfl, el_mk (E := E - 1) ?_⟩)
    exact el_Inv_l H (by omega) e1 T.2.2.1 T.2.2.2 rfl rfl (fun _ _ => rfl) (fun _ _ => rfl)
theorem i_vc_least {k : Nat} {u : SX} {v : SY} (I : i_Rel k u v) (hk : k + 2 ≤ 1024) : wpX_least (fun r u' => wpY_least (fun r' v' => r' = r ∧ i_Rel (k + 2) u' v') v) u :=  by
  refine el_el (P := fun u v => wpX_least (fun r u' => wpY_least (fun r' v' => r' = r ∧ i_Rel (k + 2) u' v') v) u) ?_ I
  intro ex lr qr wf am rs il ol ia oa ld wy pg gv fd md ft rt E H
  have T := H.1
  refine el_xleast H (fun lr' qr' wf' ld' wy' H' => ?_)
  exact el_yleast T (fun fd' md' ft' _ => ⟨rfl, el_mk H'⟩)
theorem el_13 {x : Int32} (h1 : ¬ x < 1) (h3 : x ≤ 3) : ∃ k : Nat, k < 3 ∧ x = nI (k + 1) := by
  obtain ⟨j, hj, rfl⟩ := nI_of (x := x) (fun z => h1 (Int32.lt_trans z (by decide)))
  have a : ¬ j < 1 := fun z => h1 (nI_lt (b := 1) z (by decide))
  have b : j ≤ 3 := (nI_leI (b := 3) hj (by decide)).mp h3
  exact ⟨j - 1, by omega, congrArg nI (by omega)⟩
theorem i_vc_programs {k : Nat} {u : SX} {v : SY} (I : i_Rel k u v) (hk : k + 2 ≤ 1024) (v1 : Int32) : wpX_programs (fun r u' => wpY_programs (fun r' v' => r' = r ∧ i_Rel (k + 2) u' v') v v1) u v1 :=  by
  refine el_el (P := fun u v => wpX_programs (fun r u' => wpY_programs (fun r' v' => r' = r ∧ i_Rel (k + 2) u' v') v v1) u v1) ?_ I
  intro ex lr qr wf am rs il ol ia oa ld wy pg gv fd md ft rt E H
  have T := H.1
  by_cases b1 : v1 < 1
  · exact br_t b1 (br_t b1 ⟨rfl, el_mk H⟩)
  · by_cases b3 : v1 ≤ 3
    · refine br_f b1 (br_t b3 ?_)
      obtain ⟨j, hj, e⟩ := el_13 b1 b3
      subst e
      refine el_xcount false H (fun lr' qr' ld' wy' H' _ => ?_)
      dsimp only
      rw [el_i343', nI_clamp (by omega), el_wy0 (by omega) (H'.2.2.2.1 rfl)]
      refine And.intro (vp_in_nI (by omega) (by decide)) ?_
      refine br_f b1 (br_t b3 ?_)
      exact el_ysearch false T hj (fun fd' md' ft' _ => ⟨rfl, el_mk H'⟩)
    · exact br_f b1 (br_f b3 (br_f b1 (br_f b3 ⟨rfl, el_mk H⟩)))
section
variable {ex fd : Int32} {ia oa il ol md ft rt : Nat → Int32}
theorem el_yatomN {post : Int32 → SY → Prop} {E : Nat} {x : Int32} (T : el_Txt ex il ol E) (b : x < 0 ∨ ¬ x < nI (el_lc (el_w E false il ol ia oa))) (h : ∀ (fd' : Int32) (md' ft' : Nat → Int32), post (-3) (ex, fd', ia, oa, il, ol, md', ft', rt)) : wpY_atom post (ex, fd, ia, oa, il, ol, md, ft, rt) x := by
  have l3 := el_lc_le (el_w E false il ol ia oa)
  unfold wpY_atom
  dsimp only
  refine el_yleast T (fun fd' md' ft' _ => ?_)
  by_cases e : el_lc (el_w E false il ol ia oa) = 0
  · rw [e]
    exact br_t (by decide) (h fd' md' ft')
  · rw [show el_ya (el_lc (el_w E false il ol ia oa)) = nI (el_lc (el_w E false il ol ia oa)) from if_neg e]
    exact br_f (nI_pos (by omega)) (br_c (fun _ => h fd' md' ft') (fun n => br_f (b.resolve_left n) (h fd' md' ft')))
theorem el_yatomS {post : Int32 → SY → Prop} {E j : Nat} (T : el_Txt ex il ol E) (hj : j < el_lc (el_w E false il ol ia oa)) (h : ∀ (fd' : Int32) (md' ft' : Nat → Int32), el_GF (el_gt E false il ol ia oa) (el_lt E false ol) (el_lc (el_w E false il ol ia oa)) 0 0 ft' → post (ft' j) (ex, fd', ia, oa, il, ol, md', ft', rt)) : wpY_atom post (ex, fd, ia, oa, il, ol, md, ft, rt) (nI j) := by
  have l3 := el_lc_le (el_w E false il ol ia oa)
  unfold wpY_atom
  dsimp only
  refine el_yleast T (fun fd' md' ft' hG => ?_)
  rw [show el_ya (el_lc (el_w E false il ol ia oa)) = nI (el_lc (el_w E false il ol ia oa)) from if_neg (by omega)]
  refine br_f (nI_pos (by omega)) (br_f (nI_pos (by omega)) (br_t (nI_lt hj (by omega)) ?_))
  rw [nI_clamp (by omega)]
  exact And.intro (vp_in_nI (by omega) (by decide)) (h fd' md' ft' hG)
end
theorem i_vc_atom {k : Nat} {u : SX} {v : SY} (I : i_Rel k u v) (hk : k + 2 ≤ 1024) (v1 : Int32) : wpX_atom (fun r u' => wpY_atom (fun r' v' => r' = r ∧ i_Rel (k + 2) u' v') v v1) u v1 :=  by
  refine el_el (P := fun u v => wpX_atom (fun r u' => wpY_atom (fun r' v' => r' = r ∧ i_Rel (k + 2) u' v') v v1) u v1) ?_ I
  intro ex lr qr wf am rs il ol ia oa ld wy pg gv fd md ft rt E H
  have T := H.1
  have l3 := el_lc_le (el_w E false il ol ia oa)
  unfold wpX_atom
  dsimp only
  refine el_xfindFirst H (fun lr' qr' ld' wy' pg' H' hG => ?_)
  by_cases b0 : v1 < 0
  · exact br_t b0 (el_yatomN T (Or.inl b0) (fun fd' md' ft' => ⟨rfl, el_mk H'⟩))
  · refine br_f b0 ?_
    by_cases b : v1 < nI (el_lc (el_w E false il ol ia oa))
    · refine br_t b ?_
      obtain ⟨j, hj, e⟩ := nI_of b0
      subst e
      have hj' := (nI_ltI hj (by omega)).mp b
      rw [nI_clamp hj]
      refine And.intro (vp_in_nI (by omega) (by decide)) ?_
      refine el_yatomS T hj' (fun fd' md' ft' hG' => ⟨?_, el_mk H'⟩)
      have := el_GF_u _ 0 0 hG' hG j hj'
      rw [Nat.zero_add] at this
      exact this
    · exact br_f b (el_yatomN T (Or.inr b) (fun fd' md' ft' => ⟨rfl, el_mk H'⟩))
theorem i_vc_can {k : Nat} {u : SX} {v : SY} (I : i_Rel k u v) (hk : k + 2 ≤ 1024) : wpX_can (fun r u' => wpY_can (fun r' v' => r' = r ∧ i_Rel (k + 2) u' v') v) u :=  by
  refine el_el (P := fun u v => wpX_can (fun r u' => wpY_can (fun r' v' => r' = r ∧ i_Rel (k + 2) u' v') v) u) ?_ I
  intro ex lr qr wf am rs il ol ia oa ld wy pg gv fd md ft rt E H
  have T := H.1
  have hw := el_wq_lt (E := E) (il := il) (ol := ol) (ia := ia) (oa := oa)
  unfold wpX_can
  dsimp only
  refine el_xwq H (fun lr' qr' wf' ld' wy' H' => ?_)
  by_cases z : 0 < el_wq E il ol ia oa
  · refine br_f (nI_nle z hw) ?_
    unfold wpY_can
    dsimp only
    exact el_yways T (fun fd' md' ft' => br_f (nI_nle z hw) ⟨rfl, el_mk H'⟩)
  · have le : nI (el_wq E il ol ia oa) ≤ 0 := nI_le (b := 0) (by omega) (by decide)
    refine br_t le ?_
    unfold wpY_can
    dsimp only
    exact el_yways T (fun fd' md' ft' => br_t le ⟨rfl, el_mk H'⟩)
theorem i_vc_ways {k : Nat} {u : SX} {v : SY} (I : i_Rel k u v) (hk : k + 2 ≤ 1024) : wpX_ways (fun r u' => wpY_ways (fun r' v' => r' = r ∧ i_Rel (k + 2) u' v') v) u :=  by
  refine el_el (P := fun u v => wpX_ways (fun r u' => wpY_ways (fun r' v' => r' = r ∧ i_Rel (k + 2) u' v') v) u) ?_ I
  intro ex lr qr wf am rs il ol ia oa ld wy pg gv fd md ft rt E H
  have T := H.1
  unfold wpX_ways
  dsimp only
  refine el_xwq H (fun lr' qr' wf' ld' wy' H' => ?_)
  exact el_yways T (fun fd' md' ft' => ⟨rfl, el_mk H'⟩)
theorem i_vc_resultLength {k : Nat} {u : SX} {v : SY} (I : i_Rel k u v) (hk : k + 2 ≤ 1024) : wpX_resultLength (fun r u' => wpY_resultLength (fun r' v' => r' = r ∧ i_Rel (k + 2) u' v') v) u :=  by
  refine el_el (P := fun u v => wpX_resultLength (fun r u' => wpY_resultLength (fun r' v' => r' = r ∧ i_Rel (k + 2) u' v') v) u) ?_ I
  intro ex lr qr wf am rs il ol ia oa ld wy pg gv fd md ft rt E H
  have T := H.1
  obtain ⟨n1, n6⟩ := T.2.2.1 2 (by omega)
  obtain ⟨P, hP2, hP⟩ := el_P (g := el_gt E false il ol ia oa) (l := el_lt E false ol) (el_lc (el_w E false il ol ia oa))
  unfold wpX_resultLength
  dsimp only
  refine el_xrun H n1 n6 hP2 hP (fun c lr' qr' wf' am' rs' ld' wy' pg' gv' H' => ?_) (fun c1 c2 lr' qr' wf' am' ld' wy' pg' gv' H' hg => ?_)
  · refine br_t rfl ?_
    unfold wpY_resultLength
    dsimp only
    refine el_ymake T n1 n6 hP2 hP (fun _ fd' md' ft' rt' => ⟨rfl, el_mk H'⟩) (fun d1 d2 fd' md' ft' rt' hr => ?_)
    rcases c with c | ⟨i, hi, hz⟩
    · exact absurd c d1
    · exact absurd hz (by have := d2 i hi; omega)
  · refine br_f (by decide) ?_
    unfold wpY_resultLength
    dsimp only
    refine el_ymake T n1 n6 hP2 hP (fun c fd' md' ft' rt' => ?_) (fun d1 d2 fd' md' ft' rt' hr => ⟨rfl, el_mk H'⟩)
    rcases c with c | ⟨i, hi, hz⟩
    · exact absurd c c1
    · exact absurd hz (by have := c2 i hi; omega)
theorem i_vc_result {k : Nat} {u : SX} {v : SY} (I : i_Rel k u v) (hk : k + 2 ≤ 1024) (v1 : Int32) : wpX_result (fun r u' => wpY_result (fun r' v' => r' = r ∧ i_Rel (k + 2) u' v') v v1) u v1 :=  by
  refine el_el (P := fun u v => wpX_result (fun r u' => wpY_result (fun r' v' => r' = r ∧ i_Rel (k + 2) u' v') v v1) u v1) ?_ I
  intro ex lr qr wf am rs il ol ia oa ld wy pg gv fd md ft rt E H
  have T := H.1
  obtain ⟨n1, n6⟩ := T.2.2.1 2 (by omega)
  obtain ⟨P, hP2, hP⟩ := el_P (g := el_gt E false il ol ia oa) (l := el_lt E false ol) (el_lc (el_w E false il ol ia oa))
  have l3 := el_lc_le (el_w E false il ol ia oa)
  have s18 := el_su18 (z := fun i => el_sz (el_cl il 2) (P i)) (fun j => el_sz_le n6) l3
  unfold wpX_result
  dsimp only
  refine el_xrun H n1 n6 hP2 hP (fun c lr' qr' wf' am' rs' ld' wy' pg' gv' H' => ?_) (fun c1 c2 lr' qr' wf' am' ld' wy' pg' gv' H' hg => ?_)
  · refine br_t rfl ?_
    unfold wpY_result
    dsimp only
    refine el_ymake T n1 n6 hP2 hP (fun _ fd' md' ft' rt' => ?_) (fun d1 d2 fd' md' ft' rt' hr => ?_)
    · refine br_c (fun _ => ⟨rfl, el_mk H'⟩) (fun b0 => ?_)
      obtain ⟨j, hj, e⟩ := nI_of b0
      subst e
      exact br_t (el_m3le hj) ⟨rfl, el_mk H'⟩
    · rcases c with c | ⟨i, hi, hz⟩
      · exact absurd c d1
      · exact absurd hz (by have := d2 i hi; omega)
  · refine br_f (by decide) ?_
    have X0 : ∀ {Q : Prop}, (el_lc (el_w E false il ol ia oa) = 0 ∨ ∃ i, i < el_lc (el_w E false il ol ia oa) ∧ el_sz (el_cl il 2) (P i) = 0) → Q := by
      intro Q c
      rcases c with c | ⟨i, hi, hz⟩
      · exact absurd c c1
      · exact absurd hz (by have := c2 i hi; omega)
    by_cases b0 : v1 < 0
    · refine br_t b0 ?_
      unfold wpY_result
      dsimp only
      exact el_ymake T n1 n6 hP2 hP (fun c fd' md' ft' rt' => X0 c) (fun d1 d2 fd' md' ft' rt' hr => br_t b0 ⟨rfl, el_mk H'⟩)
    · refine br_f b0 ?_
      obtain ⟨j, hj, e⟩ := nI_of b0
      subst e
      by_cases b : j < el_su (fun i => el_sz (el_cl il 2) (P i)) (el_lc (el_w E false il ol ia oa))
      · refine br_t (nI_lt b (by omega)) ?_
        rw [nI_clamp hj]
        refine And.intro (vp_in_nI (by omega) (by decide)) ?_
        unfold wpY_result
        dsimp only
        refine el_ymake T n1 n6 hP2 hP (fun c fd' md' ft' rt' => X0 c) (fun d1 d2 fd' md' ft' rt' hr => ?_)
        refine br_f b0 (br_f (nI_ge b (by omega)) (br_t (nI_le (b := 17) (by omega) (by decide)) ?_))
        rw [nI_clamp hj]
        refine And.intro (vp_in_nI (by omega) (by decide)) ⟨?_, el_mk H'⟩
        exact (hr j b).trans (hg j b).symm
      · refine br_f (nI_nlt (by omega) (by omega)) ?_
        unfold wpY_result
        dsimp only
        exact el_ymake T n1 n6 hP2 hP (fun c fd' md' ft' rt' => X0 c) (fun d1 d2 fd' md' ft' rt' hr => br_f b0 (br_t (nI_le (by omega) (by omega)) ⟨rfl, el_mk H'⟩))
theorem i_vc_right {k : Nat} {u : SX} {v : SY} (I : i_Rel k u v) (hk : k + 2 ≤ 1024) (v1 : Int32) : wpX_right (fun r u' => wpY_right (fun r' => r' = r ∧ i_Rel (k + 2) u' v) v v1) u v1 :=  by
  refine el_el (P := fun u v => wpX_right (fun r u' => wpY_right (fun r' => r' = r ∧ i_Rel (k + 2) u' v) v v1) u v1) ?_ I
  intro ex lr qr wf am rs il ol ia oa ld wy pg gv fd md ft rt E H
  have T := H.1
  by_cases b0 : v1 < 0
  · exact br_t b0 (br_t b0 ⟨rfl, el_mk H⟩)
  · obtain ⟨a, ha, e⟩ := nI_of b0
    subst e
    by_cases b : a < 200
    · refine el_xright b H (fun r lr' qr' wf' ld' wy' H' r1 r0 => ?_)
      refine el_yright b T (fun c => ⟨?_, el_mk H'⟩) (fun c => ⟨?_, el_mk H'⟩)
      · exact (r1 ((el_right T).mpr c)).symm
      · exact (r0 (fun z => c ((el_right T).mp z))).symm
    · exact br_f b0 (br_f (nI_nlt (b := 200) (by omega) ha) (br_f b0 (br_f (nI_ge (a := 199) (by omega) ha) ⟨rfl, el_mk H⟩)))
end
