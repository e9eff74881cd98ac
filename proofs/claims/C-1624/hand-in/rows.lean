section
/-! rows pasted from the kit PURE-ROWS (starting text) -/
theorem pk_us {f : Nat → Int32} {k : Nat} {x : Int32} : upd f k x k = x := if_pos rfl
theorem pk_un {f : Nat → Int32} {k j : Nat} {x : Int32} (h : j ≠ k) : upd f k x j = f j := if_neg h
theorem pk_sub {a b : Nat} (h : b ≤ a) : nI a - nI b = nI (a - b) := by
  obtain ⟨c, rfl⟩ : ∃ c, a = c + b := ⟨a - b, by omega⟩
  rw [← nI_add, Int32.add_sub_cancel, Nat.add_sub_cancel]
theorem pk_m1 (n : Nat) : nI (n + 1) + (-1) = nI n := by
  rw [← nI_1, Int32.add_assoc, show (1 : Int32) + (-1) = 0 from rfl, Int32.add_zero]
theorem pk_mul (a b : Nat) : nI a * nI b = nI (a * b) := (Int32.ofNat_mul a b).symm
theorem pk_sub_toInt {a b : Nat} (ha : a < 2 ^ 30) (hb : b < 2 ^ 30) : (nI a - nI b).toInt = (a : Int) - b := by
  rw [Int32.toInt_sub, nI_toInt (by omega), nI_toInt (by omega)]
  exact Int.bmod_eq_of_le (by omega) (by omega)
theorem pk_le {x y : Int32} {A B : Prop} (a b : Nat) (f : a ≤ b → A) (g : b < a → B) (hx : x = nI a := by rfl) (hy : y = nI b := by rfl) (ha : a < 2 ^ 31 := by omega) (hb : b < 2 ^ 31 := by omega) : (x ≤ y → A) ∧ (¬ x ≤ y → B) := by
  subst hx hy
  rw [nI_leI ha hb]
  exact ⟨f, fun z => g (by omega)⟩
theorem pk_lt {x y : Int32} {A B : Prop} (a b : Nat) (f : a < b → A) (g : b ≤ a → B) (hx : x = nI a := by rfl) (hy : y = nI b := by rfl) (ha : a < 2 ^ 31 := by omega) (hb : b < 2 ^ 31 := by omega) : (x < y → A) ∧ (¬ x < y → B) := by
  subst hx hy
  rw [nI_ltI ha hb]
  exact ⟨f, fun z => g (by omega)⟩
theorem pk_eq {x y : Int32} {A B : Prop} (a b : Nat) (f : a = b → A) (g : a ≠ b → B) (hx : x = nI a := by rfl) (hy : y = nI b := by rfl) (ha : a < 2 ^ 31 := by omega) (hb : b < 2 ^ 31 := by omega) : (x = y → A) ∧ (¬ x = y → B) := by
  subst hx hy
  rw [nI_eq ha hb]
  exact ⟨f, g⟩
theorem pk_in {x : Int32} (n N : Nat) (h : n < N) (hx : x = nI n := by rfl) (hN : N < 2 ^ 31 := by omega) : vp_in x N := by
  subst hx
  exact vp_in_nI h hN
theorem pk_cl {x : Int32} (n : Nat) (hx : x = nI n := by rfl) (h : n < 2 ^ 31 := by omega) : x.toNatClampNeg = n := by
  subst hx
  exact nI_clamp h
theorem pk_tn {n : Nat} (h : n < 2 ^ 32) : (nI n).toBitVec.toNat = n := Nat.mod_eq_of_lt h
theorem pk_and (x : Int32) {m : Int32} (k : Nat) (hm : m.toBitVec.toNat = 2 ^ k - 1) : x &&& m = nI (x.toBitVec.toNat % 2 ^ k) := by
  apply Int32.toBitVec_inj.mp
  apply BitVec.eq_of_toNat_eq
  rw [Int32.toBitVec_and, BitVec.toNat_and, hm, Nat.and_two_pow_sub_one_eq_mod]
  show _ = (BitVec.ofNat 32 _).toNat
  rw [BitVec.toNat_ofNat]
  exact (Nat.mod_eq_of_lt (Nat.lt_of_le_of_lt (Nat.mod_le _ _) x.toBitVec.isLt)).symm
theorem pk_andN {n : Nat} (h : n < 2 ^ 32) {m : Int32} (k : Nat) (hm : m.toBitVec.toNat = 2 ^ k - 1) : nI n &&& m = nI (n % 2 ^ k) := by
  rw [pk_and _ k hm, pk_tn h]
end
section
/-! arrays of ints as images of arrays of naturals -/
def sa_f (F : Nat → Nat) : Nat → Int32 := fun k => nI (F k)
def sa_o : Option Nat → Int32
  | none => -1
  | some e => nI e
def sa_e (E : Nat → Option Nat) : Nat → Int32 := fun k => sa_o (E k)
def sa_c : Bool → Int32
  | true => 1
  | false => 0
def sa_b (K : Nat → Bool) : Nat → Int32 := fun k => sa_c (K k)
def sa_u {α : Type} (F : Nat → α) (k : Nat) (x : α) : Nat → α := fun j => if j = k then x else F j
theorem sa_us {α : Type} {F : Nat → α} {k : Nat} {x : α} : sa_u F k x k = x := if_pos rfl
theorem sa_un {α : Type} {F : Nat → α} {k j : Nat} {x : α} (h : j ≠ k) : sa_u F k x j = F j := if_neg h
theorem sa_fu {F : Nat → Nat} {k x : Nat} : upd (sa_f F) k (nI x) = sa_f (sa_u F k x) := by
  funext j
  show (if j = k then nI x else nI (F j)) = nI (if j = k then x else F j)
  split <;> rfl
theorem sa_eu {E : Nat → Option Nat} {k : Nat} {x : Option Nat} : upd (sa_e E) k (sa_o x) = sa_e (sa_u E k x) := by
  funext j
  show (if j = k then sa_o x else sa_o (E j)) = sa_o (if j = k then x else E j)
  split <;> rfl
theorem sa_bu {K : Nat → Bool} {k : Nat} {x : Bool} : upd (sa_b K) k (sa_c x) = sa_b (sa_u K k x) := by
  funext j
  show (if j = k then sa_c x else sa_c (K j)) = sa_c (if j = k then x else K j)
  split <;> rfl
theorem sa_fr {F : Nat → Nat} {k : Nat} (h : k < 2 ^ 31) : sa_f F (nI k).toNatClampNeg = nI (F k) := by rw [nI_clamp h]; rfl
theorem sa_er {E : Nat → Option Nat} {k : Nat} (h : k < 2 ^ 31) : sa_e E (nI k).toNatClampNeg = sa_o (E k) := by rw [nI_clamp h]; rfl
theorem sa_br {K : Nat → Bool} {k : Nat} (h : k < 2 ^ 31) : sa_b K (nI k).toNatClampNeg = sa_c (K k) := by rw [nI_clamp h]; rfl
theorem sa_m13 (s : Nat) : 13 * nI s = nI (13 * s) := pk_mul 13 s
theorem sa_m240 (s : Nat) : 240 * nI s = nI (240 * s) := pk_mul 240 s
theorem sa_m32 (s : Nat) : 32 * nI s = nI (32 * s) := pk_mul 32 s
theorem sa_i13 (s k : Nat) : 13 * nI s + nI k = nI (13 * s + k) := by rw [sa_m13, nI_add]
theorem sa_i240 (s k : Nat) : 240 * nI s + nI k = nI (240 * s + k) := by rw [sa_m240, nI_add]
theorem sa_p1 {i : Nat} (h : 0 < i) : nI i - 1 = nI (i - 1) := by
  obtain ⟨j, rfl⟩ : ∃ j, i = j + 1 := ⟨i - 1, by omega⟩
  exact nI_pred j
theorem sa_i13p {s k : Nat} (h : 0 < k) : 13 * nI s + nI k - 1 = nI (13 * s + (k - 1)) := by
  rw [sa_i13, sa_p1 (by omega)]
  exact congrArg nI (by omega)
theorem sa_i240p {s k : Nat} (h : 0 < k) : 240 * nI s + nI k - 1 = nI (240 * s + (k - 1)) := by
  rw [sa_i240, sa_p1 (by omega)]
  exact congrArg nI (by omega)
theorem sa_ring {s i : Nat} (h : i < 2 ^ 31) : 32 * nI s + (nI i &&& 31) = nI (32 * s + i % 32) := by
  rw [pk_andN (k := 5) (by omega) (by decide), sa_m32, nI_add]
theorem sa_asb {c r t : Nat} (h : t ≤ c + r) : nI c + (nI r - nI t) = nI (c + r - t) := by
  rw [← pk_sub h, ← nI_add, Int32.sub_eq_add_neg, Int32.sub_eq_add_neg, Int32.add_assoc]
theorem sa_sle {a b : Nat} (ha : a < 2 ^ 30) (hb : b < 2 ^ 30) (h : a ≤ b) : nI a - nI b ≤ 0 := by
  rw [Int32.le_iff_toInt_le, pk_sub_toInt ha hb, show (0 : Int32).toInt = 0 from by decide]
  omega
theorem sa_on {x : Option Nat} (h : x = none) : sa_o x < 0 := by subst h; exact (by decide : (-1 : Int32) < 0)
theorem sa_os {x : Option Nat} {e : Nat} (h : x = some e) (he : e < 2 ^ 31) : ¬ sa_o x < 0 := by subst h; exact nI_pos he
theorem sa_oe {x : Option Nat} {e : Nat} (h : x = some e) : sa_o x = nI e := by subst h; rfl
theorem sa_onn {x : Option Nat} {e : Nat} (h : x = none) (he : e < 2 ^ 31) : ¬ sa_o x = nI e := by
  intro q
  have a := sa_on h
  rw [q] at a
  exact nI_pos he a
theorem sa_c0 {b : Bool} (h : b = false) : sa_c b = 0 := by subst h; rfl
theorem sa_c1 {b : Bool} (h : b = true) : ¬ sa_c b = 0 := by subst h; exact (by decide : ¬ (1 : Int32) = 0)
theorem sa_10 : ¬ (1 : Int32) = 0 := by decide
theorem sa_bt {b : Bool} (h : ¬ b = true) : b = false := by cases b <;> simp_all
/-- the part of an array that a stream owns: 13 cells -/
def sa_s (F : Nat → Nat) (s : Nat) : Nat → Nat := fun k => F (13 * s + k)
/-- the end of the last known range -/
def sa_l (R N H : Nat → Nat) (s : Nat) : Nat := if N s = 0 then R s else H (13 * s + (N s - 1))
/-- the highest of a stream -/
def sa_t (R N H : Nat → Nat) (E : Nat → Option Nat) (s : Nat) : Nat := (E s).getD (sa_l R N H s)
theorem sa_tn {R N H : Nat → Nat} {E : Nat → Option Nat} {s : Nat} (h : E s = none) : sa_t R N H E s = sa_l R N H s := by unfold sa_t; rw [h]; rfl
theorem sa_ts {R N H : Nat → Nat} {E : Nat → Option Nat} {s e : Nat} (h : E s = some e) : sa_t R N H E s = e := by unfold sa_t; rw [h]; rfl
theorem sa_l0 {R N H : Nat → Nat} {s : Nat} (h : N s = 0) : sa_l R N H s = R s := if_pos h
theorem sa_l1 {R N H : Nat → Nat} {s : Nat} (h : 0 < N s) : sa_l R N H s = H (13 * s + (N s - 1)) := if_neg (by omega)
/-- the sum over the four streams -/
def sa_sm (F : Nat → Nat) : Nat := F 0 + F 1 + F 2 + F 3
theorem sa_smd (F : Nat → Nat) : sa_sm F = F 0 + F 1 + F 2 + F 3 := rfl
theorem sa_smu {F G : Nat → Nat} {s : Nat} (hs : s < 4) (h : ∀ j, j < 4 → j ≠ s → G j = F j) : sa_sm G + F s = sa_sm F + G s := by
  have h0 := h 0 (by omega)
  have h1 := h 1 (by omega)
  have h2 := h 2 (by omega)
  have h3 := h 3 (by omega)
  rw [sa_smd, sa_smd]
  obtain rfl | rfl | rfl | rfl : s = 0 ∨ s = 1 ∨ s = 2 ∨ s = 3 := by omega
  · have a := h1 (by omega); have b := h2 (by omega); have c := h3 (by omega); omega
  · have a := h0 (by omega); have b := h2 (by omega); have c := h3 (by omega); omega
  · have a := h0 (by omega); have b := h1 (by omega); have c := h3 (by omega); omega
  · have a := h0 (by omega); have b := h1 (by omega); have c := h2 (by omega); omega
theorem sa_sml {F : Nat → Nat} {s : Nat} (hs : s < 4) : F s ≤ sa_sm F := by
  rw [sa_smd]
  obtain rfl | rfl | rfl | rfl : s = 0 ∨ s = 1 ∨ s = 2 ∨ s = 3 := by omega
  all_goals omega
/-- a stream number, or none -/
theorem sa_st (v : Int32) : (∃ s, s < 4 ∧ v = nI s) ∨ (v < 0 ∨ 3 < v) := by
  by_cases a : v < 0
  · exact Or.inr (Or.inl a)
  · obtain ⟨j, hj, rfl⟩ := nI_of a
    by_cases b : j < 4
    · exact Or.inl ⟨j, b, rfl⟩
    · exact Or.inr (Or.inr (nI_lt (a := 3) (b := j) (by omega) hj))
end
section
/-! the pure law of ranges: n ranges l k, h k, from the read point r on -/
def sg_rg (r n : Nat) (l h : Nat → Nat) : Prop := (∀ k, k < n → r ≤ l k ∧ l k < h k ∧ h k ≤ r + 24 ∧ h k ≤ 240) ∧ ∀ k, k + 1 < n → h k < l (k + 1)
def sg_im (n : Nat) (l h : Nat → Nat) (i : Nat) : Prop := ∃ k, k < n ∧ l k ≤ i ∧ i < h k
section
variable {r n : Nat} {l h : Nat → Nat}
theorem sg_lt (g : sg_rg r n l h) : ∀ d j, j + d + 1 < n → h j < l (j + d + 1) := by
  intro d
  induction d with
  | zero => intro j hj; exact g.2 j hj
  | succ d ih =>
    intro j hj
    have a := ih j (by omega)
    have b := (g.1 (j + d + 1) (by omega)).2.1
    have c := g.2 (j + d + 1) (by omega)
    show h j < l (j + d + 1 + 1)
    omega
theorem sg_hl {j k : Nat} (g : sg_rg r n l h) (hjk : j < k) (hk : k < n) : h j < l k := by
  have a := sg_lt g (k - j - 1) j (by omega)
  rw [show j + (k - j - 1) + 1 = k from by omega] at a
  exact a
theorem sg_hh {j k : Nat} (g : sg_rg r n l h) (hjk : j ≤ k) (hk : k < n) : h j ≤ h k := by
  rcases Nat.lt_or_eq_of_le hjk with a | a
  · have b := sg_hl g a hk
    have c := (g.1 k hk).2.1
    omega
  · rw [a]; exact Nat.le_refl _
theorem sg_ll {j k : Nat} (g : sg_rg r n l h) (hjk : j ≤ k) (hk : k < n) : l j ≤ l k := by
  rcases Nat.lt_or_eq_of_le hjk with a | a
  · have b := sg_hl g a hk
    have c := (g.1 j (by omega)).2.1
    omega
  · rw [a]; exact Nat.le_refl _
theorem sg_n (g : sg_rg r n l h) : ∀ k, k < n → r + 2 * k ≤ l k := by
  intro k
  induction k with
  | zero => intro hk; have a := g.1 0 hk; omega
  | succ k ih =>
    intro hk
    have a := ih (by omega)
    have b := g.1 k (by omega)
    have c := g.2 k hk
    omega
theorem sg_12 (g : sg_rg r n l h) : n ≤ 12 := by
  rcases Nat.eq_zero_or_pos n with a | a
  · omega
  · have b := sg_n g (n - 1) (by omega)
    have c := g.1 (n - 1) (by omega)
    omega
theorem sg_im0 (g : sg_rg r n l h) (hi : sg_im n l h r) : 0 < n ∧ l 0 = r := by
  obtain ⟨k, hk, a, b⟩ := hi
  rcases Nat.eq_zero_or_pos k with z | z
  · subst z
    have c := (g.1 0 hk).1
    exact ⟨hk, by omega⟩
  · have c := sg_hl g z hk
    have d := g.1 0 (by omega)
    omega
theorem sg_nh {k : Nat} (g : sg_rg r n l h) (hk : k < n) : ¬ sg_im n l h (h k) := by
  rintro ⟨j, hj, a, b⟩
  rcases Nat.lt_or_ge k j with z | z
  · have c := sg_hl g z hj
    omega
  · have c := sg_hh g z hk
    omega
theorem sg_imR {i : Nat} (g : sg_rg r n l h) (hi : sg_im n l h i) : r ≤ i ∧ i < r + 24 ∧ i < 240 := by
  obtain ⟨k, hk, a, b⟩ := hi
  have c := g.1 k hk
  omega
end
/-- what addRange leaves -/
def sg_add (n : Nat) (l h : Nat → Nat) (fr to f g n' : Nat) (l' h' : Nat → Nat) : Prop :=
  (f ≤ g ∧ g ≤ n ∧ n' + g = n + 1 + f) ∧ (∀ j, j < f → h j < fr) ∧ (∀ j, f ≤ j → j < g → fr ≤ h j ∧ l j ≤ to) ∧ (∀ j, g ≤ j → j < n → to < l j) ∧
  (f = g → l' f = fr ∧ h' f = to) ∧ (f < g → l' f = min fr (l f) ∧ h' f = max to (h (g - 1))) ∧
  (∀ k, k < f → l' k = l k ∧ h' k = h k) ∧ (∀ k, f < k → k < n' → l' k = l (k + g - f - 1) ∧ h' k = h (k + g - f - 1))
section
variable {r n fr to f g n' m : Nat} {l h l' h' : Nat → Nat}
theorem sg_aB (a : sg_add n l h fr to f g n' l' h') (hm : ∀ k, k < n → h k ≤ m) (ht : to ≤ m) : ∀ k, k < n' → h' k ≤ m := by
  obtain ⟨⟨q1, q2, q3⟩, a1, a2, a3, a4, a5, a6, a7⟩ := a
  intro k hk
  rcases Nat.lt_trichotomy k f with c | c | c
  · rw [(a6 k c).2]; exact hm k (by omega)
  · subst c
    rcases Nat.lt_or_eq_of_le q1 with d | d
    · have e := hm (g - 1) (by omega)
      rw [(a5 d).2]; omega
    · rw [(a4 d).2]; exact ht
  · rw [(a7 k c hk).2]; exact hm _ (by omega)
theorem sg_aR (a : sg_add n l h fr to f g n' l' h') (G : sg_rg r n l h) (h1 : r ≤ fr) (h2 : fr < to) (h3 : to ≤ r + 24) (h4 : to ≤ 240) : sg_rg r n' l' h' := by
  obtain ⟨⟨q1, q2, q3⟩, a1, a2, a3, a4, a5, a6, a7⟩ := a
  constructor
  · intro k hk
    rcases Nat.lt_trichotomy k f with c | c | c
    · rw [(a6 k c).2, (a6 k c).1]; exact G.1 k (by omega)
    · subst c
      rcases Nat.lt_or_eq_of_le q1 with d | d
      · have e := G.1 (g - 1) (by omega)
        have e2 := G.1 k (by omega)
        rw [(a5 d).1, (a5 d).2]; omega
      · rw [(a4 d).1, (a4 d).2]; omega
    · rw [(a7 k c hk).1, (a7 k c hk).2]; exact G.1 _ (by omega)
  · intro k hk
    rcases Nat.lt_trichotomy (k + 1) f with c | c | c
    · rw [(a6 k (by omega)).2, (a6 (k + 1) c).1]; exact G.2 k (by omega)
    · subst c
      have e := a1 k (by omega)
      rw [(a6 k (by omega)).2]
      rcases Nat.lt_or_eq_of_le q1 with d | d
      · have e2 := G.2 k (by omega)
        rw [(a5 d).1]; omega
      · rw [(a4 d).1]; exact e
    · rw [(a7 (k + 1) c hk).1]
      rcases Nat.lt_or_eq_of_le (Nat.le_of_lt_succ c) with b | b
      · rw [(a7 k b (by omega)).2, show k + 1 + g - f - 1 = k + g - f - 1 + 1 from by omega]
        exact G.2 _ (by omega)
      · subst b
        rw [show f + 1 + g - f - 1 = g from by omega]
        have e := a3 g (by omega) (by omega)
        rcases Nat.lt_or_eq_of_le q1 with d | d
        · have e2 := G.2 (g - 1) (by omega)
          rw [show g - 1 + 1 = g from by omega] at e2
          rw [(a5 d).2]; omega
        · rw [(a4 d).2]; exact e
theorem sg_aI (a : sg_add n l h fr to f g n' l' h') (G : sg_rg r n l h) (h2 : fr < to) (i : Nat) : sg_im n' l' h' i ↔ sg_im n l h i ∨ (fr ≤ i ∧ i < to) := by
  obtain ⟨⟨q1, q2, q3⟩, a1, a2, a3, a4, a5, a6, a7⟩ := a
  constructor
  · rintro ⟨k, hk, x, y⟩
    rcases Nat.lt_trichotomy k f with c | c | c
    · rw [(a6 k c).1] at x
      rw [(a6 k c).2] at y
      exact Or.inl ⟨k, by omega, x, y⟩
    · subst c
      rcases Nat.lt_or_eq_of_le q1 with d | d
      · rw [(a5 d).1] at x
        rw [(a5 d).2] at y
        have e1 := a2 k (by omega) d
        have e2 := a2 (g - 1) (by omega) (by omega)
        by_cases z1 : i < fr
        · exact Or.inl ⟨k, by omega, by omega, by omega⟩
        · by_cases z2 : i < to
          · exact Or.inr ⟨by omega, z2⟩
          · exact Or.inl ⟨g - 1, by omega, by omega, by omega⟩
      · rw [(a4 d).1] at x
        rw [(a4 d).2] at y
        exact Or.inr ⟨x, y⟩
    · rw [(a7 k c hk).1] at x
      rw [(a7 k c hk).2] at y
      exact Or.inl ⟨_, by omega, x, y⟩
  · rintro (⟨j, hj, x, y⟩ | ⟨x, y⟩)
    · by_cases c : j < f
      · exact ⟨j, by omega, by rw [(a6 j c).1]; exact x, by rw [(a6 j c).2]; exact y⟩
      · by_cases d : j < g
        · have e1 := sg_ll G (j := f) (k := j) (by omega) hj
          have e2 := sg_hh G (j := j) (k := g - 1) (by omega) (by omega)
          refine ⟨f, by omega, ?_, ?_⟩
          · rw [(a5 (by omega)).1]; omega
          · rw [(a5 (by omega)).2]; omega
        · have e := a7 (j + 1 + f - g) (by omega) (by omega)
          rw [show j + 1 + f - g + g - f - 1 = j from by omega] at e
          exact ⟨j + 1 + f - g, by omega, by rw [e.1]; exact x, by rw [e.2]; exact y⟩
    · refine ⟨f, by omega, ?_, ?_⟩
      · rcases Nat.lt_or_eq_of_le q1 with d | d
        · rw [(a5 d).1]; omega
        · rw [(a4 d).1]; exact x
      · rcases Nat.lt_or_eq_of_le q1 with d | d
        · rw [(a5 d).2]; omega
        · rw [(a4 d).2]; exact y
theorem sg_aL (a : sg_add n l h fr to f g n' l' h') (G : sg_rg r n l h) (h1 : r ≤ fr) (h2 : fr < to) : 0 < n' ∧ h' (n' - 1) = max to (if n = 0 then r else h (n - 1)) := by
  obtain ⟨⟨q1, q2, q3⟩, a1, a2, a3, a4, a5, a6, a7⟩ := a
  refine ⟨by omega, ?_⟩
  by_cases c : g = n
  · rw [show n' - 1 = f from by omega]
    rcases Nat.lt_or_eq_of_le q1 with d | d
    · rw [(a5 d).2, if_neg (by omega), c]
    · rw [(a4 d).2]
      by_cases e : n = 0
      · rw [if_pos e]; omega
      · have e2 := a1 (n - 1) (by omega)
        rw [if_neg e]; omega
  · have e := a3 (n - 1) (by omega) (by omega)
    have e2 := G.1 (n - 1) (by omega)
    rw [(a7 (n' - 1) (by omega) (by omega)).2, show n' - 1 + g - f - 1 = n - 1 from by omega, if_neg (by omega)]
    omega
end
/-- what a read leaves -/
def sg_rd (n : Nat) (l h : Nat → Nat) (n' : Nat) (l' h' : Nat → Nat) : Prop :=
  (l 0 + 1 = h 0 ∧ n' + 1 = n ∧ ∀ k, k < n' → l' k = l (k + 1) ∧ h' k = h (k + 1)) ∨
  (l 0 + 1 ≠ h 0 ∧ n' = n ∧ l' 0 = l 0 + 1 ∧ h' 0 = h 0 ∧ ∀ k, 0 < k → k < n → l' k = l k ∧ h' k = h k)
section
variable {r n n' m : Nat} {l h l' h' : Nat → Nat}
theorem sg_dB (a : sg_rd n l h n' l' h') (hm : ∀ k, k < n → h k ≤ m) : ∀ k, k < n' → h' k ≤ m := by
  intro k hk
  rcases a with ⟨a1, a2, a3⟩ | ⟨a1, a2, a3, a4, a5⟩
  · rw [(a3 k hk).2]; exact hm _ (by omega)
  · rcases Nat.eq_zero_or_pos k with z | z
    · subst z; rw [a4]; exact hm 0 (by omega)
    · rw [(a5 k z (by omega)).2]; exact hm k (by omega)
theorem sg_dR (a : sg_rd n l h n' l' h') (G : sg_rg r n l h) (hi : sg_im n l h r) : sg_rg (r + 1) n' l' h' := by
  obtain ⟨hn, h0⟩ := sg_im0 G hi
  have g0 := G.1 0 hn
  rcases a with ⟨a1, a2, a3⟩ | ⟨a1, a2, a3, a4, a5⟩
  · constructor
    · intro k hk
      have e := G.1 (k + 1) (by omega)
      have e2 := sg_hl G (j := 0) (k := k + 1) (by omega) (by omega)
      rw [(a3 k hk).1, (a3 k hk).2]; omega
    · intro k hk
      rw [(a3 k (by omega)).2, (a3 (k + 1) hk).1]
      exact G.2 _ (by omega)
  · subst a2
    constructor
    · intro k hk
      rcases Nat.eq_zero_or_pos k with z | z
      · subst z; rw [a3, a4]; omega
      · have e := G.1 k hk
        have e2 := sg_hl G z hk
        rw [(a5 k z hk).1, (a5 k z hk).2]; omega
    · intro k hk
      rw [(a5 (k + 1) (by omega) hk).1]
      have e := G.2 k hk
      rcases Nat.eq_zero_or_pos k with z | z
      · subst z; rw [a4]; exact e
      · rw [(a5 k z (by omega)).2]; exact e
theorem sg_dI (a : sg_rd n l h n' l' h') (G : sg_rg r n l h) (hi : sg_im n l h r) (i : Nat) : (i < r + 1 ∨ sg_im n' l' h' i) ↔ (i < r ∨ sg_im n l h i) := by
  obtain ⟨hn, h0⟩ := sg_im0 G hi
  have g0 := G.1 0 hn
  constructor
  · rintro (c | ⟨k, hk, x, y⟩)
    · by_cases d : i < r
      · exact Or.inl d
      · have e : i = r := by omega
        subst e; exact Or.inr hi
    · right
      rcases a with ⟨a1, a2, a3⟩ | ⟨a1, a2, a3, a4, a5⟩
      · rw [(a3 k hk).1] at x
        rw [(a3 k hk).2] at y
        exact ⟨k + 1, by omega, x, y⟩
      · rcases Nat.eq_zero_or_pos k with z | z
        · subst z
          rw [a3] at x
          rw [a4] at y
          exact ⟨0, hn, by omega, y⟩
        · rw [(a5 k z (by omega)).1] at x
          rw [(a5 k z (by omega)).2] at y
          exact ⟨k, by omega, x, y⟩
  · rintro (c | ⟨k, hk, x, y⟩)
    · exact Or.inl (by omega)
    · by_cases d : i < r + 1
      · exact Or.inl d
      · right
        rcases a with ⟨a1, a2, a3⟩ | ⟨a1, a2, a3, a4, a5⟩
        · rcases Nat.eq_zero_or_pos k with z | z
          · subst z; omega
          · have e := a3 (k - 1) (by omega)
            rw [show k - 1 + 1 = k from by omega] at e
            exact ⟨k - 1, by omega, by rw [e.1]; exact x, by rw [e.2]; exact y⟩
        · rcases Nat.eq_zero_or_pos k with z | z
          · subst z; exact ⟨0, by omega, by rw [a3]; omega, by rw [a4]; exact y⟩
          · exact ⟨k, by omega, by rw [(a5 k z hk).1]; exact x, by rw [(a5 k z hk).2]; exact y⟩
theorem sg_dL (a : sg_rd n l h n' l' h') (G : sg_rg r n l h) (hi : sg_im n l h r) : (if n' = 0 then r + 1 else h' (n' - 1)) = (if n = 0 then r else h (n - 1)) := by
  obtain ⟨hn, h0⟩ := sg_im0 G hi
  rw [if_neg (show ¬ n = 0 from by omega)]
  rcases a with ⟨a1, a2, a3⟩ | ⟨a1, a2, a3, a4, a5⟩
  · by_cases z : n' = 0
    · rw [if_pos z, show n - 1 = 0 from by omega]; omega
    · rw [if_neg z, (a3 (n' - 1) (by omega)).2, show n' - 1 + 1 = n - 1 from by omega]
  · subst a2
    rw [if_neg (by omega)]
    rcases Nat.eq_zero_or_pos (n' - 1) with z | z
    · rw [z, a4]
    · rw [(a5 (n' - 1) z (by omega)).2]
end
/-- the gaps: c of them, the m-th begins at q m -/
def sg_gq (r T c : Nat) (B : Nat → Prop) (q : Nat → Nat) : Prop :=
  (∀ m, m < c → B (q m) ∧ r ≤ q m ∧ q m < T) ∧ (∀ i, r ≤ i → i < T → B i → ∃ m, m < c ∧ q m = i) ∧ (∀ m m', m < m' → m' < c → q m < q m')
def sg_q (r : Nat) (h : Nat → Nat) (z m : Nat) : Nat := if m + z = 0 then r else h (m + z - 1)
theorem sg_gap {r n T c z e : Nat} {l h : Nat → Nat} {B : Nat → Prop} (G : sg_rg r n l h) (hT : ∀ k, k < n → h k ≤ T)
    (hB : ∀ i, r ≤ i → i < T → (B i ↔ ¬ sg_im n l h i ∧ (i = r ∨ sg_im n l h (i - 1))))
    (hz : (z = 1 ∧ sg_im n l h r) ∨ (z = 0 ∧ ¬ sg_im n l h r)) (he : (e = 1 ∧ (if n = 0 then r else h (n - 1)) < T) ∨ (e = 0 ∧ ¬ (if n = 0 then r else h (n - 1)) < T))
    (hc : c + z = n + e) : sg_gq r T c B (sg_q r h z) := by
  have hn : z = 1 → 0 < n ∧ l 0 = r := by
    intro z1
    rcases hz with ⟨_, b⟩ | ⟨a, _⟩
    · exact sg_im0 G b
    · omega
  have hin : ∀ m, m < c → ¬ m + z = 0 → m + z - 1 < n := by
    intro m hm hz0
    rcases he with ⟨a, _⟩ | ⟨a, _⟩ <;> omega
  have hlt : ∀ m, m < c → sg_q r h z m < T := by
    intro m hm
    unfold sg_q
    by_cases c0 : m + z = 0
    · rw [if_pos c0]
      by_cases n0 : n = 0
      · rcases he with ⟨_, b⟩ | ⟨a, _⟩
        · rw [if_pos n0] at b; exact b
        · omega
      · have a := hT 0 (by omega)
        have b := G.1 0 (by omega)
        omega
    · rw [if_neg c0]
      have d := hin m hm c0
      by_cases c1 : m + z - 1 = n - 1
      · rcases he with ⟨_, b⟩ | ⟨a, _⟩
        · rw [if_neg (by omega)] at b
          rw [c1]; exact b
        · omega
      · have a := sg_hl G (j := m + z - 1) (k := n - 1) (by omega) (by omega)
        have b := hT (n - 1) (by omega)
        have b2 := G.1 (n - 1) (by omega)
        omega
  have hge : ∀ m, m < c → r ≤ sg_q r h z m := by
    intro m hm
    unfold sg_q
    by_cases c0 : m + z = 0
    · rw [if_pos c0]; exact Nat.le_refl _
    · rw [if_neg c0]
      have a := G.1 _ (hin m hm c0)
      omega
  refine ⟨fun m hm => ⟨(hB _ (hge m hm) (hlt m hm)).mpr ?_, hge m hm, hlt m hm⟩, ?_, ?_⟩
  · unfold sg_q
    by_cases c0 : m + z = 0
    · rw [if_pos c0]
      rcases hz with ⟨a, _⟩ | ⟨_, b⟩
      · omega
      · exact ⟨b, Or.inl rfl⟩
    · rw [if_neg c0]
      have d := hin m hm c0
      have a := G.1 _ d
      exact ⟨sg_nh G d, Or.inr ⟨m + z - 1, d, by omega, by omega⟩⟩
  · intro i hr hi b
    obtain ⟨b1, b2⟩ := (hB i hr hi).mp b
    by_cases c0 : i = r
    · subst c0
      rcases hz with ⟨_, b⟩ | ⟨a, _⟩
      · exact absurd b b1
      · refine ⟨0, ?_, ?_⟩
        · rcases he with ⟨a2, _⟩ | ⟨a2, d⟩
          · omega
          · by_cases n0 : n = 0
            · rw [if_pos n0] at d; omega
            · omega
        · unfold sg_q
          rw [if_pos (by omega)]
    · rcases b2 with b2 | b2
      · exact absurd b2 c0
      · obtain ⟨k, hk, x, y⟩ := b2
        have e1 : h k = i := by
          apply Classical.byContradiction
          intro q
          exact b1 ⟨k, hk, by omega, by omega⟩
        have zle : z ≤ 1 := by rcases hz with ⟨a, _⟩ | ⟨a, _⟩ <;> omega
        refine ⟨k + 1 - z, ?_, ?_⟩
        · by_cases c1 : k + 1 < n
          · omega
          · rcases he with ⟨a2, _⟩ | ⟨a2, d⟩
            · omega
            · rw [if_neg (by omega), show n - 1 = k from by omega] at d
              omega
        · unfold sg_q
          rw [if_neg (by omega), show k + 1 - z + z - 1 = k from by omega]
          exact e1
  · intro m m' hm hm'
    have d' := hin m' hm' (by omega)
    unfold sg_q
    rw [if_neg (show ¬ m' + z = 0 from by omega)]
    by_cases c0 : m + z = 0
    · rw [if_pos c0]
      have a := G.1 _ d'
      omega
    · rw [if_neg c0]
      have a := sg_hl G (j := m + z - 1) (k := m' + z - 1) (by omega) d'
      have b := G.1 _ d'
      omega
end
section
/-! the invariant of one stream, and of all -/
def sa_S (ring bs : Nat → Int32) (R N L H : Nat → Nat) (E : Nat → Option Nat) (K : Nat → Bool) (s : Nat) : Prop :=
  R s ≤ 240 ∧ sg_rg (R s) (N s) (sa_s L s) (sa_s H s) ∧
  (∀ e, E s = some e → R s ≤ e ∧ e ≤ R s + 24 ∧ e ≤ 240 ∧ ∀ k, k < N s → sa_s H s k ≤ e) ∧
  (∀ i, i < 240 → (K (240 * s + i) = true ↔ i < R s ∨ sg_im (N s) (sa_s L s) (sa_s H s) i)) ∧
  (∀ i, i < 240 → R s ≤ i → K (240 * s + i) = true → ring (32 * s + i % 32) = bs (240 * s + i))
def sa_I (ring bs : Nat → Int32) (R N L H : Nat → Nat) (E : Nat → Option Nat) (K : Nat → Bool) : Prop :=
  (∀ s, s < 4 → sa_S ring bs R N L H E K s) ∧ sa_sm (sa_t R N H E) ≤ sa_sm R + 56
section
variable {ring bs : Nat → Int32} {R N L H : Nat → Nat} {E : Nat → Option Nat} {K : Nat → Bool} {s : Nat}
theorem sa_lh : sa_l R N H s = if N s = 0 then R s else sa_s H s (N s - 1) := rfl
theorem sa_Lf (I : sa_S ring bs R N L H E K s) : R s ≤ sa_l R N H s ∧ sa_l R N H s ≤ R s + 24 ∧ sa_l R N H s ≤ 240 ∧ ∀ k, k < N s → sa_s H s k ≤ sa_l R N H s := by
  obtain ⟨h1, G, h3, h4, h5⟩ := I
  by_cases z : N s = 0
  · rw [sa_l0 z]
    exact ⟨Nat.le_refl _, by omega, h1, fun k hk => by omega⟩
  · rw [sa_lh, if_neg z]
    have a := G.1 (N s - 1) (by omega)
    exact ⟨by omega, by omega, by omega, fun k hk => sg_hh G (by omega) (by omega)⟩
theorem sa_Tf (I : sa_S ring bs R N L H E K s) : R s ≤ sa_t R N H E s ∧ sa_t R N H E s ≤ R s + 24 ∧ sa_t R N H E s ≤ 240 ∧ ∀ k, k < N s → sa_s H s k ≤ sa_t R N H E s := by
  have a := sa_Lf I
  obtain ⟨h1, G, h3, h4, h5⟩ := I
  cases hE : E s with
  | none => rw [sa_tn hE]; exact a
  | some e => rw [sa_ts hE]; exact h3 e hE
theorem sa_lT (I : sa_S ring bs R N L H E K s) : sa_l R N H s ≤ sa_t R N H E s := by
  have a := sa_Tf I
  have b := sa_Lf I
  by_cases z : N s = 0
  · rw [sa_l0 z]; exact a.1
  · have c := a.2.2.2 (N s - 1) (by omega)
    rw [sa_lh, if_neg z]; exact c
theorem sa_Kn (I : sa_S ring bs R N L H E K s) {i : Nat} (hi : i < 240) (hr : R s ≤ i) : K (240 * s + i) = true ↔ sg_im (N s) (sa_s L s) (sa_s H s) i := by
  have a := I.2.2.2.1 i hi
  constructor
  · intro b
    rcases a.mp b with c | c
    · omega
    · exact c
  · intro b
    exact a.mpr (Or.inr b)
/-- what the reference's scan for the top finds -/
theorem sa_Ks (I : sa_S ring bs R N L H E K s) : (0 < sa_l R N H s → K (240 * s + (sa_l R N H s - 1)) = true) ∧ ∀ i, sa_l R N H s ≤ i → i < 240 → K (240 * s + i) = false := by
  have b := sa_Lf I
  constructor
  · intro p
    refine (I.2.2.2.1 _ (by omega)).mpr ?_
    by_cases z : N s = 0
    · rw [sa_l0 z] at p ⊢
      exact Or.inl (by omega)
    · have c := I.2.1.1 (N s - 1) (by omega)
      rw [sa_lh, if_neg z] at p ⊢
      exact Or.inr ⟨N s - 1, by omega, by omega, by omega⟩
  · intro i h1 h2
    apply sa_bt
    intro q
    rcases (I.2.2.2.1 i h2).mp q with c | ⟨k, hk, x, y⟩
    · omega
    · have d := b.2.2.2 k hk
      omega
/-- whether a stream may go up to u -/
def sa_ok (R N H : Nat → Nat) (E : Nat → Option Nat) (s u : Nat) : Prop := u ≤ R s + 24 ∧ u ≤ 240 ∧ u + sa_sm (sa_t R N H E) ≤ sa_t R N H E s + sa_sm R + 56
/-- a stream whose cells stay -/
theorem sa_S_fr {ring' bs' : Nat → Int32} {R' N' L' H' : Nat → Nat} {E' : Nat → Option Nat} {K' : Nat → Bool}
    (hR : R' s = R s) (hN : N' s = N s) (hL : ∀ k, k < 13 → L' (13 * s + k) = L (13 * s + k)) (hH : ∀ k, k < 13 → H' (13 * s + k) = H (13 * s + k)) (hE : E' s = E s)
    (hK : ∀ i, i < 240 → K' (240 * s + i) = K (240 * s + i)) (hr : ∀ j, j < 32 → ring' (32 * s + j) = ring (32 * s + j)) (hb : ∀ i, i < 240 → bs' (240 * s + i) = bs (240 * s + i))
    (I : sa_S ring bs R N L H E K s) : sa_S ring' bs' R' N' L' H' E' K' s ∧ sa_t R' N' H' E' s = sa_t R N H E s := by
  have n12 := sg_12 I.2.1
  obtain ⟨h1, G, h3, h4, h5⟩ := I
  have eL : ∀ k, k < N s → sa_s L' s k = sa_s L s k := fun k hk => hL k (by omega)
  have eH : ∀ k, k < N s → sa_s H' s k = sa_s H s k := fun k hk => hH k (by omega)
  have eI : ∀ i, sg_im (N s) (sa_s L' s) (sa_s H' s) i ↔ sg_im (N s) (sa_s L s) (sa_s H s) i := by
    intro i
    constructor
    · rintro ⟨k, hk, x, y⟩
      exact ⟨k, hk, by rw [← eL k hk]; exact x, by rw [← eH k hk]; exact y⟩
    · rintro ⟨k, hk, x, y⟩
      exact ⟨k, hk, by rw [eL k hk]; exact x, by rw [eH k hk]; exact y⟩
  constructor
  · unfold sa_S
    rw [hR, hN, hE]
    refine ⟨h1, ⟨?_, ?_⟩, ?_, ?_, ?_⟩
    · intro k hk
      rw [eL k hk, eH k hk]; exact G.1 k hk
    · intro k hk
      rw [eL (k + 1) hk, eH k (by omega)]; exact G.2 k hk
    · intro e he
      obtain ⟨a, b, c, d⟩ := h3 e he
      exact ⟨a, b, c, fun k hk => by rw [eH k hk]; exact d k hk⟩
    · intro i hi
      rw [hK i hi, eI i]; exact h4 i hi
    · intro i hi a b
      rw [hK i hi] at b
      rw [hr (i % 32) (Nat.mod_lt _ (by omega)), hb i hi]; exact h5 i hi a b
  · have e : sa_l R' N' H' s = sa_l R N H s := by
      rw [sa_lh, sa_lh, hR, hN]
      by_cases z : N s = 0
      · rw [if_pos z, if_pos z]
      · rw [if_neg z, if_neg z, eH _ (by omega)]
    unfold sa_t
    rw [hE, e]
end
end
section
/-! the component's small methods -/
section
variable {ring bs : Nat → Int32} {R N L H : Nat → Nat} {E : Nat → Option Nat} {K : Nat → Bool} {s : Nat}
variable {post : Int32 → Prop}
theorem sx_isS (hs : s < 4) (h : post 1) : wpX_isStream post (nI s) :=
  br_f (nI_pos (by omega)) (br_f (nI_nlt (a := 3) (b := s) (by omega) (by omega)) h)
theorem sx_isS0 {v : Int32} (hv : v < 0 ∨ 3 < v) (h : post 0) : wpX_isStream post v := by
  by_cases a : v < 0
  · exact br_t a h
  · rcases hv with b | b
    · exact absurd b a
    · exact br_f a (br_t b h)
theorem sx_lim (hs : s < 4) (hR : R s ≤ 240) (h : post (nI (min (R s + 24) 240))) : wpX_limitOf post (ring, sa_f R, sa_e E, sa_f N, sa_f L, sa_f H) (nI s) := by
  unfold wpX_limitOf
  dsimp only
  refine ⟨vp_in_nI hs (by omega), nm_r (e' := nI (R s + 24)) (by rw [sa_fr (by omega)]; exact nI_add _ 24) ?_⟩
  refine pk_le (R s + 24) 240 (fun a => ?_) (fun a => ?_)
  · rw [Nat.min_eq_left a] at h; exact h
  · rw [Nat.min_eq_right (by omega)] at h; exact h
theorem sx_last (hs : s < 4) (hN : N s ≤ 12) (h : post (nI (sa_l R N H s))) : wpX_lastKnown post (ring, sa_f R, sa_e E, sa_f N, sa_f L, sa_f H) (nI s) := by
  unfold wpX_lastKnown
  dsimp only
  refine ⟨vp_in_nI hs (by omega), nm_r (e' := nI (N s)) (sa_fr (by omega)) ?_⟩
  refine pk_le (N s) 0 (fun a => ⟨vp_in_nI hs (by omega), ?_⟩) (fun a => ?_)
  · rw [sa_l0 (by omega)] at h
    rw [sa_fr (by omega)]; exact h
  · rw [sa_l1 a] at h
    rw [sa_i13p a, sa_fr (by omega)]
    exact ⟨vp_in_nI (by omega) (by omega), h⟩
theorem sx_highest (hs : s < 4) (hN : N s ≤ 12) (hE : ∀ e, E s = some e → e ≤ 240) (h : post (nI (sa_t R N H E s))) : wpX_highest post (ring, sa_f R, sa_e E, sa_f N, sa_f L, sa_f H) (nI s) := by
  unfold wpX_highest
  dsimp only
  refine sx_isS hs (br_f sa_10 ⟨vp_in_nI hs (by omega), ?_⟩)
  rw [sa_er (by omega)]
  cases he : E s with
  | none =>
    rw [sa_tn he] at h
    refine br_t (sa_on rfl) ⟨vp_in_nI hs (by omega), nm_r (e' := nI (N s)) (sa_fr (by omega)) ?_⟩
    refine pk_le (N s) 0 (fun a => ⟨vp_in_nI hs (by omega), ?_⟩) (fun a => ?_)
    · rw [sa_l0 (by omega)] at h
      rw [sa_fr (by omega)]; exact h
    · rw [sa_l1 a] at h
      rw [sa_i13p a, sa_fr (by omega)]
      exact ⟨vp_in_nI (by omega) (by omega), h⟩
  | some e =>
    have b := hE e he
    rw [sa_ts he] at h
    exact br_f (sa_os rfl (by omega)) ⟨vp_in_nI hs (by omega), h⟩
theorem sx_cr1 {n c j : Nat} (hj : j < 4) (hN : N j ≤ 12) (hE : ∀ e, E j = some e → e ≤ 240) (hc : sa_t R N H E j ≤ c + R j)
    (h : wX_credit_5 post ring (sa_f R) (sa_e E) (sa_f N) (sa_f L) (sa_f H) n (nI (c + R j - sa_t R N H E j)) (nI (j + 1))) : wX_credit_5 post ring (sa_f R) (sa_e E) (sa_f N) (sa_f L) (sa_f H) (n + 1) (nI c) (nI j) :=
  br_f (nI_ge (a := j) (b := 4) hj (by omega)) (sx_highest hj hN hE ⟨vp_in_nI hj (by omega), nm_r (e' := nI (c + R j - sa_t R N H E j)) (by rw [sa_fr (by omega)]; exact sa_asb hc) (nm_r (e' := nI (j + 1)) (nI_1 j) h)⟩)
theorem sx_credit (I : sa_I ring bs R N L H E K) (h : post (nI (sa_sm R + 56 - sa_sm (sa_t R N H E)))) : wpX_credit post (ring, sa_f R, sa_e E, sa_f N, sa_f L, sa_f H) := by
  unfold wpX_credit
  dsimp only
  have r0 := sa_Tf (I.1 0 (by omega))
  have r1 := sa_Tf (I.1 1 (by omega))
  have r2 := sa_Tf (I.1 2 (by omega))
  have r3 := sa_Tf (I.1 3 (by omega))
  have hS := I.2
  have hN : ∀ j, j < 4 → N j ≤ 12 := fun j hj => sg_12 (I.1 j hj).2.1
  have hE : ∀ j, j < 4 → ∀ e, E j = some e → e ≤ 240 := fun j hj e he => ((I.1 j hj).2.2.1 e he).2.2.1
  rw [sa_smd, sa_smd] at hS h
  have r0' := r0.1
  have r1' := r1.1
  have r2' := r2.1
  have r3' := r3.1
  refine ⟨5, sx_cr1 (c := 56) (j := 0) (by omega) (hN 0 (by omega)) (hE 0 (by omega)) (by omega) ?_⟩
  refine sx_cr1 (j := 1) (by omega) (hN 1 (by omega)) (hE 1 (by omega)) (by omega) ?_
  refine sx_cr1 (j := 2) (by omega) (hN 2 (by omega)) (hE 2 (by omega)) (by omega) ?_
  refine sx_cr1 (j := 3) (by omega) (hN 3 (by omega)) (hE 3 (by omega)) (by omega) ?_
  refine br_t (nI_le (a := 4) (b := 4) (by omega) (by omega)) ?_
  have e : 56 + R 0 - sa_t R N H E 0 + R 1 - sa_t R N H E 1 + R 2 - sa_t R N H E 2 + R 3 - sa_t R N H E 3 = R 0 + R 1 + R 2 + R 3 + 56 - (sa_t R N H E 0 + sa_t R N H E 1 + sa_t R N H E 2 + sa_t R N H E 3) := by omega
  rw [e]
  exact h
theorem sx_may {u : Nat} (I : sa_I ring bs R N L H E K) (hs : s < 4) (hu : u < 2 ^ 31) (h1 : sa_ok R N H E s u → post 1) (h0 : ¬ sa_ok R N H E s u → post 0) : wpX_mayReach post (ring, sa_f R, sa_e E, sa_f N, sa_f L, sa_f H) (nI s) (nI u) := by
  unfold wpX_mayReach
  dsimp only
  have J := I.1 s hs
  have t := sa_Tf J
  have hS := I.2
  have tS := sa_sml (F := sa_t R N H E) hs
  refine sx_lim hs J.1 ?_
  refine pk_le u (min (R s + 24) 240) (fun a => ?_) (fun a => h0 (fun q => ?_))
  · refine sx_highest hs (sg_12 J.2.1) (fun e he => (J.2.2.1 e he).2.2.1) ?_
    by_cases b : u ≤ sa_t R N H E s
    · refine nm_e (br_t (sa_sle (by omega) (by omega) b) (h1 ⟨by omega, by omega, by omega⟩))
    · refine nm_r (e' := nI (u - sa_t R N H E s)) (pk_sub (by omega)) (br_f (nI_nle (by omega) (by omega)) (sx_credit I ?_))
      refine pk_lt (sa_sm R + 56 - sa_sm (sa_t R N H E)) (u - sa_t R N H E s) (fun c => h0 (fun q => ?_)) (fun c => h1 ⟨by omega, by omega, by omega⟩) rfl rfl ?_ (by omega)
      · have q3 := q.2.2
        omega
      · have q0 := (I.1 0 (by omega)).1
        have q1 := (I.1 1 (by omega)).1
        have q2 := (I.1 2 (by omega)).1
        have q3 := (I.1 3 (by omega)).1
        rw [sa_smd R]
        omega
  · have q1 := q.1
    have q2 := q.2.1
    omega
theorem sx_isKL {a : Nat} (hs : s < 4) (G : sg_rg (R s) (N s) (sa_s L s) (sa_s H s)) (ha : a < 2 ^ 31) : ∀ d k, k + d = N s →
    ((∃ j, k ≤ j ∧ j < N s ∧ sa_s L s j ≤ a ∧ a < sa_s H s j) → post 1) → ((¬ ∃ j, k ≤ j ∧ j < N s ∧ sa_s L s j ≤ a ∧ a < sa_s H s j) → post 0) →
    wX_isKnown_5 post (nI s) (nI a) ring (sa_f R) (sa_e E) (sa_f N) (sa_f L) (sa_f H) (d + 1) (nI (13 * s + k)) := by
  have n12 := sg_12 G
  have hx : 13 * nI s + sa_f N (nI s).toNatClampNeg = nI (13 * s + N s) := by rw [sa_fr (by omega), sa_i13]
  intro d
  induction d with
  | zero =>
    intro k hk h1 h0
    exact ⟨vp_in_nI hs (by omega), pk_le (13 * s + N s) (13 * s + k) (fun z => h0 (fun ⟨j, q1, q2, _⟩ => by omega)) (fun z => by omega) hx rfl (by omega) (by omega)⟩
  | succ d ih =>
    intro k hk h1 h0
    have g := G.1 k (by omega)
    refine ⟨vp_in_nI hs (by omega), pk_le (13 * s + N s) (13 * s + k) (fun z => by omega) (fun z => ⟨vp_in_nI (by omega) (by omega), ?_⟩) hx rfl (by omega) (by omega)⟩
    have nx : (¬ (sa_s L s k ≤ a ∧ a < sa_s H s k)) → wX_isKnown_5 post (nI s) (nI a) ring (sa_f R) (sa_e E) (sa_f N) (sa_f L) (sa_f H) (d + 1) (nI (13 * s + k + 1)) := by
      intro nk
      refine ih (k + 1) (by omega) (fun ⟨j, q1, q2, q3⟩ => h1 ⟨j, by omega, q2, q3⟩) (fun q => h0 (fun ⟨j, q1, q2, q3⟩ => ?_))
      by_cases e : j = k
      · subst e; exact nk q3
      · exact q ⟨j, by omega, q2, q3⟩
    refine pk_lt a (sa_s L s k) (fun z => nm_r (e' := nI (13 * s + k + 1)) (nI_1 _) (nx (fun q => by omega))) (fun z => ⟨vp_in_nI (by omega) (by omega), ?_⟩) rfl (sa_fr (by omega)) ha (by omega)
    exact pk_le (sa_s H s k) a (fun y => nm_r (e' := nI (13 * s + k + 1)) (nI_1 _) (nx (fun q => by omega))) (fun y => h1 ⟨k, Nat.le_refl _, by omega, z, y⟩) (sa_fr (by omega)) rfl (by omega) ha
theorem sx_isK {a : Nat} (hs : s < 4) (G : sg_rg (R s) (N s) (sa_s L s) (sa_s H s)) (ha : a < 2 ^ 31)
    (h1 : sg_im (N s) (sa_s L s) (sa_s H s) a → post 1) (h0 : ¬ sg_im (N s) (sa_s L s) (sa_s H s) a → post 0) : wpX_isKnown post (ring, sa_f R, sa_e E, sa_f N, sa_f L, sa_f H) (nI s) (nI a) := by
  unfold wpX_isKnown
  dsimp only
  refine nm_r (e' := nI (13 * s + 0)) (sa_m13 s) ⟨N s + 1, ?_⟩
  refine sx_isKL hs G ha (N s) 0 (by omega) (fun ⟨j, q1, q2, q3⟩ => h1 ⟨j, q2, q3⟩) (fun q => h0 (fun ⟨j, q2, q3⟩ => q ⟨j, by omega, q2, q3⟩))
end
end
section
/-! the reference's small methods -/
section
variable {ring bs : Nat → Int32} {R N L H : Nat → Nat} {E : Nat → Option Nat} {K : Nat → Bool} {s : Nat}
variable {post : Int32 → Prop}
theorem sy_bad (hs : s < 4) (h : post 0) : wpY_bad post (nI s) :=
  br_f (nI_pos (by omega)) (br_t (nI_le (a := s) (b := 3) (by omega) (by omega)) h)
theorem sy_bad1 {v : Int32} (hv : v < 0 ∨ 3 < v) (h : post 1) : wpY_bad post v := by
  by_cases a : v < 0
  · exact br_t a h
  · rcases hv with b | b
    · exact absurd b a
    · exact br_f a (br_f (Int32.not_le.mpr b) h)
theorem sy_lim (hs : s < 4) (hR : R s ≤ 240) (h : post (nI (min (R s + 24) 240))) : wpY_limit post (sa_b K, bs, sa_f R, sa_e E) (nI s) := by
  unfold wpY_limit
  dsimp only
  have e : sa_f R (nI s).toNatClampNeg + 24 = nI (R s + 24) := by rw [sa_fr (by omega)]; exact nI_add _ 24
  rw [e]
  refine ⟨vp_in_nI hs (by omega), ?_⟩
  refine pk_le 240 (R s + 24) (fun a => ?_) (fun a => ⟨vp_in_nI hs (by omega), ?_⟩)
  · rw [Nat.min_eq_right a] at h; exact h
  · rw [Nat.min_eq_left (by omega)] at h; exact h
theorem sy_topL {t : Nat} (hs : s < 4) (h1 : 0 < t → K (240 * s + (t - 1)) = true) (h2 : ∀ i, t ≤ i → i < 240 → K (240 * s + i) = false) (hp : post (nI t)) :
    ∀ d, t + d ≤ 240 → wY_top_20 post (nI s) (sa_b K) bs (sa_f R) (sa_e E) (d + 1) (nI (t + d)) := by
  intro d
  induction d with
  | zero =>
    intro hd
    refine pk_le t 0 (fun a => ?_) (fun a => ?_)
    · have e : t = 0 := by omega
      subst e; exact hp
    · rw [show t + 0 = t from rfl, sa_i240p a, sa_br (by omega)]
      exact ⟨vp_in_nI (by omega) (by omega), br_f (sa_c1 (h1 a)) hp⟩
  | succ d ih =>
    intro hd
    refine pk_le (t + (d + 1)) 0 (fun a => by omega) (fun a => ?_)
    have e : 240 * s + (t + (d + 1) - 1) = 240 * s + (t + d) := by omega
    rw [sa_i240p a, e, sa_br (by omega)]
    exact ⟨vp_in_nI (by omega) (by omega), br_t (sa_c0 (h2 _ (by omega) (by omega))) (nm_r (e' := nI (t + d)) (pk_m1 (t + d)) (ih (by omega)))⟩
theorem sy_top (hs : s < 4) (I : sa_S ring bs R N L H E K s) (h : post (nI (sa_t R N H E s))) : wpY_top post (sa_b K, bs, sa_f R, sa_e E) (nI s) := by
  unfold wpY_top
  dsimp only
  refine ⟨vp_in_nI hs (by omega), ?_⟩
  rw [sa_er (by omega)]
  cases he : E s with
  | none =>
    rw [sa_tn he] at h
    have a := sa_Lf I
    have b := sa_Ks I
    have c := sy_topL (bs := bs) (R := R) (E := E) hs b.1 b.2 h (240 - sa_l R N H s) (by omega)
    rw [show sa_l R N H s + (240 - sa_l R N H s) = 240 from by omega] at c
    exact br_t (sa_on rfl) ⟨_, c⟩
  | some e =>
    have b := (I.2.2.1 e he).2.2.1
    rw [sa_ts he] at h
    exact br_f (sa_os rfl (by omega)) ⟨vp_in_nI hs (by omega), h⟩
/-- the top that fits asks: of stream s at least u -/
def sy_m (T : Nat → Nat) (s u j : Nat) : Nat := if j = s then max u (T j) else T j
theorem sy_f52 {J : Int32 → Int32 → Int32 → Prop} {x1 x2 : Int32} {a b j t : Nat} (hj : j < 4) (h : J (nI (a + t)) (nI (b + R j)) (nI (j + 1))) :
    wY_fits_52 post J x1 x2 (nI b) (nI j) (nI t) (nI a) (sa_b K) bs (sa_f R) (sa_e E) :=
  nm_r (e' := nI (a + t)) (nI_add _ _) ⟨vp_in_nI hj (by omega), nm_r (e' := nI (b + R j)) (by rw [sa_fr (by omega)]; exact nI_add _ _) (nm_r (e' := nI (j + 1)) (nI_1 j) h)⟩
theorem sy_f1 {n u a b j : Nat} (I : sa_I ring bs R N L H E K) (hs : s < 4) (hu : u < 2 ^ 31) (hj : j < 4)
    (h : wY_fits_19 post (nI s) (nI u) (sa_b K) bs (sa_f R) (sa_e E) n (nI (a + sy_m (sa_t R N H E) s u j)) (nI (b + R j)) (nI (j + 1))) : wY_fits_19 post (nI s) (nI u) (sa_b K) bs (sa_f R) (sa_e E) (n + 1) (nI a) (nI b) (nI j) := by
  have J := I.1 j hj
  have t := sa_Tf J
  refine br_f (nI_ge (a := j) (b := 4) hj (by omega)) (sy_top hj J ?_)
  refine pk_eq j s (fun e => ?_) (fun e => ?_)
  · unfold sy_m at h
    rw [if_pos e] at h
    refine pk_le u (sa_t R N H E j) (fun c => ?_) (fun c => ?_)
    · rw [Nat.max_eq_right c] at h
      exact sy_f52 hj h
    · rw [Nat.max_eq_left (by omega)] at h
      exact sy_f52 hj h
  · unfold sy_m at h
    rw [if_neg e] at h
    exact sy_f52 hj h
theorem sy_msum {T : Nat → Nat} {u : Nat} (hs : s < 4) : sy_m T s u 0 + sy_m T s u 1 + sy_m T s u 2 + sy_m T s u 3 + T s = sa_sm T + max u (T s) := by
  have a := sa_smu (F := T) (G := sy_m T s u) hs (fun j _ hj => if_neg hj)
  rw [show sy_m T s u s = max u (T s) from if_pos rfl] at a
  exact a
theorem sy_fits {u : Nat} (I : sa_I ring bs R N L H E K) (hs : s < 4) (hu : u < 2 ^ 31) (h1 : sa_ok R N H E s u → post 1) (h0 : ¬ sa_ok R N H E s u → post 0) : wpY_fits post (sa_b K, bs, sa_f R, sa_e E) (nI s) (nI u) := by
  unfold wpY_fits
  dsimp only
  have J := I.1 s hs
  have t := sa_Tf J
  have hS := I.2
  have tS := sa_sml (F := sa_t R N H E) hs
  have ms := sy_msum (T := sa_t R N H E) (u := u) hs
  have q0 := (I.1 0 (by omega)).1
  have q1 := (I.1 1 (by omega)).1
  have q2 := (I.1 2 (by omega)).1
  have q3 := (I.1 3 (by omega)).1
  have hR : sa_sm R = R 0 + R 1 + R 2 + R 3 := rfl
  refine sy_lim hs J.1 ?_
  refine pk_le u (min (R s + 24) 240) (fun a => ?_) (fun a => h0 (fun q => ?_))
  · refine ⟨5, sy_f1 (a := 0) (b := 0) (j := 0) I hs hu (by omega) ?_⟩
    refine sy_f1 (j := 1) I hs hu (by omega) ?_
    refine sy_f1 (j := 2) I hs hu (by omega) ?_
    refine sy_f1 (j := 3) I hs hu (by omega) ?_
    refine br_t (nI_le (a := 4) (b := 4) (by omega) (by omega)) ?_
    refine pk_lt (0 + R 0 + R 1 + R 2 + R 3 + 56) (0 + sy_m (sa_t R N H E) s u 0 + sy_m (sa_t R N H E) s u 1 + sy_m (sa_t R N H E) s u 2 + sy_m (sa_t R N H E) s u 3) (fun c => h0 (fun q => ?_)) (fun c => h1 ⟨by omega, by omega, by omega⟩) (nI_add _ 56) rfl (by omega) (by omega)
    have q4 := q.2.2
    omega
  · have q1 := q.1
    have q2 := q.2.1
    omega
theorem sy_isK {a : Nat} (hs : s < 4) (ha : a < 2 ^ 31) (h1 : a < 240 → K (240 * s + a) = true → post 1) (h0 : (a < 240 → K (240 * s + a) = false) → post 0) : wpY_isKnown post (sa_b K, bs, sa_f R, sa_e E) (nI s) (nI a) := by
  unfold wpY_isKnown
  dsimp only
  refine pk_le 240 a (fun c => h0 (fun q => by omega)) (fun c => ?_)
  rw [sa_i240, sa_br (by omega)]
  refine ⟨vp_in_nI (by omega) (by omega), ?_⟩
  by_cases k : K (240 * s + a) = true
  · exact br_f (sa_c1 k) (h1 c k)
  · exact br_t (sa_c0 (sa_bt k)) (h0 (fun _ => sa_bt k))
/-- where the reference sees a gap begin -/
def sy_B (R : Nat → Nat) (K : Nat → Bool) (s i : Nat) : Prop := K (240 * s + i) = false ∧ (i = R s ∨ K (240 * s + (i - 1)) = true)
theorem sy_begins {i : Nat} (hs : s < 4) (hi : i < 240) (hr : R s ≤ i) (h1 : sy_B R K s i → post 1) (h0 : ¬ sy_B R K s i → post 0) : wpY_begins post (sa_b K, bs, sa_f R, sa_e E) (nI s) (nI i) := by
  unfold wpY_begins
  dsimp only
  refine sy_isK hs (by omega) (fun _ c => br_f sa_10 (h0 (fun q => ?_))) (fun c => br_t rfl ⟨vp_in_nI hs (by omega), ?_⟩)
  · have d := q.1
    rw [c] at d
    exact absurd d (by decide)
  · refine pk_eq i (R s) (fun e => h1 ⟨c hi, Or.inl e⟩) (fun e => ?_) rfl (sa_fr (by omega))
    rw [sa_p1 (by omega)]
    refine sy_isK hs (by omega) (fun _ d => br_f sa_10 (h1 ⟨c hi, Or.inr d⟩)) (fun d => br_t rfl (h0 (fun q => ?_)))
    rcases q.2 with q2 | q2
    · exact e q2
    · rw [d (by omega)] at q2
      exact absurd q2 (by decide)
end
end
section
/-! the reference's loops that only read -/
section
variable {ring bs : Nat → Int32} {R N L H : Nat → Nat} {E : Nat → Option Nat} {K : Nat → Bool} {s : Nat}
variable {post : Int32 → Prop}
theorem sy_rbL {c : Nat} (hs : s < 4) (hR : R s ≤ 240) (hc : c < 240) (h1 : ∀ j, j < c → R s + j < 240 ∧ K (240 * s + (R s + j)) = true) (h2 : R s + c < 240 → K (240 * s + (R s + c)) = false) (hp : post (nI c)) :
    ∀ d k, k + d = c → wY_readable_11 post (nI s) (sa_b K) bs (sa_f R) (sa_e E) (d + 1) (nI k) := by
  intro d
  induction d with
  | zero =>
    intro k hk
    have e : k = c := by omega
    subst e
    refine pk_le 240 k (fun a => by omega) (fun a => ⟨vp_in_nI hs (by omega), ?_⟩)
    rw [sa_fr (by omega), nI_add]
    refine sy_isK hs (by omega) (fun a b => ?_) (fun _ => br_t rfl hp)
    rw [h2 a] at b
    exact absurd b (by decide)
  | succ d ih =>
    intro k hk
    refine pk_le 240 k (fun a => by omega) (fun a => ⟨vp_in_nI hs (by omega), ?_⟩)
    rw [sa_fr (by omega), nI_add]
    refine sy_isK hs (by omega) (fun a b => br_f sa_10 (nm_r (e' := nI (k + 1)) (nI_1 k) (ih (k + 1) (by omega)))) (fun b => ?_)
    have q := h1 k (by omega)
    have b2 := b q.1
    rw [q.2] at b2
    exact absurd b2 (by decide)
theorem sy_gapsL {c : Nat} {q : Nat → Nat} (hs : s < 4) (I : sa_S ring bs R N L H E K s) (Q : sg_gq (R s) (sa_t R N H E s) c (sy_B R K s) q) (hc : c < 2 ^ 31) (hp : post (nI c)) :
    ∀ d i m, i + d = sa_t R N H E s → R s ≤ i → m ≤ c → (∀ m', m' < m → q m' < i) → (∀ m', m ≤ m' → m' < c → i ≤ q m') → wY_gaps_18 post (nI s) (sa_b K) bs (sa_f R) (sa_e E) (d + 1) (nI m) (nI i) := by
  have t := sa_Tf I
  obtain ⟨Q1, Q2, Q3⟩ := Q
  intro d
  induction d with
  | zero =>
    intro i m hi hr hm a b
    refine sy_top hs I (pk_le (sa_t R N H E s) i (fun x => ?_) (fun x => by omega))
    have e : m = c := by
      apply Classical.byContradiction
      intro z
      have x := b m (Nat.le_refl _) (by omega)
      have y := Q1 m (by omega)
      omega
    rw [e]
    exact hp
  | succ d ih =>
    intro i m hi hr hm a b
    refine sy_top hs I (pk_le (sa_t R N H E s) i (fun x => by omega) (fun x => ?_))
    refine sy_begins hs (by omega) hr (fun y => br_f sa_10 ?_) (fun y => br_t rfl ?_)
    · obtain ⟨m', x1, x2⟩ := Q2 i hr x y
      have e : m' = m := by
        apply Classical.byContradiction
        intro z
        rcases Nat.lt_or_ge m' m with z1 | z1
        · have := a m' z1
          omega
        · have z2 := b m (Nat.le_refl _) (by omega)
          have z3 := Q3 m m' (by omega) x1
          omega
      subst e
      refine nm_r (e' := nI (m' + 1)) (nI_1 _) (nm_r (e' := nI (i + 1)) (nI_1 _) (ih (i + 1) (m' + 1) (by omega) (by omega) (by omega) ?_ ?_))
      · intro k hk
        by_cases z : k = m'
        · subst z; omega
        · have := a k (by omega)
          omega
      · intro k hk1 hk2
        have := Q3 m' k (by omega) hk2
        omega
    · refine nm_r (e' := nI (i + 1)) (nI_1 _) (ih (i + 1) m (by omega) (by omega) hm ?_ ?_)
      · intro k hk
        have := a k hk
        omega
      · intro k hk1 hk2
        have z1 := b k hk1 hk2
        have z2 : q k ≠ i := by
          intro z3
          have z4 := (Q1 k hk2).1
          rw [z3] at z4
          exact y z4
        omega
theorem sy_gapL {c : Nat} {q : Nat → Nat} {v : Int32} (hs : s < 4) (I : sa_S ring bs R N L H E K s) (Q : sg_gq (R s) (sa_t R N H E s) c (sy_B R K s) q) (hc : c < 2 ^ 31)
    (h0 : (∀ m, m < c → ¬ nI m = v) → post (-4)) (h1 : ∀ m, m < c → nI m = v → post (nI (q m))) :
    ∀ d i m, i + d = sa_t R N H E s → R s ≤ i → m ≤ c → (∀ m', m' < m → q m' < i ∧ ¬ nI m' = v) → (∀ m', m ≤ m' → m' < c → i ≤ q m') → wY_gap_19 post (nI s) v (sa_b K) bs (sa_f R) (sa_e E) (d + 1) (nI m) (nI i) := by
  have t := sa_Tf I
  obtain ⟨Q1, Q2, Q3⟩ := Q
  intro d
  induction d with
  | zero =>
    intro i m hi hr hm a b
    refine sy_top hs I (pk_le (sa_t R N H E s) i (fun x => ?_) (fun x => by omega))
    have e : m = c := by
      apply Classical.byContradiction
      intro z
      have x := b m (Nat.le_refl _) (by omega)
      have y := Q1 m (by omega)
      omega
    subst e
    exact h0 (fun m' hm' => (a m' hm').2)
  | succ d ih =>
    intro i m hi hr hm a b
    refine sy_top hs I (pk_le (sa_t R N H E s) i (fun x => by omega) (fun x => ?_))
    refine sy_begins hs (by omega) hr (fun y => br_f sa_10 ?_) (fun y => br_t rfl ?_)
    · obtain ⟨m', x1, x2⟩ := Q2 i hr x y
      have e : m' = m := by
        apply Classical.byContradiction
        intro z
        rcases Nat.lt_or_ge m' m with z1 | z1
        · have := (a m' z1).1
          omega
        · have z2 := b m (Nat.le_refl _) (by omega)
          have z3 := Q3 m m' (by omega) x1
          omega
      subst e
      refine br_c (fun w => ?_) (fun w => ?_)
      · have z := h1 m' x1 w
        rw [x2] at z
        exact z
      · refine nm_r (e' := nI (m' + 1)) (nI_1 _) (nm_r (e' := nI (i + 1)) (nI_1 _) (ih (i + 1) (m' + 1) (by omega) (by omega) (by omega) ?_ ?_))
        · intro k hk
          by_cases z : k = m'
          · subst z; exact ⟨by omega, w⟩
          · have := a k (by omega)
            exact ⟨by omega, this.2⟩
        · intro k hk1 hk2
          have := Q3 m' k (by omega) hk2
          omega
    · refine nm_r (e' := nI (i + 1)) (nI_1 _) (ih (i + 1) m (by omega) (by omega) hm ?_ ?_)
      · intro k hk
        have := a k hk
        exact ⟨by omega, this.2⟩
      · intro k hk1 hk2
        have z1 := b k hk1 hk2
        have z2 : q k ≠ i := by
          intro z3
          have z4 := (Q1 k hk2).1
          rw [z3] at z4
          exact y z4
        omega
theorem sy_alL {M : Nat} (I : sa_I ring bs R N L H E K) (hs : s < 4) (hM : M ≤ 240) (hk : ∀ i, i ≤ 240 → (sa_ok R N H E s i ↔ i ≤ M)) (hp : post (nI M)) :
    ∀ d i, i + d = 241 → wY_allowed_29 post (nI s) (sa_b K) bs (sa_f R) (sa_e E) (d + 1) (nI (min (i - 1) M)) (nI i) := by
  intro d
  induction d with
  | zero =>
    intro i hi
    refine pk_lt 240 i (fun a => ?_) (fun a => by omega)
    rw [Nat.min_eq_right (by omega)]
    exact hp
  | succ d ih =>
    intro i hi
    have n := ih (i + 1) (by omega)
    refine pk_lt 240 i (fun a => by omega) (fun a => ?_)
    refine sy_fits I hs (by omega) (fun b => br_f sa_10 (nm_r (e' := nI (i + 1)) (nI_1 i) ?_)) (fun b => br_t rfl (nm_r (e' := nI (i + 1)) (nI_1 i) ?_))
    · have c := (hk i (by omega)).mp b
      rw [show min (i + 1 - 1) M = i from by omega] at n
      exact n
    · have c : ¬ i ≤ M := fun z => b ((hk i (by omega)).mpr z)
      rw [show min (i + 1 - 1) M = min (i - 1) M from by omega] at n
      exact n
end
end
section
/-! the component's ranges: open, drop, add -/
def sx_op (F : Nat → Nat) (p d : Nat) : Nat → Nat := fun j => if p < j ∧ j ≤ p + d then F (j - 1) else F j
def sx_dr (F : Nat → Nat) (p g d : Nat) : Nat → Nat := fun j => if p ≤ j ∧ j < p + d then F (j + g) else F j
theorem sx_op0 {F : Nat → Nat} {p : Nat} : sx_op F p 0 = F := by
  funext j
  exact if_neg (by omega)
theorem sx_op1 {F : Nat → Nat} {p d : Nat} : sx_op (sa_u F (p + d + 1) (F (p + d))) p d = sx_op F p (d + 1) := by
  funext j
  unfold sx_op
  by_cases a : p < j ∧ j ≤ p + d
  · rw [if_pos a, if_pos (by omega), sa_un (by omega)]
  · by_cases b : j = p + d + 1
    · rw [if_neg a, if_pos (by omega), b, sa_us]
      rfl
    · rw [if_neg a, if_neg (by omega), sa_un b]
theorem sx_dr0 {F : Nat → Nat} {p g : Nat} : sx_dr F p g 0 = F := by
  funext j
  exact if_neg (by omega)
theorem sx_dr1 {F : Nat → Nat} {p g d : Nat} : sx_dr (sa_u F p (F (p + g))) (p + 1) g d = sx_dr F p g (d + 1) := by
  funext j
  unfold sx_dr
  by_cases a : p + 1 ≤ j ∧ j < p + 1 + d
  · rw [if_pos a, if_pos (by omega), sa_un (by omega)]
  · by_cases b : j = p
    · rw [if_neg a, if_pos (by omega), b, sa_us]
    · rw [if_neg a, if_neg (by omega), sa_un b]
section
variable {ring bs : Nat → Int32} {R N L H : Nat → Nat} {E : Nat → Option Nat} {K : Nat → Bool} {s : Nat}
variable {post : SX → Prop}
theorem sx_openL {p : Nat} (hs : s < 4) (hN : N s ≤ 12) : ∀ d (L H : Nat → Nat), p + d ≤ 12 →
    post (ring, sa_f R, sa_e E, sa_f (sa_u N s (N s + 1)), sa_f (sx_op L (13 * s + p) d), sa_f (sx_op H (13 * s + p) d)) →
    wX_openRange_13 post (nI s) (nI p) (nI (13 * s)) (d + 1) (nI (p + d)) ring (sa_f R) (sa_e E) (sa_f N) (sa_f L) (sa_f H) := by
  intro d
  induction d with
  | zero =>
    intro L H hd hp
    rw [sx_op0, sx_op0] at hp
    refine br_t (nI_le (Nat.le_refl _) (by omega)) ⟨vp_in_nI hs (by omega), vp_in_nI hs (by omega), nm_r (e' := sa_f (sa_u N s (N s + 1))) ?_ hp⟩
    rw [sa_fr (by omega), nI_clamp (by omega), nI_1, sa_fu]
  | succ d ih =>
    intro L H hd hp
    rw [← sx_op1, ← sx_op1] at hp
    have n := ih _ _ (by omega) hp
    have e1 : nI (13 * s) + nI (p + (d + 1)) = nI (13 * s + p + d + 1) := (nI_add _ _).trans (congrArg nI (by omega))
    have e2 : nI (13 * s) + nI (p + (d + 1)) - 1 = nI (13 * s + p + d) := by rw [e1]; exact nI_pred _
    have u : ∀ F : Nat → Nat, upd (sa_f F) (nI (13 * s) + nI (p + (d + 1))).toNatClampNeg (sa_f F (nI (13 * s) + nI (p + (d + 1)) - 1).toNatClampNeg) = sa_f (sa_u F (13 * s + p + d + 1) (F (13 * s + p + d))) := by
      intro F
      rw [e2, e1, sa_fr (by omega), nI_clamp (by omega), sa_fu]
    have v1 : vp_in (nI (13 * s) + nI (p + (d + 1))) 52 := by rw [e1]; exact vp_in_nI (by omega) (by omega)
    have v2 : vp_in (nI (13 * s) + nI (p + (d + 1)) - 1) 52 := by rw [e2]; exact vp_in_nI (by omega) (by omega)
    exact br_f (nI_ge (by omega) (by omega)) ⟨v2, v1, nm_r (u L) ⟨v2, v1, nm_r (u H) (nm_r (e' := nI (p + d)) (pk_m1 (p + d)) n)⟩⟩
theorem sx_open {p : Nat} (hs : s < 4) (hN : N s ≤ 12) (hp : p ≤ N s)
    (h : post (ring, sa_f R, sa_e E, sa_f (sa_u N s (N s + 1)), sa_f (sx_op L (13 * s + p) (N s - p)), sa_f (sx_op H (13 * s + p) (N s - p)))) : wpX_openRange post (ring, sa_f R, sa_e E, sa_f N, sa_f L, sa_f H) (nI s) (nI p) := by
  unfold wpX_openRange
  dsimp only
  refine nm_r (e' := nI (13 * s)) (sa_m13 s) ⟨vp_in_nI hs (by omega), nm_r (e' := nI (p + (N s - p))) ?_ ⟨N s - p + 1, sx_openL hs hN (N s - p) L H (by omega) h⟩⟩
  rw [sa_fr (by omega)]
  exact congrArg nI (by omega)
theorem sx_dropL {g : Nat} (hs : s < 4) (hN : N s ≤ 12) : ∀ d k (L H : Nat → Nat), k + g + d = N s →
    post (ring, sa_f R, sa_e E, sa_f (sa_u N s (N s - g)), sa_f (sx_dr L (13 * s + k) g d), sa_f (sx_dr H (13 * s + k) g d)) →
    wX_dropRanges_14 post (nI s) (nI (13 * s)) (nI g) (d + 1) (nI k) ring (sa_f R) (sa_e E) (sa_f N) (sa_f L) (sa_f H) := by
  intro d
  have eN : sa_f N (nI s).toNatClampNeg = nI (N s) := sa_fr (by omega)
  induction d with
  | zero =>
    intro k L H hd hp
    rw [sx_dr0, sx_dr0] at hp
    refine ⟨vp_in_nI hs (by omega), pk_le (N s) (k + g) (fun _ => ⟨vp_in_nI hs (by omega), vp_in_nI hs (by omega), nm_r (e' := sa_f (sa_u N s (N s - g))) ?_ hp⟩) (fun a => by omega) eN (nI_add _ _)⟩
    rw [eN, nI_clamp (by omega), pk_sub (by omega), sa_fu]
  | succ d ih =>
    intro k L H hd hp
    rw [← sx_dr1, ← sx_dr1] at hp
    have n := ih (k + 1) _ _ (by omega) hp
    have e1 : nI (13 * s) + nI k = nI (13 * s + k) := nI_add _ _
    have e2 : nI (13 * s) + nI k + nI g = nI (13 * s + k + g) := by rw [e1, nI_add]
    have u : ∀ F : Nat → Nat, upd (sa_f F) (nI (13 * s) + nI k).toNatClampNeg (sa_f F (nI (13 * s) + nI k + nI g).toNatClampNeg) = sa_f (sa_u F (13 * s + k) (F (13 * s + k + g))) := by
      intro F
      rw [e2, e1, sa_fr (by omega), nI_clamp (by omega), sa_fu]
    have v1 : vp_in (nI (13 * s) + nI k) 52 := by rw [e1]; exact vp_in_nI (by omega) (by omega)
    have v2 : vp_in (nI (13 * s) + nI k + nI g) 52 := by rw [e2]; exact vp_in_nI (by omega) (by omega)
    exact ⟨vp_in_nI hs (by omega), pk_le (N s) (k + g) (fun a => by omega) (fun _ => ⟨v2, v1, nm_r (u L) ⟨v2, v1, nm_r (u H) (nm_r (e' := nI (k + 1)) (nI_1 k) n)⟩⟩) eN (nI_add _ _)⟩
theorem sx_drop {p q : Nat} (hs : s < 4) (hN : N s ≤ 12) (hp : p ≤ q) (hq : q ≤ N s)
    (h : post (ring, sa_f R, sa_e E, sa_f (sa_u N s (N s - (q - p))), sa_f (sx_dr L (13 * s + p) (q - p) (N s - q)), sa_f (sx_dr H (13 * s + p) (q - p) (N s - q)))) : wpX_dropRanges post (ring, sa_f R, sa_e E, sa_f N, sa_f L, sa_f H) (nI s) (nI p) (nI q) := by
  unfold wpX_dropRanges
  dsimp only
  exact nm_r (e' := nI (13 * s)) (sa_m13 s) (nm_r (e' := nI (q - p)) (pk_sub hp) ⟨N s - q + 1, sx_dropL hs hN (N s - q) p L H (by omega) h⟩)
/-- the frame of addRange: the cells of the other streams -/
def sx_fr (F F' : Nat → Nat) (s : Nat) : Prop := ∀ j, (j < 13 * s ∨ 13 * s + 13 ≤ j) → F' j = F j
/-- what addRange asks of its end -/
def sx_aP (post : SX → Prop) (ring : Nat → Int32) (R N L H : Nat → Nat) (E : Nat → Option Nat) (s fr to : Nat) : Prop :=
  ∀ f g n' L' H', sg_add (N s) (sa_s L s) (sa_s H s) fr to f g n' (sa_s L' s) (sa_s H' s) → sx_fr L L' s → sx_fr H H' s →
    post (ring, sa_f R, sa_e E, sa_f (sa_u N s n'), sa_f L', sa_f H')
theorem sx_a197 {x y f : Nat} {L' H' : Nat → Nat} (hs : s < 4) (hf : f ≤ 12) (h : post (ring, sa_f R, sa_e E, sa_f N, sa_f (sa_u L' (13 * s + f) x), sa_f (sa_u H' (13 * s + f) y))) :
    wX_addRange_197 post (nI (13 * s)) (nI f) (nI x) (nI y) ring (sa_f R) (sa_e E) (sa_f N) (sa_f L') (sa_f H') := by
  have e1 : nI (13 * s) + nI f = nI (13 * s + f) := nI_add _ _
  have u : ∀ (F : Nat → Nat) z, upd (sa_f F) (nI (13 * s) + nI f).toNatClampNeg (nI z) = sa_f (sa_u F (13 * s + f) z) := by
    intro F z
    rw [e1, nI_clamp (by omega), sa_fu]
  have v1 : vp_in (nI (13 * s) + nI f) 52 := by rw [e1]; exact vp_in_nI (by omega) (by omega)
  exact ⟨v1, nm_r (u L' x) ⟨v1, nm_r (u H' y) h⟩⟩
theorem sx_a123 {J : Int32 → Int32 → Int32 → Int32 → Prop} {x1 x3 x5 x6 z : Int32} {k y : Nat} (hs : s < 4) (hk : k < 13) (hH : sa_s H s k < 2 ^ 31) (hy : y < 2 ^ 31)
    (h : J (nI (k + 1)) z (nI (max y (sa_s H s k))) (nI (k + 1))) : wX_addRange_123 post J x1 x3 (nI (13 * s)) x5 x6 (nI y) (nI k) z ring (sa_f R) (sa_e E) (sa_f N) (sa_f L) (sa_f H) := by
  have e1 : nI (13 * s) + nI k = nI (13 * s + k) := nI_add _ _
  have e2 : sa_f H (nI (13 * s) + nI k).toNatClampNeg = nI (sa_s H s k) := by rw [e1]; exact sa_fr (by omega)
  have v1 : vp_in (nI (13 * s) + nI k) 52 := by rw [e1]; exact vp_in_nI (by omega) (by omega)
  refine ⟨v1, pk_le (sa_s H s k) y (fun a => ?_) (fun a => ⟨v1, ?_⟩) e2 rfl hH hy⟩
  · rw [Nat.max_eq_left a] at h
    exact nm_r (nI_1 k) (nm_r (nI_1 k) h)
  · rw [Nat.max_eq_right (by omega)] at h
    exact nm_r e2 (nm_r (nI_1 k) (nm_r (nI_1 k) h))
theorem sx_aEnd {n f g x y : Nat} {fr to : Nat} (hs : s < 4) (G : sg_rg (R s) (N s) (sa_s L s) (sa_s H s))
    (q1 : f ≤ g) (q2 : g ≤ N s) (a1 : ∀ j, j < f → sa_s H s j < fr) (a2 : ∀ j, f ≤ j → j < N s → fr ≤ sa_s H s j)
    (b1 : ∀ j, f ≤ j → j < g → sa_s L s j ≤ to) (b2 : ∀ j, g ≤ j → j < N s → to < sa_s L s j)
    (c1 : f = g → x = fr ∧ y = to) (c2 : f < g → x = min fr (sa_s L s f) ∧ y = max to (sa_s H s (g - 1))) (h : sx_aP post ring R N L H E s fr to) :
    wX_addRange_72 post (nI s) (nI to) (nI (13 * s)) (nI (N s)) (nI f) ring (sa_f R) (sa_e E) (sa_f N) (sa_f L) (sa_f H) (n + 1) (nI g) (nI x) (nI y) (nI (N s)) := by
  have n12 := sg_12 G
  refine br_t (nI_le (Nat.le_refl _) (by omega)) (pk_eq f g (fun e => ?_) (fun e => ?_))
  · refine sx_open hs n12 (by omega) ?_
    show wX_addRange_197 post (nI (13 * s)) (nI f) (nI x) (nI y) ring (sa_f R) (sa_e E) _ _ _
    refine sx_a197 hs (by omega) (h f g (N s + 1) _ _ ⟨⟨q1, q2, by omega⟩, a1, fun j u v => ⟨a2 j u (by omega), b1 j u v⟩, b2, ?_, ?_, ?_, ?_⟩ ?_ ?_)
    · intro _
      exact ⟨sa_us.trans (c1 e).1, sa_us.trans (c1 e).2⟩
    · intro w
      omega
    · intro k hk
      constructor
      · refine (sa_un (by omega)).trans ?_
        exact if_neg (by omega)
      · refine (sa_un (by omega)).trans ?_
        exact if_neg (by omega)
    · intro k hk1 hk2
      have w : 13 * s + (k + g - f - 1) = 13 * s + k - 1 := by omega
      constructor
      · refine (sa_un (by omega)).trans ((if_pos (by omega)).trans ?_)
        show L (13 * s + k - 1) = L (13 * s + (k + g - f - 1))
        rw [w]
      · refine (sa_un (by omega)).trans ((if_pos (by omega)).trans ?_)
        show H (13 * s + k - 1) = H (13 * s + (k + g - f - 1))
        rw [w]
    · intro j hj
      exact (sa_un (by omega)).trans (if_neg (by omega))
    · intro j hj
      exact (sa_un (by omega)).trans (if_neg (by omega))
  · have e1 : nI f + 1 = nI (f + 1) := nI_1 f
    rw [e1]
    refine sx_drop hs n12 (by omega) q2 ?_
    show wX_addRange_197 post (nI (13 * s)) (nI f) (nI x) (nI y) ring (sa_f R) (sa_e E) _ _ _
    refine sx_a197 hs (by omega) (h f g (N s - (g - (f + 1))) _ _ ⟨⟨q1, q2, by omega⟩, a1, fun j u v => ⟨a2 j u (by omega), b1 j u v⟩, b2, ?_, ?_, ?_, ?_⟩ ?_ ?_)
    · intro w
      omega
    · intro w
      exact ⟨sa_us.trans (c2 w).1, sa_us.trans (c2 w).2⟩
    · intro k hk
      constructor
      · refine (sa_un (by omega)).trans ?_
        exact if_neg (by omega)
      · refine (sa_un (by omega)).trans ?_
        exact if_neg (by omega)
    · intro k hk1 hk2
      have w : 13 * s + (k + g - f - 1) = 13 * s + k + (g - (f + 1)) := by omega
      constructor
      · refine (sa_un (by omega)).trans ((if_pos (by omega)).trans ?_)
        show L (13 * s + k + (g - (f + 1))) = L (13 * s + (k + g - f - 1))
        rw [w]
      · refine (sa_un (by omega)).trans ((if_pos (by omega)).trans ?_)
        show H (13 * s + k + (g - (f + 1))) = H (13 * s + (k + g - f - 1))
        rw [w]
    · intro j hj
      exact (sa_un (by omega)).trans (if_neg (by omega))
    · intro j hj
      exact (sa_un (by omega)).trans (if_neg (by omega))
theorem sx_a72 {f fr to : Nat} (hs : s < 4) (G : sg_rg (R s) (N s) (sa_s L s) (sa_s H s)) (hfr : fr < 2 ^ 31) (hto : to < 2 ^ 31)
    (a1 : ∀ j, j < f → sa_s H s j < fr) (a2 : ∀ j, f ≤ j → j < N s → fr ≤ sa_s H s j) (h : sx_aP post ring R N L H E s fr to) : ∀ d g x y k, k + d = N s → f ≤ g → g ≤ k → x ≤ fr → y < 2 ^ 31 →
    (∀ j, f ≤ j → j < g → sa_s L s j ≤ to) → (∀ j, g ≤ j → j < k → to < sa_s L s j) →
    (f = g → x = fr ∧ y = to) → (f < g → x = min fr (sa_s L s f) ∧ y = max to (sa_s H s (g - 1))) →
    wX_addRange_72 post (nI s) (nI to) (nI (13 * s)) (nI (N s)) (nI f) ring (sa_f R) (sa_e E) (sa_f N) (sa_f L) (sa_f H) (d + 1) (nI g) (nI x) (nI y) (nI k) := by
  have n12 := sg_12 G
  intro d
  induction d with
  | zero =>
    intro g x y k hk q1 q2 hx hy b1 b2 c1 c2
    have e : k = N s := by omega
    subst e
    exact sx_aEnd hs G q1 q2 a1 a2 b1 b2 c1 c2 h
  | succ d ih =>
    intro g x y k hk q1 q2 hx hy b1 b2 c1 c2
    have gk := G.1 k (by omega)
    have e1 : nI (13 * s) + nI k = nI (13 * s + k) := nI_add _ _
    have e2 : sa_f L (nI (13 * s) + nI k).toNatClampNeg = nI (sa_s L s k) := by rw [e1]; exact sa_fr (by omega)
    have v1 : vp_in (nI (13 * s) + nI k) 52 := by rw [e1]; exact vp_in_nI (by omega) (by omega)
    refine br_f (nI_ge (by omega) (by omega)) ⟨v1, pk_lt to (sa_s L s k) (fun z => ?_) (fun z => ⟨v1, ?_⟩) rfl e2 hto (by omega)⟩
    · refine nm_r (nI_1 k) (ih g x y (k + 1) (by omega) q1 (by omega) hx hy b1 ?_ c1 c2)
      intro j u v
      by_cases w : j = k
      · subst w; exact z
      · exact b2 j u (by omega)
    · have eg : g = k := by
        apply Classical.byContradiction
        intro w
        have w1 := b2 g (Nat.le_refl _) (by omega)
        have w2 := sg_ll G (j := g) (k := k) (by omega) (by omega)
        omega
      subst eg
      have nx : wX_addRange_72 post (nI s) (nI to) (nI (13 * s)) (nI (N s)) (nI f) ring (sa_f R) (sa_e E) (sa_f N) (sa_f L) (sa_f H) (d + 1) (nI (g + 1)) (nI (min x (sa_s L s g))) (nI (max y (sa_s H s g))) (nI (g + 1)) := by
        refine ih (g + 1) _ _ (g + 1) (by omega) (by omega) (Nat.le_refl _) (by omega) (by omega) ?_ ?_ ?_ ?_
        · intro j u v
          by_cases w : j = g
          · subst w; exact z
          · exact b1 j u (by omega)
        · intro j u v
          omega
        · intro w
          omega
        · intro _
          rw [show g + 1 - 1 = g from rfl]
          rcases Nat.lt_or_eq_of_le q1 with w | w
          · obtain ⟨w1, w2⟩ := c2 w
            have w3 := sg_ll G (j := f) (k := g) q1 (by omega)
            have w4 := sg_hh G (j := g - 1) (k := g) (by omega) (by omega)
            exact ⟨by omega, by omega⟩
          · obtain ⟨w1, w2⟩ := c1 w
            rw [w1, w2, w]
            exact ⟨rfl, rfl⟩
      refine pk_le x (sa_s L s g) (fun w => ?_) (fun w => ⟨v1, ?_⟩) rfl e2 (by omega) (by omega)
      · rw [Nat.min_eq_left w] at nx
        exact sx_a123 hs (by omega) (by omega) hy nx
      · rw [Nat.min_eq_right (by omega)] at nx
        rw [e2]
        exact sx_a123 hs (by omega) (by omega) hy nx
theorem sx_a20 {fr to : Nat} (hs : s < 4) (G : sg_rg (R s) (N s) (sa_s L s) (sa_s H s)) (hfr : fr < 2 ^ 31) (hto : to < 2 ^ 31) (h : sx_aP post ring R N L H E s fr to) :
    ∀ d f k, k + d = N s → f ≤ k → (∀ j, j < f → sa_s H s j < fr) → (∀ j, f ≤ j → j < k → fr ≤ sa_s H s j) →
    wX_addRange_20 post (nI s) (nI fr) (nI to) (nI (13 * s)) (nI (N s)) ring (sa_f R) (sa_e E) (sa_f N) (sa_f L) (sa_f H) (d + 1) (nI f) (nI k) := by
  have n12 := sg_12 G
  intro d
  induction d with
  | zero =>
    intro f k hk hf a1 a2
    have e : k = N s := by omega
    subst e
    refine br_t (nI_le (Nat.le_refl _) (by omega)) ⟨N s - f + 1, ?_⟩
    exact sx_a72 hs G hfr hto a1 a2 h (N s - f) f fr to f (by omega) (Nat.le_refl _) (Nat.le_refl _) (Nat.le_refl _) hto (fun j u v => by omega) (fun j u v => by omega) (fun _ => ⟨rfl, rfl⟩) (fun w => by omega)
  | succ d ih =>
    intro f k hk hf a1 a2
    have gk := G.1 k (by omega)
    have e1 : nI (13 * s) + nI k = nI (13 * s + k) := nI_add _ _
    have e2 : sa_f H (nI (13 * s) + nI k).toNatClampNeg = nI (sa_s H s k) := by rw [e1]; exact sa_fr (by omega)
    have v1 : vp_in (nI (13 * s) + nI k) 52 := by rw [e1]; exact vp_in_nI (by omega) (by omega)
    refine br_f (nI_ge (by omega) (by omega)) ⟨v1, pk_le fr (sa_s H s k) (fun z => ?_) (fun z => ?_) rfl e2 hfr (by omega)⟩
    · refine nm_r (nI_1 k) (ih f (k + 1) (by omega) (by omega) a1 ?_)
      intro j u v
      by_cases w : j = k
      · subst w; exact z
      · exact a2 j u (by omega)
    · refine nm_r (nI_1 k) (nm_r (nI_1 k) (ih (k + 1) (k + 1) (by omega) (by omega) ?_ (fun j u v => by omega)))
      intro j u
      have w := sg_hh G (j := j) (k := k) (by omega) (by omega)
      omega
theorem sx_add {fr to : Nat} (hs : s < 4) (G : sg_rg (R s) (N s) (sa_s L s) (sa_s H s)) (hfr : fr < 2 ^ 31) (hto : to < 2 ^ 31) (h : sx_aP post ring R N L H E s fr to) : wpX_addRange post (ring, sa_f R, sa_e E, sa_f N, sa_f L, sa_f H) (nI s) (nI fr) (nI to) := by
  unfold wpX_addRange
  dsimp only
  exact nm_r (sa_m13 s) ⟨vp_in_nI hs (by omega), nm_r (sa_fr (by omega)) ⟨N s + 1, sx_a20 hs G hfr hto h (N s) 0 0 (by omega) (Nat.le_refl _) (fun j u => by omega) (fun j u v => by omega)⟩⟩
end
end
section
/-! a piece: bytes, ring and marks -/
def sp_w (x : Int32) (m : Nat) : Int32 := (x >>> ((8 * nI m) &&& 31)) &&& 255
def sp_c (K : Nat → Bool) (p : Nat) : Nat → Nat
  | 0 => 0
  | k + 1 => sp_c K p k + (if K (p + k) = true then 0 else 1)
def sp_k (K : Nat → Bool) (p d : Nat) : Nat → Bool := fun j => if p ≤ j ∧ j < p + d then true else K j
def sp_b (K : Nat → Bool) (bs : Nat → Int32) (x : Int32) (p d : Nat) : Nat → Int32 := fun j => if p ≤ j ∧ j < p + d ∧ K j = false then sp_w x (j - p) else bs j
def sp_r (K : Nat → Bool) (ring : Nat → Int32) (x : Int32) (s off fr : Nat) : Nat → Nat → Int32
  | 0 => ring
  | k + 1 => if K (240 * s + (fr + k)) = true then sp_r K ring x s off fr k else upd (sp_r K ring x s off fr k) (32 * s + (fr + k) % 32) (sp_w x (fr + k - off))
section
variable {K : Nat → Bool} {ring bs : Nat → Int32} {x : Int32} {p k s off fr : Nat}
theorem sp_ct (h : K (p + k) = true) : sp_c K p (k + 1) = sp_c K p k := by
  show sp_c K p k + (if K (p + k) = true then 0 else 1) = _
  rw [if_pos h]; rfl
theorem sp_cf (h : K (p + k) = false) : sp_c K p (k + 1) = sp_c K p k + 1 := by
  show sp_c K p k + (if K (p + k) = true then 0 else 1) = _
  rw [if_neg (by rw [h]; decide)]
theorem sp_cle : sp_c K p k ≤ k := by
  induction k with
  | zero => exact Nat.le_refl _
  | succ k ih =>
    by_cases a : K (p + k) = true
    · rw [sp_ct a]; omega
    · rw [sp_cf (sa_bt a)]; omega
theorem sp_c0 (h : ∀ i, i < k → K (p + i) = true) : sp_c K p k = 0 := by
  induction k with
  | zero => rfl
  | succ k ih => rw [sp_ct (h k (by omega))]; exact ih (fun i hi => h i (by omega))
theorem sp_cadd {a : Nat} : sp_c K p (a + k) = sp_c K p a + sp_c K (p + a) k := by
  induction k with
  | zero => rfl
  | succ k ih =>
    show sp_c K p (a + k) + (if K (p + (a + k)) = true then 0 else 1) = sp_c K p a + (sp_c K (p + a) k + (if K (p + a + k) = true then 0 else 1))
    rw [ih, Nat.add_assoc p a k]; omega
theorem sp_k0 : sp_k K p 0 = K := by
  funext j
  exact if_neg (by omega)
theorem sp_kt (h : K (p + k) = true) : sp_k K p (k + 1) = sp_k K p k := by
  funext j
  unfold sp_k
  by_cases a : p ≤ j ∧ j < p + k
  · rw [if_pos a, if_pos (by omega)]
  · rw [if_neg a]
    by_cases b : j = p + k
    · rw [if_pos (by omega), b, h]
    · rw [if_neg (by omega)]
theorem sp_kf : sa_u (sp_k K p k) (p + k) true = sp_k K p (k + 1) := by
  funext j
  by_cases b : j = p + k
  · rw [b, sa_us]
    exact (if_pos (by omega)).symm
  · rw [sa_un b]
    unfold sp_k
    by_cases a : p ≤ j ∧ j < p + k
    · rw [if_pos a, if_pos (by omega)]
    · rw [if_neg a, if_neg (by omega)]
theorem sp_kn : sp_k K p k (p + k) = K (p + k) := if_neg (by omega)
theorem sp_kall (h : ∀ i, i < k → K (p + i) = true) : sp_k K p k = K := by
  funext j
  unfold sp_k
  by_cases a : p ≤ j ∧ j < p + k
  · have b := h (j - p) (by omega)
    rw [show p + (j - p) = j from by omega] at b
    rw [if_pos a, b]
  · rw [if_neg a]
theorem sp_b0 : sp_b K bs x p 0 = bs := by
  funext j
  exact if_neg (fun ⟨a, b, _⟩ => by omega)
theorem sp_bt (h : K (p + k) = true) : sp_b K bs x p (k + 1) = sp_b K bs x p k := by
  funext j
  unfold sp_b
  by_cases a : p ≤ j ∧ j < p + k ∧ K j = false
  · rw [if_pos a, if_pos ⟨a.1, by omega, a.2.2⟩]
  · rw [if_neg a, if_neg]
    rintro ⟨b1, b2, b3⟩
    by_cases c : j = p + k
    · rw [c, h] at b3
      exact absurd b3 (by decide)
    · exact a ⟨b1, by omega, b3⟩
theorem sp_bf (h : K (p + k) = false) : upd (sp_b K bs x p k) (p + k) (sp_w x k) = sp_b K bs x p (k + 1) := by
  funext j
  by_cases b : j = p + k
  · rw [b, pk_us]
    unfold sp_b
    rw [if_pos (show p ≤ p + k ∧ p + k < p + (k + 1) ∧ K (p + k) = false from ⟨by omega, by omega, h⟩), show p + k - p = k from by omega]
  · rw [pk_un b]
    unfold sp_b
    by_cases a : p ≤ j ∧ j < p + k ∧ K j = false
    · rw [if_pos a, if_pos ⟨a.1, by omega, a.2.2⟩]
    · rw [if_neg a, if_neg]
      rintro ⟨b1, b2, b3⟩
      exact a ⟨b1, by omega, b3⟩
theorem sp_ball (h : ∀ i, i < k → K (p + i) = true) : sp_b K bs x p k = bs := by
  funext j
  unfold sp_b
  rw [if_neg]
  rintro ⟨b1, b2, b3⟩
  have b := h (j - p) (by omega)
  rw [show p + (j - p) = j from by omega, b3] at b
  exact absurd b (by decide)
theorem sp_rt (h : K (240 * s + (fr + k)) = true) : sp_r K ring x s off fr (k + 1) = sp_r K ring x s off fr k := if_pos h
theorem sp_rf (h : K (240 * s + (fr + k)) = false) : sp_r K ring x s off fr (k + 1) = upd (sp_r K ring x s off fr k) (32 * s + (fr + k) % 32) (sp_w x (fr + k - off)) := if_neg (by rw [h]; decide)
theorem sp_rA {j : Nat} (h : ∀ i, fr ≤ i → i < fr + k → K (240 * s + i) = false → j ≠ 32 * s + i % 32) : sp_r K ring x s off fr k j = ring j := by
  induction k with
  | zero => rfl
  | succ k ih =>
    have n := ih (fun i a b c => h i a (by omega) c)
    by_cases a : K (240 * s + (fr + k)) = true
    · rw [sp_rt a]; exact n
    · rw [sp_rf (sa_bt a), pk_un (h (fr + k) (by omega) (by omega) (sa_bt a))]; exact n
theorem sp_rB {i : Nat} (hk : k ≤ 32) (h1 : fr ≤ i) (h2 : i < fr + k) (h3 : K (240 * s + i) = false) : sp_r K ring x s off fr k (32 * s + i % 32) = sp_w x (i - off) := by
  induction k with
  | zero => omega
  | succ k ih =>
    by_cases e : i = fr + k
    · subst e
      rw [sp_rf h3, pk_us]
    · have n := ih (by omega) (by omega)
      by_cases a : K (240 * s + (fr + k)) = true
      · rw [sp_rt a]; exact n
      · rw [sp_rf (sa_bt a), pk_un (by omega)]; exact n
end
section
variable {ring bs : Nat → Int32} {R N L H : Nat → Nat} {E : Nat → Option Nat} {K : Nat → Bool} {s : Nat}
variable {post : Int32 → SX → Prop} {x : Int32} {off fr to len : Nat}
theorem sp_xL (hs : s < 4) (G : sg_rg (R s) (N s) (sa_s L s) (sa_s H s)) (hk : ∀ i, fr ≤ i → i < to → (K (240 * s + i) = true ↔ sg_im (N s) (sa_s L s) (sa_s H s) i)) (hof : off ≤ fr) (hft : fr < to) (hto : to ≤ 240)
    (h : sx_aP (post (nI (sp_c K (240 * s + fr) (to - fr)))) (sp_r K ring x s off fr (to - fr)) R N L H E s fr to) : ∀ d k, k + d = to - fr →
    wX_piece_100 post (nI s) (nI off) x (nI to) (nI fr) (d + 1) (nI (sp_c K (240 * s + fr) k)) (nI (fr + k)) (sp_r K ring x s off fr k) (sa_f R) (sa_e E) (sa_f N) (sa_f L) (sa_f H) := by
  intro d
  induction d with
  | zero =>
    intro k hd
    have e : k = to - fr := by omega
    subst e
    refine br_t (nI_le (by omega) (by omega)) (br_f (nI_ge hft (by omega)) ?_)
    exact sx_add hs G (by omega) (by omega) (fun f g n' L' H' a b c => h f g n' L' H' a b c)
  | succ d ih =>
    intro k hd
    have n := ih (k + 1) (by omega)
    have hi := hk (fr + k) (by omega) (by omega)
    have ea : 240 * s + fr + k = 240 * s + (fr + k) := by omega
    refine br_f (nI_ge (by omega) (by omega)) (sx_isK hs G (by omega) (fun a => ?_) (fun a => ?_))
    · have b := hi.mpr a
      rw [sp_rt b, sp_ct (by rw [ea]; exact b)] at n
      exact br_f sa_10 (nm_r (nI_1 (fr + k)) n)
    · have b : K (240 * s + (fr + k)) = false := sa_bt (fun q => a (hi.mp q))
      rw [sp_rf b, sp_cf (by rw [ea]; exact b)] at n
      have e1 : 32 * nI s + (nI (fr + k) &&& 31) = nI (32 * s + (fr + k) % 32) := sa_ring (by omega)
      refine br_t rfl ⟨by rw [e1]; exact vp_in_nI (by omega) (by omega), nm_r (e' := upd (sp_r K ring x s off fr k) (32 * s + (fr + k) % 32) (sp_w x (fr + k - off))) ?_ (nm_r (nI_1 _) (nm_r (nI_1 (fr + k)) n))⟩
      rw [e1, nI_clamp (by omega), pk_sub (by omega)]
      rfl
theorem sp_xcore (I : sa_I ring bs R N L H E K) (hs : s < 4) (hto : to < 2 ^ 31) (hoff : off < 2 ^ 31) (h0 : ¬ sa_ok R N H E s to → post (-2) (ring, sa_f R, sa_e E, sa_f N, sa_f L, sa_f H)) (h1 : sa_ok R N H E s to → to ≤ R s → post 0 (ring, sa_f R, sa_e E, sa_f N, sa_f L, sa_f H)) (h1' : sa_ok R N H E s to → to ≤ off → post 0 (ring, sa_f R, sa_e E, sa_f N, sa_f L, sa_f H))
    (h2 : ∀ fr, fr = max off (R s) → sa_ok R N H E s to → fr < to → sx_aP (post (nI (sp_c K (240 * s + fr) (to - fr)))) (sp_r K ring x s off fr (to - fr)) R N L H E s fr to) :
    wX_piece_58 post (nI s) (nI off) x (nI to) ring (sa_f R) (sa_e E) (sa_f N) (sa_f L) (sa_f H) := by
  have J := I.1 s hs
  refine sx_may I hs hto (fun a => br_f sa_10 ⟨vp_in_nI hs (by omega), ?_⟩) (fun a => br_t rfl (h0 a))
  have hk : ∀ fr, R s ≤ fr → ∀ i, fr ≤ i → i < to → (K (240 * s + i) = true ↔ sg_im (N s) (sa_s L s) (sa_s H s) i) := by
    intro fr hfr i h3 h4
    have a2 := a.2.1
    exact sa_Kn J (by omega) (by omega)
  have a2 := a.2.1
  have hR := J.1
  refine pk_le off (R s) (fun b => ⟨vp_in_nI hs (by omega), nm_r (e' := nI (R s)) (sa_fr (by omega)) ?_⟩) (fun b => ?_) rfl (sa_fr (by omega)) hoff (by omega)
  · by_cases c : R s < to
    · exact ⟨to - R s + 1, sp_xL (fr := R s) hs J.2.1 (hk (R s) (Nat.le_refl _)) b c a2 (h2 (R s) (by omega) a c) (to - R s) 0 (by omega)⟩
    · refine ⟨1, br_t (nI_le (by omega) (by omega)) (br_t (nI_le (by omega) (by omega)) (h1 a (by omega)))⟩
  · by_cases c : off < to
    · exact ⟨to - off + 1, sp_xL (fr := off) hs J.2.1 (hk off (by omega)) (Nat.le_refl _) c a2 (h2 off (by omega) a c) (to - off) 0 (by omega)⟩
    · refine ⟨1, br_t (nI_le (by omega) hoff) (br_t (nI_le (by omega) hoff) (h1' a (by omega)))⟩
end
section
variable {ring bs : Nat → Int32} {R N L H : Nat → Nat} {E : Nat → Option Nat} {K : Nat → Bool} {s : Nat}
variable {post : Int32 → SY → Prop} {x : Int32} {off fr to len : Nat}
theorem sp_yL (hs : s < 4) (hl : len ≤ 4) (hto : off + len ≤ 240)
    (h : post (nI (sp_c K (240 * s + off) len)) (sa_b (sp_k K (240 * s + off) len), sp_b K bs x (240 * s + off) len, sa_f R, sa_e E)) : ∀ d k, k + d = len →
    wY_piece_74 post (nI s) (nI off) (nI len) x (d + 1) (nI (sp_c K (240 * s + off) k)) (nI k) (sa_b (sp_k K (240 * s + off) k)) (sp_b K bs x (240 * s + off) k) (sa_f R) (sa_e E) := by
  intro d
  induction d with
  | zero =>
    intro k hd
    have e : k = len := by omega
    subst e
    exact br_t (nI_le (Nat.le_refl _) (by omega)) h
  | succ d ih =>
    intro k hd
    have n := ih (k + 1) (by omega)
    have e1 : 240 * nI s + nI off + nI k = nI (240 * s + off + k) := by rw [sa_i240, nI_add]
    refine br_f (nI_ge (by omega) (by omega)) (nm_r e1 ⟨vp_in_nI (by omega) (by omega), ?_⟩)
    rw [sa_br (by omega), sp_kn]
    by_cases a : K (240 * s + off + k) = true
    · rw [sp_ct a, sp_kt a, sp_bt a] at n
      exact br_f (sa_c1 a) (nm_r (nI_1 k) n)
    · have b := sa_bt a
      rw [sp_cf b, ← sp_kf, ← sp_bf b] at n
      refine br_t (sa_c0 b) ⟨vp_in_nI (by omega) (by omega), nm_r (e' := sa_b (sa_u (sp_k K (240 * s + off) k) (240 * s + off + k) true)) ?_ ⟨vp_in_nI (by omega) (by omega), nm_r (e' := upd (sp_b K bs x (240 * s + off) k) (240 * s + off + k) (sp_w x k)) ?_ (nm_r (nI_1 _) (nm_r (nI_1 k) n))⟩⟩
      · rw [nI_clamp (by omega)]
        exact sa_bu (x := true)
      · rw [nI_clamp (by omega)]
        rfl
theorem sp_ycore (I : sa_I ring bs R N L H E K) (hs : s < 4) (hl : len ≤ 4) (hoff : off ≤ 1000) (h0 : ¬ sa_ok R N H E s (off + len) → post (-2) (sa_b K, bs, sa_f R, sa_e E))
    (h1 : sa_ok R N H E s (off + len) → post (nI (sp_c K (240 * s + off) len)) (sa_b (sp_k K (240 * s + off) len), sp_b K bs x (240 * s + off) len, sa_f R, sa_e E)) :
    wY_piece_54 post (nI s) (nI off) (nI len) x (sa_b K) bs (sa_f R) (sa_e E) := by
  unfold wY_piece_54
  rw [nI_add]
  refine sy_fits I hs (by omega) (fun a => br_f sa_10 ⟨len + 1, ?_⟩) (fun a => br_t rfl (h0 a))
  have b := sp_yL (K := K) (bs := bs) (R := R) (E := E) hs hl a.2.1 (h1 a) len 0 (by omega)
  rw [sp_k0, sp_b0] at b
  exact b
end
end
section
/-! what each storing call keeps -/
section
variable {ring bs : Nat → Int32} {R N L H : Nat → Nat} {E : Nat → Option Nat} {K : Nat → Bool} {s : Nat}
variable {x : Int32} {off fr to len n' e : Nat} {R' N' L' H' : Nat → Nat}
theorem sp_pieceI {f g : Nat} (I : sa_I ring bs R N L H E K) (hs : s < 4) (ok : sa_ok R N H E s (off + len)) (hl : len ≤ 4) (hfr : fr = max off (R s)) (hft : fr < off + len) (hE : ∀ e, E s = some e → off + len ≤ e)
    (A : sg_add (N s) (sa_s L s) (sa_s H s) fr (off + len) f g n' (sa_s L' s) (sa_s H' s)) (fL : sx_fr L L' s) (fH : sx_fr H H' s) :
    sa_I (sp_r K ring x s off fr (off + len - fr)) (sp_b K bs x (240 * s + off) len) R (sa_u N s n') L' H' E (sp_k K (240 * s + off) len) := by
  have J := I.1 s hs
  obtain ⟨o1, o2, o3⟩ := ok
  obtain ⟨h1, G, h3, h4, h5⟩ := J
  have oth : ∀ j, j < 4 → j ≠ s → sa_S (sp_r K ring x s off fr (off + len - fr)) (sp_b K bs x (240 * s + off) len) R (sa_u N s n') L' H' E (sp_k K (240 * s + off) len) j ∧ sa_t R (sa_u N s n') H' E j = sa_t R N H E j := by
    intro j hj hjs
    refine sa_S_fr rfl (sa_un hjs) (fun k hk => fL _ (by omega)) (fun k hk => fH _ (by omega)) rfl ?_ ?_ ?_ (I.1 j hj)
    · intro i hi
      exact if_neg (by omega)
    · intro m hm
      refine sp_rA (fun i _ _ _ => ?_)
      omega
    · intro i hi
      refine if_neg ?_
      rintro ⟨a, b, _⟩
      omega
  have G' := sg_aR A G (by omega) hft o1 o2
  constructor
  · intro j hj
    by_cases hjs : j = s
    · subst hjs
      unfold sa_S
      rw [sa_us]
      refine ⟨h1, G', ?_, ?_, ?_⟩
      · intro e he
        obtain ⟨b1, b2, b3, b4⟩ := h3 e he
        exact ⟨b1, b2, b3, sg_aB A b4 (hE e he)⟩
      · intro i hi
        rw [sg_aI A G hft i]
        unfold sp_k
        by_cases a : 240 * j + off ≤ 240 * j + i ∧ 240 * j + i < 240 * j + off + len
        · rw [if_pos a]
          refine ⟨fun _ => ?_, fun _ => rfl⟩
          by_cases b : i < R j
          · exact Or.inl b
          · exact Or.inr (Or.inr ⟨by omega, by omega⟩)
        · rw [if_neg a, h4 i hi]
          constructor
          · rintro (b | b)
            · exact Or.inl b
            · exact Or.inr (Or.inl b)
          · rintro (b | b | b)
            · exact Or.inl b
            · exact Or.inr b
            · omega
      · intro i hi hr hK
        by_cases a : K (240 * j + i) = true
        · have im := (sa_Kn (I.1 j hj) hi hr).mp a
          have r24 := sg_imR G im
          have e1 : sp_b K bs x (240 * j + off) len (240 * j + i) = bs (240 * j + i) := by
            refine if_neg ?_
            rintro ⟨_, _, c⟩
            rw [a] at c
            exact absurd c (by decide)
          rw [e1, sp_rA]
          · exact h5 i hi hr a
          · intro i' b1 b2 b3
            have ne : i' ≠ i := by
              intro q
              rw [q, a] at b3
              exact absurd b3 (by decide)
            omega
        · have a' := sa_bt a
          have rng : 240 * j + off ≤ 240 * j + i ∧ 240 * j + i < 240 * j + off + len := by
            apply Classical.byContradiction
            intro q
            unfold sp_k at hK
            rw [if_neg q] at hK
            exact a hK
          rw [sp_rB (by omega) (by omega) (by omega) a']
          unfold sp_b
          rw [if_pos (show 240 * j + off ≤ 240 * j + i ∧ 240 * j + i < 240 * j + off + len ∧ K (240 * j + i) = false from ⟨rng.1, rng.2, a'⟩), show 240 * j + i - (240 * j + off) = i - off from by omega]
    · exact (oth j hj hjs).1
  · have sm := sa_smu (F := sa_t R N H E) (G := sa_t R (sa_u N s n') H' E) hs (fun j hj hjs => (oth j hj hjs).2)
    have hS := I.2
    have tp : sa_t R (sa_u N s n') H' E s ≤ max (off + len) (sa_t R N H E s) := by
      cases he : E s with
      | none =>
        rw [sa_tn he, sa_tn he]
        have a := sg_aL A G (by omega) hft
        rw [sa_lh, sa_us, if_neg (by omega), a.2, sa_lh]
        exact Nat.le_refl _
      | some e =>
        rw [sa_ts he, sa_ts he]
        omega
    omega
theorem sp_readI (I : sa_I ring bs R N L H E K) (hs : s < 4) (him : sg_im (N s) (sa_s L s) (sa_s H s) (R s)) (hE : ¬ E s = some (R s)) (hR : R' s = R s + 1) (hR2 : ∀ j, j ≠ s → R' j = R j) (hN : ∀ j, j ≠ s → N' j = N j)
    (A : sg_rd (N s) (sa_s L s) (sa_s H s) (N' s) (sa_s L' s) (sa_s H' s)) (fL : sx_fr L L' s) (fH : sx_fr H H' s) : sa_I ring bs R' N' L' H' E K := by
  have J := I.1 s hs
  obtain ⟨h1, G, h3, h4, h5⟩ := J
  have oth : ∀ j, j < 4 → j ≠ s → sa_S ring bs R' N' L' H' E K j ∧ sa_t R' N' H' E j = sa_t R N H E j := by
    intro j hj hjs
    exact sa_S_fr (hR2 j hjs) (hN j hjs) (fun k hk => fL _ (by omega)) (fun k hk => fH _ (by omega)) rfl (fun _ _ => rfl) (fun _ _ => rfl) (fun _ _ => rfl) (I.1 j hj)
  have G' := sg_dR A G him
  have r24 := sg_imR G him
  constructor
  · intro j hj
    by_cases hjs : j = s
    · subst hjs
      unfold sa_S
      rw [hR]
      refine ⟨by omega, G', ?_, ?_, ?_⟩
      · intro e he
        obtain ⟨b1, b2, b3, b4⟩ := h3 e he
        have ne : e ≠ R j := by
          intro q
          rw [q] at he
          exact hE he
        exact ⟨by omega, by omega, b3, sg_dB A b4⟩
      · intro i hi
        rw [sg_dI A G him i]
        exact h4 i hi
      · intro i hi hr hK
        exact h5 i hi (by omega) hK
    · exact (oth j hj hjs).1
  · have sm := sa_smu (F := sa_t R N H E) (G := sa_t R' N' H' E) hs (fun j hj hjs => (oth j hj hjs).2)
    have sr := sa_smu (F := R) (G := R') hs (fun j _ hjs => hR2 j hjs)
    have hS := I.2
    have tp : sa_t R' N' H' E s = sa_t R N H E s := by
      cases he : E s with
      | none =>
        rw [sa_tn he, sa_tn he, sa_lh, sa_lh, hR]
        exact sg_dL A G him
      | some e => rw [sa_ts he, sa_ts he]
    omega
theorem sp_finI (I : sa_I ring bs R N L H E K) (hs : s < 4) (ok : sa_ok R N H E s e) (hT : sa_t R N H E s ≤ e) : sa_I ring bs R N L H (sa_u E s (some e)) K := by
  have J := I.1 s hs
  have t := sa_Tf J
  obtain ⟨o1, o2, o3⟩ := ok
  obtain ⟨h1, G, h3, h4, h5⟩ := J
  have oth : ∀ j, j < 4 → j ≠ s → sa_S ring bs R N L H (sa_u E s (some e)) K j ∧ sa_t R N H (sa_u E s (some e)) j = sa_t R N H E j := by
    intro j hj hjs
    exact sa_S_fr rfl rfl (fun _ _ => rfl) (fun _ _ => rfl) (sa_un hjs) (fun _ _ => rfl) (fun _ _ => rfl) (fun _ _ => rfl) (I.1 j hj)
  constructor
  · intro j hj
    by_cases hjs : j = s
    · subst hjs
      refine ⟨h1, G, ?_, h4, h5⟩
      intro e' he
      rw [sa_us] at he
      have q := Option.some.inj he
      subst q
      exact ⟨by omega, o1, o2, fun k hk => Nat.le_trans (t.2.2.2 k hk) hT⟩
    · exact (oth j hj hjs).1
  · have sm := sa_smu (F := sa_t R N H E) (G := sa_t R N H (sa_u E s (some e))) hs (fun j hj hjs => (oth j hj hjs).2)
    have hS := I.2
    have tp : sa_t R N H (sa_u E s (some e)) s = e := sa_ts sa_us
    omega
theorem sa_gq {c z w : Nat} (I : sa_S ring bs R N L H E K s) (hz : (z = 1 ∧ sg_im (N s) (sa_s L s) (sa_s H s) (R s)) ∨ (z = 0 ∧ ¬ sg_im (N s) (sa_s L s) (sa_s H s) (R s)))
    (hw : (w = 1 ∧ sa_l R N H s < sa_t R N H E s) ∨ (w = 0 ∧ ¬ sa_l R N H s < sa_t R N H E s)) (hc : c + z = N s + w) : sg_gq (R s) (sa_t R N H E s) c (sy_B R K s) (sg_q (R s) (sa_s H s) z) := by
  have t := sa_Tf I
  refine sg_gap (n := N s) (l := sa_s L s) (e := w) I.2.1 t.2.2.2 ?_ hz hw hc
  intro i hr hi
  have k := sa_Kn I (i := i) (by omega) hr
  unfold sy_B
  constructor
  · rintro ⟨a, b⟩
    refine ⟨fun q => ?_, ?_⟩
    · have d := k.mpr q
      rw [a] at d
      exact absurd d (by decide)
    · by_cases c : i = R s
      · exact Or.inl c
      · rcases b with b | b
        · exact Or.inl b
        · exact Or.inr ((sa_Kn I (i := i - 1) (by omega) (by omega)).mp b)
  · rintro ⟨a, b⟩
    refine ⟨sa_bt (fun q => a (k.mp q)), ?_⟩
    by_cases c : i = R s
    · exact Or.inl c
    · rcases b with b | b
      · exact Or.inl b
      · exact Or.inr ((sa_Kn I (i := i - 1) (by omega) (by omega)).mpr b)
end
end
section
/-! the relation, and the owed statements -/
/-- the two states are images of one state of naturals, and the invariant holds -/
def i_Rel (k : Nat) (u : SX) (v : SY) : Prop := ∃ (ring bs : Nat → Int32) (R N L H : Nat → Nat) (E : Nat → Option Nat) (K : Nat → Bool), u = (ring, sa_f R, sa_e E, sa_f N, sa_f L, sa_f H) ∧ v = (sa_b K, bs, sa_f R, sa_e E) ∧ sa_I ring bs R N L H E K
theorem i_up {k : Nat} {u : SX} {v : SY} (h : i_Rel k u v) : i_Rel (k + 5) u v := h
theorem so_el {P : SX → SY → Prop} {k : Nat} {u : SX} {v : SY} (I : i_Rel k u v) (h : ∀ (ring bs : Nat → Int32) (R N L H : Nat → Nat) (E : Nat → Option Nat) (K : Nat → Bool), sa_I ring bs R N L H E K → P (ring, sa_f R, sa_e E, sa_f N, sa_f L, sa_f H) (sa_b K, bs, sa_f R, sa_e E)) : P u v := by
  obtain ⟨ring, bs, R, N, L, H, E, K, rfl, rfl, J⟩ := I
  exact h ring bs R N L H E K J
section
variable {ring bs : Nat → Int32} {R N L H : Nat → Nat} {E : Nat → Option Nat} {K : Nat → Bool} {s : Nat}
theorem so_in {k : Nat} (J : sa_I ring bs R N L H E K) : i_Rel k (ring, sa_f R, sa_e E, sa_f N, sa_f L, sa_f H) (sa_b K, bs, sa_f R, sa_e E) := ⟨ring, bs, R, N, L, H, E, K, rfl, rfl, J⟩
theorem so_x0 {post : SX → Prop} {n j : Nat} (hj : j < 4) (h : wX_init_52 post n (nI (j + 1)) ring (sa_f R) (sa_e (sa_u E j none)) (sa_f N) (sa_f L) (sa_f H)) : wX_init_52 post (n + 1) (nI j) ring (sa_f R) (sa_e E) (sa_f N) (sa_f L) (sa_f H) :=
  br_f (nI_ge (a := j) (b := 4) hj (by omega)) ⟨vp_in_nI hj (by omega), nm_r (e' := sa_e (sa_u E j none)) (by rw [nI_clamp (by omega)]; exact sa_eu (x := none)) (nm_r (nI_1 j) h)⟩
theorem so_y0 {post : SY → Prop} {n j : Nat} (hj : j < 4) (h : wY_init_38 post n (nI (j + 1)) (sa_b K) bs (sa_f R) (sa_e (sa_u E j none))) : wY_init_38 post (n + 1) (nI j) (sa_b K) bs (sa_f R) (sa_e E) :=
  br_f (nI_ge (a := j) (b := 4) hj (by omega)) ⟨vp_in_nI hj (by omega), nm_r (e' := sa_e (sa_u E j none)) (by rw [nI_clamp (by omega)]; exact sa_eu (x := none)) (nm_r (nI_1 j) h)⟩
end
def so_E : Nat → Option Nat := sa_u (sa_u (sa_u (sa_u (fun _ => some 0) 0 none) 1 none) 2 none) 3 none
theorem so_En {s : Nat} (hs : s < 4) : so_E s = none := by
  obtain rfl | rfl | rfl | rfl : s = 0 ∨ s = 1 ∨ s = 2 ∨ s = 3 := by omega
  all_goals rfl
theorem so_I0 : sa_I (fun _ => 0) (fun _ => 0) (fun _ => 0) (fun _ => 0) (fun _ => 0) (fun _ => 0) so_E (fun _ => false) := by
  constructor
  · intro s hs
    refine ⟨Nat.zero_le _, ⟨fun k hk => absurd hk (Nat.not_lt_zero _), fun k hk => absurd hk (Nat.not_lt_zero _)⟩, ?_, ?_, ?_⟩
    · intro e he
      rw [so_En hs] at he
      exact nomatch he
    · intro i hi
      constructor
      · intro h
        exact nomatch h
      · rintro (h | ⟨k, hk, _⟩)
        · exact absurd h (Nat.not_lt_zero _)
        · exact absurd hk (Nat.not_lt_zero _)
    · intro i hi _ h
      exact nomatch h
  · rw [sa_smd, sa_tn (so_En (by omega)), sa_tn (so_En (by omega)), sa_tn (so_En (by omega)), sa_tn (so_En (by omega)), sa_l0 rfl, sa_l0 rfl, sa_l0 rfl, sa_l0 rfl]
    exact Nat.zero_le _
theorem i_vc0 : wpX_init (fun u => wpY_init (fun v => i_Rel 0 u v)) := by
  refine ⟨5, so_x0 (ring := fun _ => 0) (R := fun _ => 0) (E := fun _ => some 0) (N := fun _ => 0) (L := fun _ => 0) (H := fun _ => 0) (j := 0) (by omega) ?_⟩
  refine so_x0 (j := 1) (by omega) ?_
  refine so_x0 (j := 2) (by omega) ?_
  refine so_x0 (j := 3) (by omega) ?_
  refine br_t (nI_le (a := 4) (b := 4) (by omega) (by omega)) ?_
  refine ⟨5, so_y0 (bs := fun _ => 0) (R := fun _ => 0) (E := fun _ => some 0) (K := fun _ => false) (j := 0) (by omega) ?_⟩
  refine so_y0 (j := 1) (by omega) ?_
  refine so_y0 (j := 2) (by omega) ?_
  refine so_y0 (j := 3) (by omega) ?_
  refine br_t (nI_le (a := 4) (b := 4) (by omega) (by omega)) ?_
  exact so_in so_I0
/-! a piece -/
section
variable {ring bs : Nat → Int32} {R N L H : Nat → Nat} {E : Nat → Option Nat} {K : Nat → Bool} {s : Nat}
theorem so_xf {post : Int32 → SX → Prop} {x : Int32} {off len : Nat} (hs : s < 4) (hl : 1 ≤ len) (hl4 : len ≤ 4) (ho : off ≤ 1000) (hE : ∀ e, E s = some e → e ≤ 240)
    (h3 : ∀ e, E s = some e → e < off + len → post (-3) (ring, sa_f R, sa_e E, sa_f N, sa_f L, sa_f H)) (h : (∀ e, E s = some e → off + len ≤ e) → wX_piece_58 post (nI s) (nI off) x (nI (off + len)) ring (sa_f R) (sa_e E) (sa_f N) (sa_f L) (sa_f H)) : wpX_piece post (ring, sa_f R, sa_e E, sa_f N, sa_f L, sa_f H) (nI s) (nI off) (nI len) x := by
  unfold wpX_piece
  dsimp only
  refine sx_isS hs (br_f sa_10 (br_f (nI_nlt (b := 1) hl (by omega)) (br_f (nI_nlt (a := 4) hl4 (by omega)) (br_f (nI_pos (by omega)) (br_t (nI_le (b := 1000) ho (by omega)) (nm_r (e' := nI (off + len)) (nI_add _ _) ⟨vp_in_nI hs (by omega), ?_⟩))))))
  rw [sa_er (by omega)]
  cases he : E s with
  | none => exact br_t (sa_on rfl) (h (fun e q => by rw [he] at q; exact nomatch q))
  | some e =>
    have b := hE e he
    refine br_f (sa_os rfl (by omega)) ⟨vp_in_nI hs (by omega), pk_le (off + len) e (fun a => h (fun e' q => ?_)) (fun a => h3 e he a)⟩
    rw [he] at q
    have q2 := Option.some.inj q
    omega
theorem so_yf {post : Int32 → SY → Prop} {x : Int32} {off len : Nat} (hs : s < 4) (hl : 1 ≤ len) (hl4 : len ≤ 4) (ho : off ≤ 1000) (hE : ∀ e, E s = some e → e ≤ 240)
    (h3 : ∀ e, E s = some e → e < off + len → post (-3) (sa_b K, bs, sa_f R, sa_e E)) (h : (∀ e, E s = some e → off + len ≤ e) → wY_piece_54 post (nI s) (nI off) (nI len) x (sa_b K) bs (sa_f R) (sa_e E)) : wpY_piece post (sa_b K, bs, sa_f R, sa_e E) (nI s) (nI off) (nI len) x := by
  unfold wpY_piece
  dsimp only
  refine sy_bad hs (br_t rfl (br_f (nI_nlt (b := 1) hl (by omega)) (br_f (nI_nlt (a := 4) hl4 (by omega)) (br_f (nI_pos (by omega)) (br_t (nI_le (b := 1000) ho (by omega)) ⟨vp_in_nI hs (by omega), ?_⟩)))))
  rw [sa_er (by omega), nI_add]
  cases he : E s with
  | none => exact br_t (sa_on rfl) (h (fun e q => by rw [he] at q; exact nomatch q))
  | some e =>
    have b := hE e he
    refine br_f (sa_os rfl (by omega)) ⟨vp_in_nI hs (by omega), pk_le (off + len) e (fun a => h (fun e' q => ?_)) (fun a => h3 e he a)⟩
    rw [he] at q
    have q2 := Option.some.inj q
    omega
theorem so_piece {k : Nat} {x : Int32} {off len : Nat} (I : sa_I ring bs R N L H E K) (hs : s < 4) (hl : 1 ≤ len) (hl4 : len ≤ 4) (ho : off ≤ 1000) :
    wpX_piece (fun r u' => wpY_piece (fun r' v' => r' = r ∧ i_Rel k u' v') (sa_b K, bs, sa_f R, sa_e E) (nI s) (nI off) (nI len) x) (ring, sa_f R, sa_e E, sa_f N, sa_f L, sa_f H) (nI s) (nI off) (nI len) x := by
  have J := I.1 s hs
  have hE : ∀ e, E s = some e → e ≤ 240 := fun e he => (J.2.2.1 e he).2.2.1
  refine so_xf hs hl hl4 ho hE (fun e he a => ?_) (fun hEe => ?_)
  · exact so_yf hs hl hl4 ho hE (fun _ _ _ => ⟨rfl, so_in I⟩) (fun q => by have := q e he; omega)
  · have h3 : ∀ {P : Prop} (e : Nat), E s = some e → e < off + len → P := fun e he a => by have := hEe e he; omega
    have kn : ∀ i, i < R s → i < 240 → K (240 * s + i) = true := fun i hi h2 => (J.2.2.2.1 i h2).mpr (Or.inl hi)
    refine sp_xcore I hs (by omega) (by omega) (fun a => ?_) (fun a b => ?_) (fun a b => by omega) (fun fr hfr a hft => ?_)
    · exact so_yf hs hl hl4 ho hE (fun e he c => h3 e he c) (fun _ => sp_ycore I hs hl4 ho (fun _ => ⟨rfl, so_in I⟩) (fun q => absurd q a))
    · refine so_yf hs hl hl4 ho hE (fun e he c => h3 e he c) (fun _ => sp_ycore I hs hl4 ho (fun q => absurd a q) (fun _ => ?_))
      have al : ∀ i, i < len → K (240 * s + off + i) = true := by
        intro i hi
        have a2 := a.2.1
        rw [Nat.add_assoc]
        exact kn (off + i) (by omega) (by omega)
      rw [sp_c0 al, sp_kall al, sp_ball al]
      exact ⟨rfl, so_in I⟩
    · intro f g n' L' H' A fL fH
      refine so_yf hs hl hl4 ho hE (fun e he c => h3 e he c) (fun _ => sp_ycore I hs hl4 ho (fun q => absurd a q) (fun _ => ⟨?_, so_in (sp_pieceI I hs a hl4 hfr hft hEe A fL fH)⟩))
      have e1 : len = (fr - off) + (off + len - fr) := by omega
      have e2 : 240 * s + off + (fr - off) = 240 * s + fr := by omega
      have a2 := a.2.1
      refine congrArg nI ?_
      rw [show sp_c K (240 * s + off) len = sp_c K (240 * s + off) ((fr - off) + (off + len - fr)) from congrArg _ e1, sp_cadd, e2, sp_c0, Nat.zero_add]
      intro i hi
      rw [Nat.add_assoc]
      exact kn (off + i) (by omega) (by omega)
end
theorem i_vc_piece {k : Nat} {u : SX} {v : SY} (I : i_Rel k u v) (hk : k + 5 ≤ 2560) (v1 : Int32) (v2 : Int32) (v3 : Int32) (v4 : Int32) : wpX_piece (fun r u' => wpY_piece (fun r' v' => r' = r ∧ i_Rel (k + 5) u' v') v v1 v2 v3 v4) u v1 v2 v3 v4 := by
  refine so_el (P := fun u v => wpX_piece (fun r u' => wpY_piece (fun r' v' => r' = r ∧ i_Rel (k + 5) u' v') v v1 v2 v3 v4) u v1 v2 v3 v4) I ?_
  intro ring bs R N L H E K J
  have rel : i_Rel (k + 5) (ring, sa_f R, sa_e E, sa_f N, sa_f L, sa_f H) (sa_b K, bs, sa_f R, sa_e E) := so_in J
  rcases sa_st v1 with ⟨s, hs, rfl⟩ | hv
  · by_cases a1 : v3 < 1
    · unfold wpX_piece
      dsimp only
      refine sx_isS hs (br_f sa_10 (br_t a1 ?_))
      unfold wpY_piece
      dsimp only
      exact sy_bad hs (br_t rfl (br_t a1 ⟨rfl, rel⟩))
    · by_cases a2 : 4 < v3
      · unfold wpX_piece
        dsimp only
        refine sx_isS hs (br_f sa_10 (br_f a1 (br_t a2 ?_)))
        unfold wpY_piece
        dsimp only
        exact sy_bad hs (br_t rfl (br_f a1 (br_t a2 ⟨rfl, rel⟩)))
      · by_cases a3 : v2 < 0
        · unfold wpX_piece
          dsimp only
          refine sx_isS hs (br_f sa_10 (br_f a1 (br_f a2 (br_t a3 ?_))))
          unfold wpY_piece
          dsimp only
          exact sy_bad hs (br_t rfl (br_f a1 (br_f a2 (br_t a3 ⟨rfl, rel⟩))))
        · by_cases a4 : v2 ≤ 1000
          · obtain ⟨off, ho, rfl⟩ := nI_of2 (M := 1000) (n := 1000) (by decide) a3 a4
            have b1 : ¬ v3 < 0 := fun q => a1 (Int32.lt_trans q (by decide))
            obtain ⟨len, hl, rfl⟩ := nI_of2 (M := 4) (n := 4) (by decide) b1 (Int32.not_lt.mp a2)
            refine so_piece J hs ?_ hl ho
            apply Classical.byContradiction
            intro q
            exact a1 (nI_lt (a := len) (b := 1) (by omega) (by omega))
          · unfold wpX_piece
            dsimp only
            refine sx_isS hs (br_f sa_10 (br_f a1 (br_f a2 (br_f a3 (br_f a4 ?_)))))
            unfold wpY_piece
            dsimp only
            exact sy_bad hs (br_t rfl (br_f a1 (br_f a2 (br_f a3 (br_f a4 ⟨rfl, rel⟩)))))
  · unfold wpX_piece
    dsimp only
    refine sx_isS0 hv (br_t rfl ?_)
    unfold wpY_piece
    dsimp only
    exact sy_bad1 hv (br_f sa_10 ⟨rfl, rel⟩)
end
section
/-! the owed statements of the other calls -/
theorem i_vc_finish {k : Nat} {u : SX} {v : SY} (I : i_Rel k u v) (hk : k + 5 ≤ 2560) (v1 : Int32) (v2 : Int32) : wpX_finish (fun r u' => wpY_finish (fun r' v' => r' = r ∧ i_Rel (k + 5) u' v') v v1 v2) u v1 v2 := by
  refine so_el (P := fun u v => wpX_finish (fun r u' => wpY_finish (fun r' v' => r' = r ∧ i_Rel (k + 5) u' v') v v1 v2) u v1 v2) I ?_
  intro ring bs R N L H E K J
  have rel : i_Rel (k + 5) (ring, sa_f R, sa_e E, sa_f N, sa_f L, sa_f H) (sa_b K, bs, sa_f R, sa_e E) := so_in J
  rcases sa_st v1 with ⟨s, hs, rfl⟩ | hv
  · have S := J.1 s hs
    have t := sa_Tf S
    have hE : ∀ e, E s = some e → e ≤ 240 := fun e he => (S.2.2.1 e he).2.2.1
    by_cases a1 : 0 ≤ v2
    · obtain ⟨e, he, rfl⟩ := nI_of (x := v2) (Int32.not_lt.mpr a1)
      have xf : ∀ post : Int32 → SX → Prop, (e < sa_t R N H E s → post (-3) (ring, sa_f R, sa_e E, sa_f N, sa_f L, sa_f H)) → (sa_t R N H E s ≤ e → ¬ sa_ok R N H E s e → post (-2) (ring, sa_f R, sa_e E, sa_f N, sa_f L, sa_f H)) → (sa_t R N H E s ≤ e → sa_ok R N H E s e → post 0 (ring, sa_f R, sa_e (sa_u E s (some e)), sa_f N, sa_f L, sa_f H)) → wX_finish_29 post (nI s) (nI e) ring (sa_f R) (sa_e E) (sa_f N) (sa_f L) (sa_f H) := by
        intro post h3 h2 h0
        refine sx_highest hs (sg_12 S.2.1) hE (pk_le (sa_t R N H E s) e (fun c => ?_) (fun c => h3 c))
        refine sx_may J hs he (fun d => br_f sa_10 ⟨vp_in_nI hs (by omega), nm_r (e' := sa_e (sa_u E s (some e))) ?_ (h0 c d)⟩) (fun d => br_t rfl (h2 c d))
        rw [nI_clamp (by omega)]
        exact sa_eu (x := some e)
      have yf : ∀ post : Int32 → SY → Prop, (e < sa_t R N H E s → post (-3) (sa_b K, bs, sa_f R, sa_e E)) → (sa_t R N H E s ≤ e → ¬ sa_ok R N H E s e → post (-2) (sa_b K, bs, sa_f R, sa_e E)) → (sa_t R N H E s ≤ e → sa_ok R N H E s e → post 0 (sa_b K, bs, sa_f R, sa_e (sa_u E s (some e)))) → wY_finish_32 post (nI s) (nI e) (sa_b K) bs (sa_f R) (sa_e E) := by
        intro post h3 h2 h0
        refine sy_top hs S (pk_le (sa_t R N H E s) e (fun c => ?_) (fun c => h3 c))
        refine sy_fits J hs he (fun d => br_f sa_10 ⟨vp_in_nI hs (by omega), nm_r (e' := sa_e (sa_u E s (some e))) ?_ (h0 c d)⟩) (fun d => br_t rfl (h2 c d))
        rw [nI_clamp (by omega)]
        exact sa_eu (x := some e)
      have mid : ∀ Y : (Int32 → SY → Prop) → Prop, (∀ P, wY_finish_32 P (nI s) (nI e) (sa_b K) bs (sa_f R) (sa_e E) → Y P) → wX_finish_29 (fun r u' => Y (fun r' v' => r' = r ∧ i_Rel (k + 5) u' v')) (nI s) (nI e) ring (sa_f R) (sa_e E) (sa_f N) (sa_f L) (sa_f H) := by
        intro Y hY
        refine xf _ (fun c => hY _ ?_) (fun c d => hY _ ?_) (fun c d => hY _ ?_)
        · exact yf _ (fun _ => ⟨rfl, rel⟩) (fun q => by omega) (fun q => by omega)
        · exact yf _ (fun q => by omega) (fun _ _ => ⟨rfl, rel⟩) (fun _ q => absurd q d)
        · exact yf _ (fun q => by omega) (fun _ q => absurd d q) (fun _ _ => ⟨rfl, so_in (sp_finI J hs d c)⟩)
      unfold wpX_finish
      dsimp only
      refine sx_isS hs (br_f sa_10 (br_t a1 ⟨vp_in_nI hs (by omega), nm_r (e' := sa_o (E s)) (sa_er (by omega)) ?_⟩))
      by_cases n : E s = none
      · refine br_t (sa_on n) (mid (fun P => wpY_finish P (sa_b K, bs, sa_f R, sa_e E) (nI s) (nI e)) (fun P h => ?_))
        unfold wpY_finish
        dsimp only
        refine sy_bad hs (br_t rfl (br_t a1 ⟨vp_in_nI hs (by omega), ?_⟩))
        rw [sa_er (by omega)]
        exact br_t (sa_on n) h
      · obtain ⟨e', n'⟩ : ∃ e', E s = some e' := by
          cases q : E s with
          | none => exact absurd q n
          | some e' => exact ⟨e', rfl⟩
        have b := hE e' n'
        by_cases c : sa_o (E s) = nI e
        · refine br_f (sa_os n' (by omega)) (br_t c (mid (fun P => wpY_finish P (sa_b K, bs, sa_f R, sa_e E) (nI s) (nI e)) (fun P h => ?_)))
          unfold wpY_finish
          dsimp only
          refine sy_bad hs (br_t rfl (br_t a1 ⟨vp_in_nI hs (by omega), ?_⟩))
          rw [sa_er (by omega)]
          exact br_f (sa_os n' (by omega)) ⟨vp_in_nI hs (by omega), br_t c h⟩
        · refine br_f (sa_os n' (by omega)) (br_f c ?_)
          unfold wpY_finish
          dsimp only
          refine sy_bad hs (br_t rfl (br_t a1 ⟨vp_in_nI hs (by omega), ?_⟩))
          rw [sa_er (by omega)]
          exact br_f (sa_os n' (by omega)) ⟨vp_in_nI hs (by omega), br_f c ⟨rfl, rel⟩⟩
    · unfold wpX_finish
      dsimp only
      refine sx_isS hs (br_f sa_10 (br_f a1 ?_))
      unfold wpY_finish
      dsimp only
      exact sy_bad hs (br_t rfl (br_f a1 ⟨rfl, rel⟩))
  · unfold wpX_finish
    dsimp only
    refine sx_isS0 hv (br_t rfl ?_)
    unfold wpY_finish
    dsimp only
    exact sy_bad1 hv (br_f sa_10 ⟨rfl, rel⟩)
theorem i_vc_read {k : Nat} {u : SX} {v : SY} (I : i_Rel k u v) (hk : k + 5 ≤ 2560) (v1 : Int32) : wpX_read (fun r u' => wpY_read (fun r' v' => r' = r ∧ i_Rel (k + 5) u' v') v v1) u v1 := by
  refine so_el (P := fun u v => wpX_read (fun r u' => wpY_read (fun r' v' => r' = r ∧ i_Rel (k + 5) u' v') v v1) u v1) I ?_
  intro ring bs R N L H E K J
  have rel : i_Rel (k + 5) (ring, sa_f R, sa_e E, sa_f N, sa_f L, sa_f H) (sa_b K, bs, sa_f R, sa_e E) := so_in J
  rcases sa_st v1 with ⟨s, hs, rfl⟩ | hv
  · have S := J.1 s hs
    have hR := S.1
    have G := S.2.1
    have n12 := sg_12 G
    unfold wpX_read
    dsimp only
    refine sx_isS hs (br_f sa_10 ⟨vp_in_nI hs (by omega), nm_r (e' := nI (R s)) (sa_fr (by omega)) ⟨vp_in_nI hs (by omega), ?_⟩⟩)
    rw [sa_er (by omega)]
    by_cases a1 : sa_o (E s) = nI (R s)
    · refine br_t a1 ?_
      unfold wpY_read
      dsimp only
      rw [sa_er (by omega), sa_fr (by omega)]
      exact sy_bad hs (br_t rfl ⟨vp_in_nI hs (by omega), vp_in_nI hs (by omega), br_t a1 ⟨rfl, rel⟩⟩)
    · refine br_f a1 (sx_isK hs G (by omega) (fun im => br_f sa_10 ?_) (fun im => br_t rfl ?_))
      · have r24 := sg_imR G im
        have i0 := sg_im0 G im
        have g0 := G.1 0 i0.1
        have kt : K (240 * s + R s) = true := (sa_Kn S (by omega) (Nat.le_refl _)).mpr im
        have eE : ¬ E s = some (R s) := fun q => a1 (sa_oe q)
        -- the answers of both
        have fin : ∀ (R' N' L' H' : Nat → Nat), R' s = R s + 1 → (∀ j, j ≠ s → R' j = R j) → (∀ j, j ≠ s → N' j = N j) → sg_rd (N s) (sa_s L s) (sa_s H s) (N' s) (sa_s L' s) (sa_s H' s) → sx_fr L L' s → sx_fr H H' s → R' = sa_u R s (R s + 1) →
            wX_read_91 (fun r u' => wpY_read (fun r' v' => r' = r ∧ i_Rel (k + 5) u' v') (sa_b K, bs, sa_f R, sa_e E) (nI s)) (nI s) (nI (R s)) ring (sa_f R') (sa_e E) (sa_f N') (sa_f L') (sa_f H') := by
          intro R' N' L' H' h1 h2 h3 h4 h5 h6 h7
          have rel' : i_Rel (k + 5) (ring, sa_f R', sa_e E, sa_f N', sa_f L', sa_f H') (sa_b K, bs, sa_f R', sa_e E) := so_in (sp_readI J hs im eE h1 h2 h3 h4 h5 h6)
          unfold wX_read_91
          rw [sa_ring (by omega), nI_clamp (by omega)]
          refine ⟨vp_in_nI (by omega) (by omega), ?_⟩
          unfold wpY_read
          dsimp only
          rw [sa_er (by omega), sa_fr (by omega)]
          refine sy_bad hs (br_t rfl ⟨vp_in_nI hs (by omega), vp_in_nI hs (by omega), br_f a1 ⟨vp_in_nI hs (by omega), sy_isK hs (by omega) (fun _ _ => br_f sa_10 ?_) (fun q => ?_)⟩⟩)
          · refine ⟨vp_in_nI hs (by omega), vp_in_nI hs (by omega), nm_r (e' := sa_f R') ?_ ⟨vp_in_nI hs (by omega), ?_⟩⟩
            · rw [nI_clamp (by omega), nI_1, sa_fu, h7]
            · rw [sa_fr (by omega), h1, sa_i240p (by omega), show R s + 1 - 1 = R s from rfl, nI_clamp (by omega)]
              exact ⟨vp_in_nI (by omega) (by omega), (S.2.2.2.2 (R s) (by omega) (Nat.le_refl _) kt).symm, rel'⟩
          · rw [q (by omega)] at kt
            exact absurd kt (by decide)
        refine ⟨vp_in_nI hs (by omega), nm_r (e' := sa_f (sa_u R s (R s + 1))) (by rw [nI_clamp (by omega), nI_1, sa_fu]) ?_⟩
        rw [sa_m13]
        have v13 : vp_in (nI (13 * s)) 52 := vp_in_nI (by omega) (by omega)
        refine ⟨v13, v13, nm_r (e' := sa_f (sa_u L (13 * s) (L (13 * s) + 1))) (by rw [sa_fr (by omega), nI_clamp (by omega), nI_1, sa_fu]) ⟨v13, v13, ?_⟩⟩
        have l0 : sa_s L s 0 = L (13 * s) := rfl
        have h0 : sa_s H s 0 = H (13 * s) := rfl
        rw [sa_fr (by omega), sa_fr (by omega), sa_us]
        refine pk_eq (L (13 * s) + 1) (H (13 * s)) (fun c => ?_) (fun c => ?_) rfl rfl (by omega) (by omega)
        · refine sx_drop (p := 0) (q := 1) hs n12 (by omega) (by omega) ?_
          refine fin _ _ _ _ sa_us (fun j hj => sa_un hj) (fun j hj => sa_un hj) (Or.inl ⟨by omega, ?_, ?_⟩) ?_ ?_ rfl
          · rw [sa_us]; omega
          · rw [sa_us]
            intro j hj
            constructor
            · refine (if_pos (by omega)).trans ?_
              refine (sa_un (by omega)).trans ?_
              exact congrArg L (by omega)
            · refine (if_pos (by omega)).trans ?_
              exact congrArg H (by omega)
          · intro j hj
            exact (if_neg (by omega)).trans (sa_un (by omega))
          · intro j hj
            exact if_neg (by omega)
        · refine fin _ _ _ _ sa_us (fun j hj => sa_un hj) (fun j hj => rfl) (Or.inr ⟨by omega, rfl, ?_, rfl, ?_⟩) ?_ (fun _ _ => rfl) rfl
          · exact sa_us
          · intro j hj _
            exact ⟨sa_un (by omega), rfl⟩
          · intro j hj
            exact sa_un (by omega)
      · unfold wpY_read
        dsimp only
        rw [sa_er (by omega), sa_fr (by omega)]
        refine sy_bad hs (br_t rfl ⟨vp_in_nI hs (by omega), vp_in_nI hs (by omega), br_f a1 ⟨vp_in_nI hs (by omega), sy_isK hs (by omega) (fun q1 q2 => ?_) (fun _ => br_t rfl ⟨rfl, rel⟩)⟩⟩)
        exact absurd ((sa_Kn S q1 (Nat.le_refl _)).mp q2) im
  · unfold wpX_read
    dsimp only
    refine sx_isS0 hv (br_t rfl ?_)
    unfold wpY_read
    dsimp only
    exact sy_bad1 hv (br_f sa_10 ⟨rfl, rel⟩)
end
section
/-! the owed statements of the calls that only read -/
section
variable {ring bs : Nat → Int32} {R N L H : Nat → Nat} {E : Nat → Option Nat} {K : Nat → Bool} {s : Nat}
variable {post : Int32 → Prop}
theorem so_g34 {z w c : Nat} (hs : s < 4) (S : sa_S ring bs R N L H E K s) (hz : z ≤ N s) (hw : (w = 1 ∧ sa_l R N H s < sa_t R N H E s) ∨ (w = 0 ∧ ¬ sa_l R N H s < sa_t R N H E s)) (hc : c + z = N s + w) (h : post (nI c)) : wX_gaps_34 post (nI s) (nI z) (nI (N s)) ring (sa_f R) (sa_e E) (sa_f N) (sa_f L) (sa_f H) := by
  have n12 := sg_12 S.2.1
  have t := sa_Tf S
  have b := sa_Lf S
  have hE : ∀ e, E s = some e → e ≤ 240 := fun e he => (S.2.2.1 e he).2.2.1
  refine nm_r (e' := nI (N s - z)) (pk_sub hz) (sx_last hs n12 (sx_highest hs n12 hE (pk_le (sa_t R N H E s) (sa_l R N H s) (fun a => ?_) (fun a => ?_))))
  · have e : c = N s - z + 0 := by omega
    rw [e, ← nI_add] at h
    exact h
  · have e : c = N s - z + 1 := by omega
    rw [e, ← nI_add] at h
    exact h
theorem so_xgaps {z w c : Nat} (hs : s < 4) (S : sa_S ring bs R N L H E K s) (hz : (z = 1 ∧ sg_im (N s) (sa_s L s) (sa_s H s) (R s)) ∨ (z = 0 ∧ ¬ sg_im (N s) (sa_s L s) (sa_s H s) (R s)))
    (hw : (w = 1 ∧ sa_l R N H s < sa_t R N H E s) ∨ (w = 0 ∧ ¬ sa_l R N H s < sa_t R N H E s)) (hc : c + z = N s + w) (h : post (nI c)) : wpX_gaps post (ring, sa_f R, sa_e E, sa_f N, sa_f L, sa_f H) (nI s) := by
  have hR := S.1
  unfold wpX_gaps
  dsimp only
  refine sx_isS hs (br_f sa_10 ⟨vp_in_nI hs (by omega), vp_in_nI hs (by omega), ?_⟩)
  rw [sa_fr (by omega), sa_fr (by omega)]
  refine sx_isK hs S.2.1 (by omega) (fun im => br_f sa_10 ?_) (fun im => br_t rfl ?_)
  · have z1 : z = 1 := by
      rcases hz with ⟨a, _⟩ | ⟨_, a⟩
      · exact a
      · exact absurd im a
    subst z1
    have i0 := sg_im0 S.2.1 im
    exact so_g34 (z := 1) hs S (by omega) hw hc h
  · have z1 : z = 0 := by
      rcases hz with ⟨_, a⟩ | ⟨a, _⟩
      · exact absurd a im
      · exact a
    subst z1
    exact so_g34 (z := 0) hs S (by omega) hw hc h
theorem so_x45 {z m : Nat} (hs : s < 4) (hR : R s ≤ 240) (hN : N s ≤ 12) (hm : m + z ≤ N s) (h : post (nI (sg_q (R s) (sa_s H s) z m))) : wX_gap_45 post (nI s) (nI z) (nI m) ring (sa_f R) (sa_e E) (sa_f N) (sa_f L) (sa_f H) := by
  unfold sg_q at h
  refine nm_r (e' := nI (m + z)) (nI_add _ _) (pk_eq (m + z) 0 (fun a => ⟨vp_in_nI hs (by omega), ?_⟩) (fun a => ?_))
  · rw [if_pos a] at h
    rw [sa_fr (by omega)]
    exact h
  · rw [if_neg a] at h
    rw [sa_i13p (by omega), sa_fr (by omega)]
    exact ⟨vp_in_nI (by omega) (by omega), h⟩
theorem so_zw (S : sa_S ring bs R N L H E K s) : ∃ z w c, ((z = 1 ∧ sg_im (N s) (sa_s L s) (sa_s H s) (R s)) ∨ (z = 0 ∧ ¬ sg_im (N s) (sa_s L s) (sa_s H s) (R s))) ∧ ((w = 1 ∧ sa_l R N H s < sa_t R N H E s) ∨ (w = 0 ∧ ¬ sa_l R N H s < sa_t R N H E s)) ∧ c + z = N s + w ∧ c ≤ 13 := by
  have n12 := sg_12 S.2.1
  by_cases a : sg_im (N s) (sa_s L s) (sa_s H s) (R s)
  · have i0 := sg_im0 S.2.1 a
    by_cases b : sa_l R N H s < sa_t R N H E s
    · exact ⟨1, 1, N s, Or.inl ⟨rfl, a⟩, Or.inl ⟨rfl, b⟩, by omega, by omega⟩
    · exact ⟨1, 0, N s - 1, Or.inl ⟨rfl, a⟩, Or.inr ⟨rfl, b⟩, by omega, by omega⟩
  · by_cases b : sa_l R N H s < sa_t R N H E s
    · exact ⟨0, 1, N s + 1, Or.inr ⟨rfl, a⟩, Or.inl ⟨rfl, b⟩, by omega, by omega⟩
    · exact ⟨0, 0, N s, Or.inr ⟨rfl, a⟩, Or.inr ⟨rfl, b⟩, by omega, by omega⟩
theorem so_ygaps {c : Nat} {q : Nat → Nat} (hs : s < 4) (S : sa_S ring bs R N L H E K s) (Q : sg_gq (R s) (sa_t R N H E s) c (sy_B R K s) q) (hc : c < 2 ^ 31) (h : post (nI c)) : wpY_gaps post (sa_b K, bs, sa_f R, sa_e E) (nI s) := by
  have t := sa_Tf S
  unfold wpY_gaps
  dsimp only
  refine sy_bad hs (br_t rfl ⟨vp_in_nI hs (by omega), nm_r (e' := nI (R s)) (sa_fr (by omega)) ⟨sa_t R N H E s - R s + 1, ?_⟩⟩)
  exact sy_gapsL hs S Q hc h (sa_t R N H E s - R s) (R s) 0 (by omega) (Nat.le_refl _) (Nat.zero_le _) (fun m hm => absurd hm (Nat.not_lt_zero _)) (fun m _ hm => (Q.1 m hm).2.1)
theorem so_ygap {c : Nat} {q : Nat → Nat} {v : Int32} (hs : s < 4) (S : sa_S ring bs R N L H E K s) (Q : sg_gq (R s) (sa_t R N H E s) c (sy_B R K s) q) (hc : c < 2 ^ 31)
    (h0 : (∀ m, m < c → ¬ nI m = v) → post (-4)) (h1 : ∀ m, m < c → nI m = v → post (nI (q m))) : wpY_gap post (sa_b K, bs, sa_f R, sa_e E) (nI s) v := by
  have t := sa_Tf S
  unfold wpY_gap
  dsimp only
  refine sy_bad hs (br_t rfl ⟨vp_in_nI hs (by omega), nm_r (e' := nI (R s)) (sa_fr (by omega)) ⟨sa_t R N H E s - R s + 1, ?_⟩⟩)
  exact sy_gapL hs S Q hc h0 h1 (sa_t R N H E s - R s) (R s) 0 (by omega) (Nat.le_refl _) (Nat.zero_le _) (fun m hm => absurd hm (Nat.not_lt_zero _)) (fun m _ hm => (Q.1 m hm).2.1)
end
theorem i_vc_readable {k : Nat} {u : SX} {v : SY} (I : i_Rel k u v) (hk : k + 5 ≤ 2560) (v1 : Int32) : wpX_readable (fun r => wpY_readable (fun r' => r' = r ∧ i_Rel (k + 5) u v) v v1) u v1 := by
  refine so_el (P := fun u v => wpX_readable (fun r => wpY_readable (fun r' => r' = r ∧ i_Rel (k + 5) u v) v v1) u v1) I ?_
  intro ring bs R N L H E K J
  have rel : i_Rel (k + 5) (ring, sa_f R, sa_e E, sa_f N, sa_f L, sa_f H) (sa_b K, bs, sa_f R, sa_e E) := so_in J
  unfold wpX_readable wpY_readable
  dsimp only
  rcases sa_st v1 with ⟨s, hs, rfl⟩ | hv
  · have S := J.1 s hs
    have hR := S.1
    have G := S.2.1
    refine sx_isS hs (br_f sa_10 ⟨vp_in_nI hs (by omega), nm_r (e' := nI (R s)) (sa_fr (by omega)) (sx_isK hs G (by omega) (fun im => br_f sa_10 ?_) (fun im => br_t rfl ?_))⟩)
    · have i0 := sg_im0 G im
      have g0 := G.1 0 i0.1
      have h0 : sa_s H s 0 = H (13 * s) := rfl
      rw [sa_m13, sa_fr (by omega), pk_sub (by omega)]
      refine ⟨vp_in_nI (by omega) (by omega), sy_bad hs (br_t rfl ⟨H (13 * s) - R s + 1, ?_⟩)⟩
      refine sy_rbL (c := H (13 * s) - R s) hs hR (by omega) ?_ ?_ ⟨rfl, rel⟩ (H (13 * s) - R s) 0 (by omega)
      · intro j hj
        exact ⟨by omega, (sa_Kn S (by omega) (by omega)).mpr ⟨0, i0.1, by omega, by omega⟩⟩
      · intro q
        apply sa_bt
        intro q2
        have q3 := (sa_Kn S q (by omega)).mp q2
        rw [show R s + (H (13 * s) - R s) = sa_s H s 0 from by omega] at q3
        exact sg_nh G i0.1 q3
    · refine sy_bad hs (br_t rfl ⟨1, ?_⟩)
      refine sy_rbL (c := 0) hs hR (by omega) (fun j hj => absurd hj (Nat.not_lt_zero _)) ?_ ⟨rfl, rel⟩ 0 0 rfl
      intro q
      apply sa_bt
      intro q2
      exact im ((sa_Kn S q (by omega)).mp q2)
  · exact sx_isS0 hv (br_t rfl (sy_bad1 hv (br_f sa_10 ⟨rfl, rel⟩)))
theorem i_vc_highest {k : Nat} {u : SX} {v : SY} (I : i_Rel k u v) (hk : k + 5 ≤ 2560) (v1 : Int32) : wpX_highest (fun r => wpY_highest (fun r' => r' = r ∧ i_Rel (k + 5) u v) v v1) u v1 := by
  refine so_el (P := fun u v => wpX_highest (fun r => wpY_highest (fun r' => r' = r ∧ i_Rel (k + 5) u v) v v1) u v1) I ?_
  intro ring bs R N L H E K J
  have rel : i_Rel (k + 5) (ring, sa_f R, sa_e E, sa_f N, sa_f L, sa_f H) (sa_b K, bs, sa_f R, sa_e E) := so_in J
  rcases sa_st v1 with ⟨s, hs, rfl⟩ | hv
  · have S := J.1 s hs
    refine sx_highest hs (sg_12 S.2.1) (fun e he => (S.2.2.1 e he).2.2.1) ?_
    unfold wpY_highest
    dsimp only
    exact sy_bad hs (br_t rfl (sy_top hs S ⟨rfl, rel⟩))
  · unfold wpX_highest wpY_highest
    dsimp only
    exact sx_isS0 hv (br_t rfl (sy_bad1 hv (br_f sa_10 ⟨rfl, rel⟩)))
theorem i_vc_gaps {k : Nat} {u : SX} {v : SY} (I : i_Rel k u v) (hk : k + 5 ≤ 2560) (v1 : Int32) : wpX_gaps (fun r => wpY_gaps (fun r' => r' = r ∧ i_Rel (k + 5) u v) v v1) u v1 := by
  refine so_el (P := fun u v => wpX_gaps (fun r => wpY_gaps (fun r' => r' = r ∧ i_Rel (k + 5) u v) v v1) u v1) I ?_
  intro ring bs R N L H E K J
  have rel : i_Rel (k + 5) (ring, sa_f R, sa_e E, sa_f N, sa_f L, sa_f H) (sa_b K, bs, sa_f R, sa_e E) := so_in J
  rcases sa_st v1 with ⟨s, hs, rfl⟩ | hv
  · have S := J.1 s hs
    obtain ⟨z, w, c, hz, hw, hc, h13⟩ := so_zw S
    exact so_xgaps hs S hz hw hc (so_ygaps hs S (sa_gq S hz hw hc) (by omega) ⟨rfl, rel⟩)
  · unfold wpX_gaps wpY_gaps
    dsimp only
    exact sx_isS0 hv (br_t rfl (sy_bad1 hv (br_f sa_10 ⟨rfl, rel⟩)))
theorem i_vc_gap {k : Nat} {u : SX} {v : SY} (I : i_Rel k u v) (hk : k + 5 ≤ 2560) (v1 : Int32) (v2 : Int32) : wpX_gap (fun r => wpY_gap (fun r' => r' = r ∧ i_Rel (k + 5) u v) v v1 v2) u v1 v2 := by
  refine so_el (P := fun u v => wpX_gap (fun r => wpY_gap (fun r' => r' = r ∧ i_Rel (k + 5) u v) v v1 v2) u v1 v2) I ?_
  intro ring bs R N L H E K J
  have rel : i_Rel (k + 5) (ring, sa_f R, sa_e E, sa_f N, sa_f L, sa_f H) (sa_b K, bs, sa_f R, sa_e E) := so_in J
  rcases sa_st v1 with ⟨s, hs, rfl⟩ | hv
  · have S := J.1 s hs
    have hR := S.1
    have n12 := sg_12 S.2.1
    obtain ⟨z, w, c, hz, hw, hc, h13⟩ := so_zw S
    have Q := sa_gq S hz hw hc
    unfold wpX_gap
    dsimp only
    by_cases a1 : v2 < 0
    · refine sx_isS hs (br_f sa_10 (br_t a1 ?_))
      refine so_ygap hs S Q (by omega) (fun _ => ⟨rfl, rel⟩) (fun m hm q => ?_)
      rw [← q] at a1
      exact absurd a1 (nI_pos (by omega))
    · obtain ⟨m, hm, rfl⟩ := nI_of a1
      refine sx_isS hs (br_f sa_10 (br_f a1 (so_xgaps hs S hz hw hc (pk_lt m c (fun a2 => ⟨vp_in_nI hs (by omega), ?_⟩) (fun a2 => ?_)))))
      · have fin : wpY_gap (fun r' => r' = nI (sg_q (R s) (sa_s H s) z m) ∧ i_Rel (k + 5) (ring, sa_f R, sa_e E, sa_f N, sa_f L, sa_f H) (sa_b K, bs, sa_f R, sa_e E)) (sa_b K, bs, sa_f R, sa_e E) (nI s) (nI m) := by
          refine so_ygap hs S Q (by omega) (fun q => absurd rfl (q m a2)) (fun m' hm' q => ?_)
          have q2 := (nI_eq (by omega) hm).mp q
          subst q2
          exact ⟨rfl, rel⟩
        have w1 : w ≤ 1 := by rcases hw with ⟨a, _⟩ | ⟨a, _⟩ <;> omega
        rw [sa_fr (by omega)]
        refine sx_isK hs S.2.1 (by omega) (fun im => br_f sa_10 ?_) (fun im => br_t rfl ?_)
        · have z1 : z = 1 := by
            rcases hz with ⟨a, _⟩ | ⟨_, a⟩
            · exact a
            · exact absurd im a
          subst z1
          exact so_x45 (z := 1) hs hR n12 (by omega) fin
        · have z1 : z = 0 := by
            rcases hz with ⟨_, a⟩ | ⟨a, _⟩
            · exact absurd a im
            · exact a
          subst z1
          exact so_x45 (z := 0) hs hR n12 (by omega) fin
      · refine so_ygap hs S Q (by omega) (fun _ => ⟨rfl, rel⟩) (fun m' hm' q => ?_)
        have q2 := (nI_eq (by omega) hm).mp q
        omega
  · unfold wpX_gap wpY_gap
    dsimp only
    exact sx_isS0 hv (br_t rfl (sy_bad1 hv (br_f sa_10 ⟨rfl, rel⟩)))
theorem i_vc_allowed {k : Nat} {u : SX} {v : SY} (I : i_Rel k u v) (hk : k + 5 ≤ 2560) (v1 : Int32) : wpX_allowed (fun r => wpY_allowed (fun r' => r' = r ∧ i_Rel (k + 5) u v) v v1) u v1 := by
  refine so_el (P := fun u v => wpX_allowed (fun r => wpY_allowed (fun r' => r' = r ∧ i_Rel (k + 5) u v) v v1) u v1) I ?_
  intro ring bs R N L H E K J
  have rel : i_Rel (k + 5) (ring, sa_f R, sa_e E, sa_f N, sa_f L, sa_f H) (sa_b K, bs, sa_f R, sa_e E) := so_in J
  unfold wpX_allowed wpY_allowed
  dsimp only
  rcases sa_st v1 with ⟨s, hs, rfl⟩ | hv
  · have S := J.1 s hs
    have t := sa_Tf S
    have hR := S.1
    have hS := J.2
    have n12 := sg_12 S.2.1
    have hE : ∀ e, E s = some e → e ≤ 240 := fun e he => (S.2.2.1 e he).2.2.1
    have tS := sa_sml (F := sa_t R N H E) hs
    have c4 : sa_sm R ≤ 960 := by
      have q0 := (J.1 0 (by omega)).1
      have q1 := (J.1 1 (by omega)).1
      have q2 := (J.1 2 (by omega)).1
      have q3 := (J.1 3 (by omega)).1
      rw [sa_smd R]
      omega
    refine sx_isS hs (br_f sa_10 ⟨vp_in_nI hs (by omega), ?_⟩)
    rw [sa_er (by omega)]
    by_cases n : E s = none
    · have fin : ∀ M, M = min (min (R s + 24) 240) (sa_t R N H E s + (sa_sm R + 56 - sa_sm (sa_t R N H E))) → wpY_bad (fun r_1 => (r_1 = 0 → vp_in (nI s) 4 ∧ (sa_o (E s) < 0 → ∃ n29 : Nat, wY_allowed_29 (fun r' => r' = nI M ∧ i_Rel (k + 5) (ring, sa_f R, sa_e E, sa_f N, sa_f L, sa_f H) (sa_b K, bs, sa_f R, sa_e E)) (nI s) (sa_b K) bs (sa_f R) (sa_e E) n29 0 0) ∧ (¬ sa_o (E s) < 0 → vp_in (nI s) 4 ∧ (sa_o (E s) = nI M ∧ i_Rel (k + 5) (ring, sa_f R, sa_e E, sa_f N, sa_f L, sa_f H) (sa_b K, bs, sa_f R, sa_e E)))) ∧ (¬ r_1 = 0 → (-1 : Int32) = nI M ∧ i_Rel (k + 5) (ring, sa_f R, sa_e E, sa_f N, sa_f L, sa_f H) (sa_b K, bs, sa_f R, sa_e E))) (nI s) := by
        intro M hM
        refine sy_bad hs (br_t rfl ⟨vp_in_nI hs (by omega), br_t (sa_on n) ⟨242, ?_⟩⟩)
        have a := sy_alL (post := fun r' => r' = nI M ∧ i_Rel (k + 5) (ring, sa_f R, sa_e E, sa_f N, sa_f L, sa_f H) (sa_b K, bs, sa_f R, sa_e E)) (M := M) J hs (by omega) (fun i hi => ⟨fun q => ?_, fun q => ⟨by omega, by omega, by omega⟩⟩) ⟨rfl, rel⟩ 241 0 (by omega)
        · rw [show min (0 - 1) M = 0 from by omega] at a
          exact a
        · obtain ⟨q1, q2, q3⟩ := q
          omega
      refine br_t (sa_on n) (sx_lim hs hR (sx_highest hs n12 hE (sx_credit J ?_)))
      refine nm_r (e' := nI (sa_t R N H E s + (sa_sm R + 56 - sa_sm (sa_t R N H E)))) (nI_add _ _) (pk_le (sa_t R N H E s + (sa_sm R + 56 - sa_sm (sa_t R N H E))) (min (R s + 24) 240) (fun a => ?_) (fun a => ?_))
      · exact fin _ (by omega)
      · exact fin _ (by omega)
    · obtain ⟨e', n'⟩ : ∃ e', E s = some e' := by
        cases q : E s with
        | none => exact absurd q n
        | some e' => exact ⟨e', rfl⟩
      have b := hE e' n'
      exact br_f (sa_os n' (by omega)) ⟨vp_in_nI hs (by omega), sy_bad hs (br_t rfl ⟨vp_in_nI hs (by omega), br_f (sa_os n' (by omega)) ⟨vp_in_nI hs (by omega), rfl, rel⟩⟩)⟩
  · exact sx_isS0 hv (br_t rfl (sy_bad1 hv (br_f sa_10 ⟨rfl, rel⟩)))
theorem i_vc_complete {k : Nat} {u : SX} {v : SY} (I : i_Rel k u v) (hk : k + 5 ≤ 2560) (v1 : Int32) : wpX_complete (fun r => wpY_complete (fun r' => r' = r ∧ i_Rel (k + 5) u v) v v1) u v1 := by
  refine so_el (P := fun u v => wpX_complete (fun r => wpY_complete (fun r' => r' = r ∧ i_Rel (k + 5) u v) v v1) u v1) I ?_
  intro ring bs R N L H E K J
  have rel : i_Rel (k + 5) (ring, sa_f R, sa_e E, sa_f N, sa_f L, sa_f H) (sa_b K, bs, sa_f R, sa_e E) := so_in J
  unfold wpX_complete wpY_complete
  dsimp only
  rcases sa_st v1 with ⟨s, hs, rfl⟩ | hv
  · have S := J.1 s hs
    have hR := S.1
    have vs : vp_in (nI s) 4 := vp_in_nI hs (by omega)
    rw [sa_er (by omega), sa_fr (by omega)]
    by_cases n : E s = none
    · exact sx_isS hs (br_f sa_10 ⟨vs, vs, br_f (sa_onn n (by omega)) (sy_bad hs (br_t rfl ⟨vs, br_t (sa_on n) ⟨rfl, rel⟩⟩))⟩)
    · obtain ⟨e', n'⟩ : ∃ e', E s = some e' := by
        cases q : E s with
        | none => exact absurd q n
        | some e' => exact ⟨e', rfl⟩
      have b := (S.2.2.1 e' n').2.2.1
      have ns := sa_os n' (by omega)
      by_cases c : sa_o (E s) = nI (R s)
      · exact sx_isS hs (br_f sa_10 ⟨vs, vs, br_t c (sy_bad hs (br_t rfl ⟨vs, br_f ns ⟨vs, vs, br_t c.symm ⟨rfl, rel⟩⟩⟩))⟩)
      · exact sx_isS hs (br_f sa_10 ⟨vs, vs, br_f c (sy_bad hs (br_t rfl ⟨vs, br_f ns ⟨vs, vs, br_f (fun q => c q.symm) ⟨rfl, rel⟩⟩⟩))⟩)
  · exact sx_isS0 hv (br_t rfl (sy_bad1 hv (br_f sa_10 ⟨rfl, rel⟩)))
end
