section
/-! rows pk_*, wb_* began as rows of the kit (to paste) -/
theorem pk_us {f : Nat → Int32} {k : Nat} {x : Int32} : upd f k x k = x := if_pos rfl
theorem pk_un {f : Nat → Int32} {k j : Nat} {x : Int32} (h : j ≠ k) : upd f k x j = f j := if_neg h
theorem pk_uLs {f : Nat → Int64} {k : Nat} {x : Int64} : vp_updL f k x k = x := if_pos rfl
theorem pk_uLn {f : Nat → Int64} {k j : Nat} {x : Int64} (h : j ≠ k) : vp_updL f k x j = f j := if_neg h
theorem pk_sub {a b : Nat} (h : b ≤ a) : nI a - nI b = nI (a - b) := by
  obtain ⟨c, rfl⟩ : ∃ c, a = c + b := ⟨a - b, by omega⟩
  rw [← nI_add, Int32.add_sub_cancel, Nat.add_sub_cancel]
theorem pk_m1 (n : Nat) : nI (n + 1) + (-1) = nI n := by
  rw [← nI_1, Int32.add_assoc, show (1 : Int32) + (-1) = 0 from rfl, Int32.add_zero]
theorem pk_mul (a b : Nat) : nI a * nI b = nI (a * b) := (Int32.ofNat_mul a b).symm
theorem pk_div {a d : Nat} (ha : a < 2 ^ 31) (h0 : 0 < d) (hd : d < 2 ^ 31) : nI a / nI d = nI (a / d) := by
  apply Int32.toInt_inj.mp
  rw [lg_idiv_nonneg (by rw [nI_toInt ha]; omega) (by rw [nI_toInt hd]; omega), nI_toInt ha, nI_toInt hd, nI_toInt (Nat.lt_of_le_of_lt (Nat.div_le_self a d) ha)]
  first | rfl | exact (Int.natCast_ediv _ _).symm
theorem pk_rem {a d : Nat} (ha : a < 2 ^ 31) (h0 : 0 < d) (hd : d < 2 ^ 31) : nI a - nI a / nI d * nI d = nI (a % d) := by
  rw [pk_div ha h0 hd, pk_mul, pk_sub (Nat.div_mul_le_self a d)]
  exact congrArg nI (by have := Nat.div_add_mod' a d; omega)
theorem pk_ix (x : Int32) {n : Nat} (hn : n < 2 ^ 31) : x < 0 ∨ nI n ≤ x ∨ ∃ j : Nat, j < n ∧ x = nI j := by
  by_cases h : x < 0
  · exact Or.inl h
  · obtain ⟨j, hj, rfl⟩ := nI_of h
    by_cases h2 : j < n
    · exact Or.inr (Or.inr ⟨j, h2, rfl⟩)
    · exact Or.inr (Or.inl (nI_le (by omega) hj))
theorem pk_le {x y : Int32} {A B : Prop} (a b : Nat) (f : a ≤ b → A) (g : b < a → B) (hx : x = nI a := by rfl) (hy : y = nI b := by rfl) (ha : a < 2 ^ 31 := by omega) (hb : b < 2 ^ 31 := by omega) : (x ≤ y → A) ∧ (¬ x ≤ y → B) := by
  subst hx hy
  rw [nI_leI ha hb]
  exact ⟨f, fun z => g (by omega)⟩
theorem pk_lt {x y : Int32} {A B : Prop} (a b : Nat) (f : a < b → A) (g : b ≤ a → B) (hx : x = nI a := by rfl) (hy : y = nI b := by rfl) (ha : a < 2 ^ 31 := by omega) (hb : b < 2 ^ 31 := by omega) : (x < y → A) ∧ (¬ x < y → B) := by
  subst hx hy
  rw [nI_ltI ha hb]
  exact ⟨f, fun z => g (by omega)⟩
theorem pk_eq {x y : Int32} {A B : Prop} (a b : Nat) (f : a = b → A) (g : a ≠ b → B) (hx : x = nI a := by rfl) (hy : y = nI b := by rfl) (ha : a < 2 ^ 31 := by omega) (hb : b < 2 ^ 31 := by omega) : (x = y → A) ∧ (¬ x = y → B) := by
  subst hx hy
  rw [nI_eq ha hb]
  exact ⟨f, g⟩
theorem pk_in {x : Int32} (n N : Nat) (h : n < N) (hx : x = nI n := by rfl) (hN : N < 2 ^ 31 := by omega) : vp_in x N := by
  subst hx
  exact vp_in_nI h hN
theorem pk_cl {x : Int32} (n : Nat) (hx : x = nI n := by rfl) (h : n < 2 ^ 31 := by omega) : x.toNatClampNeg = n := by
  subst hx
  exact nI_clamp h
theorem wb_tb (n : Nat) : (lN n).toBitVec = BitVec.ofNat 64 n := rfl
theorem wb_inj {a b : Int64} (h : a.toBitVec = b.toBitVec) : a = b := Int64.toBitVec_inj.mp h
theorem wb_c : ∀ k, k < 64 → ((nI k).toInt64 &&& 63) = lN k := by decide +kernel
theorem wb_sm : ∀ k, k < 64 → (BitVec.ofNat 64 k).smod 64 = BitVec.ofNat 64 k := by decide +kernel
/-! numbers -/
theorem zn_if {c d A B : Prop} (e : c ↔ d) (f : d → A) (g : ¬ d → B) : (c → A) ∧ (¬ c → B) :=
  ⟨fun h => f (e.mp h), fun h => g (fun k => h (e.mpr k))⟩
theorem zn_add0 (x : Int32) : x + 0 = x := Int32.add_zero x
theorem zn_t0 : (0 : Int32).toInt = 0 := by decide
theorem zn_le0 {a : Nat} (h : a < 2 ^ 31) : nI a ≤ 0 ↔ a = 0 := by
  rw [← nI_0, nI_leI h (by omega)]; omega
theorem zn_eq0 {a : Nat} (h : a < 2 ^ 31) : nI a = 0 ↔ a = 0 := by
  rw [← nI_0, nI_eq h (by omega)]
theorem zn_lt3 {a : Nat} (h : a < 2 ^ 31) : nI a < 3 ↔ a < 3 := nI_ltI (b := 3) h (by decide)
theorem zn_3le {a : Nat} (h : a < 2 ^ 31) : 3 ≤ nI a ↔ 3 ≤ a := nI_leI (a := 3) (by decide) h
theorem zn_le3 {a : Nat} (h : a < 2 ^ 31) : nI a ≤ 3 ↔ a ≤ 3 := nI_leI (b := 3) h (by decide)
theorem zn_3lt {a : Nat} (h : a < 2 ^ 31) : 3 < nI a ↔ 3 < a := nI_ltI (a := 3) (by decide) h
theorem zn_4le {a : Nat} (h : a < 2 ^ 31) : 4 ≤ nI a ↔ 4 ≤ a := nI_leI (a := 4) (by decide) h
theorem zn_48le {a : Nat} (h : a < 2 ^ 31) : 48 ≤ nI a ↔ 48 ≤ a := nI_leI (a := 48) (by decide) h
theorem zn_lt48 {a : Nat} (h : a < 2 ^ 31) : nI a < 48 ↔ a < 48 := nI_ltI (b := 48) h (by decide)
theorem zn_eq48 {a : Nat} (h : a < 2 ^ 31) : nI a = 48 ↔ a = 48 := nI_eq (b := 48) h (by decide)
theorem zn_eq1 {a : Nat} (h : a < 2 ^ 31) : nI a = 1 ↔ a = 1 := nI_eq (b := 1) h (by decide)
theorem zn_eq2 {a : Nat} (h : a < 2 ^ 31) : nI a = 2 ↔ a = 2 := nI_eq (b := 2) h (by decide)
theorem zn_sub1 {a : Nat} (h : 0 < a) : nI a - 1 = nI (a - 1) := by
  obtain ⟨m, rfl⟩ : ∃ m, a = m + 1 := ⟨a - 1, by omega⟩
  exact nI_pred m
theorem zn_m1 {a : Nat} (h : 0 < a) : nI a + (-1) = nI (a - 1) := by
  obtain ⟨m, rfl⟩ : ∃ m, a = m + 1 := ⟨a - 1, by omega⟩
  exact pk_m1 m
theorem zn_4 (a b : Nat) : 4 * nI a + nI b = nI (4 * a + b) := by
  rw [← nI_add, ← pk_mul]; rfl
theorem zn_48 (a b : Nat) : 48 * nI a + nI b = nI (48 * a + b) := by
  rw [← nI_add, ← pk_mul]; rfl
theorem zn_c4 {a b : Nat} (ha : a < 48) (hb : b < 4) : (4 * nI a + nI b).toNatClampNeg = 4 * a + b := by
  rw [zn_4]; exact nI_clamp (by omega)
theorem zn_i4 {a b : Nat} (ha : a < 48) (hb : b < 4) : vp_in (4 * nI a + nI b) 192 := by
  rw [zn_4]; exact vp_in_nI (by omega) (by decide)
theorem zn_i {a : Nat} (h : a < 48) : vp_in (nI a) 48 := vp_in_nI h (by decide)
theorem zn_c {a : Nat} (h : a < 48) : (nI a).toNatClampNeg = a := nI_clamp (by omega)
/-! n - 1 -/
def zp_I (n : Nat) : Int32 := nI n - 1
theorem zp_0 : zp_I 0 = -1 := by decide
theorem zp_1 : zp_I 1 = 0 := by decide
theorem zp_s (n : Nat) : zp_I (n + 1) = nI n := nI_pred n
theorem zp_pos {n : Nat} (h : 0 < n) : zp_I n = nI (n - 1) := zn_sub1 h
theorem zp_toInt {n : Nat} (h : n < 2 ^ 31) : (zp_I n).toInt = (n : Int) - 1 := by
  cases n with
  | zero => decide
  | succ n => rw [zp_s, nI_toInt (by omega)]; omega
theorem zp_le {a b : Nat} (ha : a < 2 ^ 31) (hb : b < 2 ^ 31) : zp_I a ≤ zp_I b ↔ a ≤ b := by
  rw [Int32.le_iff_toInt_le, zp_toInt ha, zp_toInt hb]; omega
theorem zp_lt {a b : Nat} (ha : a < 2 ^ 31) (hb : b < 2 ^ 31) : zp_I a < zp_I b ↔ a < b := by
  rw [Int32.lt_iff_toInt_lt, zp_toInt ha, zp_toInt hb]; omega
theorem zp_neg {a : Nat} (ha : a < 2 ^ 31) : zp_I a < 0 ↔ a = 0 := by
  rw [Int32.lt_iff_toInt_lt, zp_toInt ha, zn_t0]; omega
theorem zp_0le {a : Nat} (ha : a < 2 ^ 31) : 0 ≤ zp_I a ↔ 0 < a := by
  rw [Int32.le_iff_toInt_le, zp_toInt ha, zn_t0]; omega
theorem zp_ltn {a b : Nat} (ha : a < 2 ^ 31) (hb : b < 2 ^ 31) : zp_I a < nI b ↔ a ≤ b := by
  rw [Int32.lt_iff_toInt_lt, zp_toInt ha, nI_toInt hb]; omega
/-! stores of naturals -/
def zu_N (f : Nat → Nat) (k v : Nat) : Nat → Nat := fun j => if j = k then v else f j
theorem zu_s {f : Nat → Nat} {k v : Nat} : zu_N f k v k = v := if_pos rfl
theorem zu_n {f : Nat → Nat} {k v j : Nat} (h : j ≠ k) : zu_N f k v j = f j := if_neg h
theorem zu_nI {a : Nat → Int32} {f : Nat → Nat} (h : ∀ j, a j = nI (f j)) (k v : Nat) : ∀ j, upd a k (nI v) j = nI (zu_N f k v j) := by
  intro j
  by_cases e : j = k
  · subst e; rw [pk_us, zu_s]
  · rw [pk_un e, zu_n e, h]
theorem zu_pI {a : Nat → Int32} {f : Nat → Nat} (h : ∀ j, a j = zp_I (f j)) (k v : Nat) : ∀ j, upd a k (zp_I v) j = zp_I (zu_N f k v j) := by
  intro j
  by_cases e : j = k
  · subst e; rw [pk_us, zu_s]
  · rw [pk_un e, zu_n e, h]
/-! bits -/
def zb_l (w : Int64) (i : Nat) : Bool := w.toBitVec.getLsbD i
theorem zb_or (a b : Int64) (i : Nat) : zb_l (a ||| b) i = (zb_l a i || zb_l b i) := by
  unfold zb_l
  rw [Int64.toBitVec_or, BitVec.getLsbD_or]
theorem zb_0 (i : Nat) : zb_l 0 i = false := by
  show (0#64).getLsbD i = false
  exact BitVec.getLsbD_zero
theorem zb_one0 : ∀ k, k < 48 → ∀ i, i < 64 → ((1 : Int64) <<< ((nI k).toInt64 &&& 63)).toBitVec.getLsbD i = decide (i = k) := by decide +kernel
theorem zb_one {k : Nat} (hk : k < 48) (i : Nat) : zb_l ((1 : Int64) <<< ((nI k).toInt64 &&& 63)) i = decide (i = k) := by
  by_cases h : i < 64
  · exact zb_one0 k hk i h
  · unfold zb_l
    rw [BitVec.getLsbD_of_ge _ _ (by omega)]
    exact (decide_eq_false (by omega)).symm
theorem zb_bit (w : Int64) {k : Nat} (hk : k < 64) : ((w >>> ((nI k).toInt64 &&& 63)) &&& 1) = 1 ↔ zb_l w k = true := by
  have e : (w >>> ((nI k).toInt64 &&& 63)).toBitVec = w.toBitVec.sshiftRight k := by
    rw [wb_c k hk, Int64.toBitVec_shiftRight, wb_tb, wb_sm k hk]
    show w.toBitVec.sshiftRight (BitVec.ofNat 64 k).toNat = _
    rw [BitVec.toNat_ofNat, Nat.mod_eq_of_lt (by omega)]
  rw [← Int64.toBitVec_inj, Int64.toBitVec_and, e]
  show w.toBitVec.sshiftRight k &&& 1#64 = 1#64 ↔ w.toBitVec.getLsbD k = true
  have g : (w.toBitVec.sshiftRight k).getLsbD 0 = w.toBitVec.getLsbD k := by
    rw [BitVec.getLsbD_sshiftRight]
    simp [hk]
  constructor
  · intro h
    have t := congrArg (fun x => x.getLsbD 0) h
    simp only [BitVec.getLsbD_and] at t
    rw [g] at t
    simpa using t
  · intro h
    apply BitVec.eq_of_getLsbD_eq
    intro i hi
    rw [BitVec.getLsbD_and]
    by_cases h0 : i = 0
    · subst h0; rw [g, h]; rfl
    · have e1 : (1#64).getLsbD i = false := by
        rw [BitVec.getLsbD_one]; simp [h0]
      rw [e1, Bool.and_false]
/-! booleans -/
theorem zo_n0 : vp_nar .boolean 0 = 0 := by decide
theorem zo_n1 : vp_nar .boolean 1 = 1 := by decide
theorem zo_n {x : Int32} (h : x = 0 ∨ x = 1) : vp_nar .boolean x = x := by
  rcases h with h | h
  · subst h; exact zo_n0
  · subst h; exact zo_n1
theorem zo_10 : ¬ (1 : Int32) = 0 := by decide
/-! an if over a Prop; counting -/
noncomputable def zc_if {α : Type} (p : Prop) (a b : α) : α := @ite α p (Classical.propDecidable p) a b
theorem zc_t {α : Type} {p : Prop} {a b : α} (h : p) : zc_if p a b = a := if_pos h
theorem zc_f {α : Type} {p : Prop} {a b : α} (h : ¬ p) : zc_if p a b = b := if_neg h
theorem zc_g {α : Type} {p q : Prop} {a b : α} (h : p ↔ q) : zc_if p a b = zc_if q a b := by
  rw [propext h]
noncomputable def zc_ct (p : Nat → Prop) : Nat → Nat
  | 0 => 0
  | n + 1 => zc_ct p n + zc_if (p n) 1 0
theorem zc_s {p : Nat → Prop} {n : Nat} : zc_ct p (n + 1) = zc_ct p n + zc_if (p n) 1 0 := rfl
theorem zc_st {p : Nat → Prop} {n : Nat} (h : p n) : zc_ct p (n + 1) = zc_ct p n + 1 := by
  rw [zc_s, zc_t h]
theorem zc_sf {p : Nat → Prop} {n : Nat} (h : ¬ p n) : zc_ct p (n + 1) = zc_ct p n := by
  rw [zc_s, zc_f h, Nat.add_zero]
theorem zc_c {p q : Nat → Prop} : ∀ n, (∀ i, i < n → (p i ↔ q i)) → zc_ct p n = zc_ct q n := by
  intro n
  induction n with
  | zero => intro _; rfl
  | succ n ih =>
    intro h
    rw [zc_s, zc_s, ih (fun i hi => h i (by omega)), zc_g (h n (by omega))]
theorem zc_le {p : Nat → Prop} : ∀ n, zc_ct p n ≤ n := by
  intro n
  induction n with
  | zero => exact Nat.le_refl 0
  | succ n ih =>
    by_cases h : p n
    · rw [zc_st h]; omega
    · rw [zc_sf h]; omega
theorem zc_pos {p : Nat → Prop} : ∀ n, 0 < zc_ct p n ↔ ∃ i, i < n ∧ p i := by
  intro n
  induction n with
  | zero =>
    constructor
    · intro h; exact absurd h (Nat.lt_irrefl 0)
    · intro ⟨i, hi, _⟩; exact absurd hi (Nat.not_lt_zero i)
  | succ n ih =>
    by_cases h : p n
    · rw [zc_st h]
      exact ⟨fun _ => ⟨n, by omega, h⟩, fun _ => by omega⟩
    · rw [zc_sf h, ih]
      constructor
      · intro ⟨i, hi, hp⟩; exact ⟨i, by omega, hp⟩
      · intro ⟨i, hi, hp⟩
        by_cases e : i = n
        · subst e; exact absurd hp h
        · exact ⟨i, by omega, hp⟩
/-- one more member -/
theorem zc_in {p : Nat → Prop} {a : Nat} (ha : ¬ p a) : ∀ n, zc_ct (fun i => p i ∨ i = a) n = zc_ct p n + (if a < n then 1 else 0) := by
  intro n
  induction n with
  | zero => rfl
  | succ n ih =>
    by_cases e : n = a
    · subst e
      rw [zc_st (p := fun i => p i ∨ i = n) (Or.inr rfl), zc_sf ha, ih, if_neg (Nat.lt_irrefl n), if_pos (Nat.lt_succ_self n)]
    · by_cases h : p n
      · rw [zc_st (p := fun i => p i ∨ i = a) (Or.inl h), zc_st h, ih]
        by_cases l : a < n
        · rw [if_pos l, if_pos (by omega)]
        · rw [if_neg l, if_neg (by omega)]
      · rw [zc_sf (p := fun i => p i ∨ i = a) (fun z => z.elim h e), zc_sf h, ih]
        by_cases l : a < n
        · rw [if_pos l, if_pos (by omega)]
        · rw [if_neg l, if_neg (by omega)]
/-- things of different makers are as many as their makers -/
theorem zc_inj {S : Nat → Prop} {M : Nat → Nat} {k : Nat} : ∀ c, (∀ x, x < c → M x < k) → (∀ x y, x < y → y < c → S x → S y → M x ≠ M y) → zc_ct S c = zc_ct (fun i => ∃ z, z < c ∧ S z ∧ M z = i) k := by
  intro c
  induction c with
  | zero =>
    intro _ _
    show 0 = _
    have : ∀ n, zc_ct (fun i => ∃ z, z < 0 ∧ S z ∧ M z = i) n = 0 := by
      intro n
      induction n with
      | zero => rfl
      | succ n ih => rw [zc_sf (fun ⟨z, hz, _⟩ => absurd hz (Nat.not_lt_zero z)), ih]
    exact (this k).symm
  | succ c ih =>
    intro hM hS
    have e := ih (fun x hx => hM x (by omega)) (fun x y h1 h2 => hS x y h1 (by omega))
    by_cases h : S c
    · rw [zc_st h, e]
      have g : zc_ct (fun i => ∃ z, z < c + 1 ∧ S z ∧ M z = i) k = zc_ct (fun i => (∃ z, z < c ∧ S z ∧ M z = i) ∨ i = M c) k := by
        apply zc_c
        intro i _
        constructor
        · intro ⟨z, hz, hs, hm⟩
          by_cases ez : z = c
          · subst ez; exact Or.inr hm.symm
          · exact Or.inl ⟨z, by omega, hs, hm⟩
        · intro hh
          rcases hh with ⟨z, hz, hs, hm⟩ | hm
          · exact ⟨z, by omega, hs, hm⟩
          · exact ⟨c, by omega, h, hm.symm⟩
      rw [g, zc_in (p := fun i => ∃ z, z < c ∧ S z ∧ M z = i) (a := M c), if_pos (hM c (by omega))]
      intro ⟨z, hz, hs, hm⟩
      exact hS z c hz (by omega) hs h hm
    · rw [zc_sf h, e]
      apply zc_c
      intro i _
      constructor
      · intro ⟨z, hz, hs, hm⟩; exact ⟨z, by omega, hs, hm⟩
      · intro ⟨z, hz, hs, hm⟩
        by_cases ez : z = c
        · subst ez; exact absurd hs h
        · exact ⟨z, by omega, hs, hm⟩
/-! insertion -/
noncomputable def zi_k {α : Type} (s : α → Prop) (a : Nat → α) : Nat → Nat
  | 0 => 0
  | n + 1 => zc_if (s (a n)) (n + 1) (zi_k s a n)
def zi_a {α : Type} (a : Nat → α) (k : Nat) (v : α) : Nat → α := fun i => if i < k then a i else if i = k then v else a (i - 1)
theorem zi_st {α : Type} {s : α → Prop} {a : Nat → α} {n : Nat} (h : s (a n)) : zi_k s a (n + 1) = n + 1 := zc_t h
theorem zi_sf {α : Type} {s : α → Prop} {a : Nat → α} {n : Nat} (h : ¬ s (a n)) : zi_k s a (n + 1) = zi_k s a n := zc_f h
theorem zi_le {α : Type} {s : α → Prop} {a : Nat → α} : ∀ n, zi_k s a n ≤ n := by
  intro n
  induction n with
  | zero => exact Nat.le_refl 0
  | succ n ih =>
    by_cases h : s (a n)
    · rw [zi_st h]; exact Nat.le_refl _
    · rw [zi_sf h]; omega
theorem zi_c {α : Type} {s : α → Prop} {a b : Nat → α} : ∀ n, (∀ i, i < n → a i = b i) → zi_k s a n = zi_k s b n := by
  intro n
  induction n with
  | zero => intro _; rfl
  | succ n ih =>
    intro h
    have e := ih (fun i hi => h i (by omega))
    have f := h n (by omega)
    by_cases z : s (a n)
    · rw [zi_st z, zi_st (by rw [← f]; exact z)]
    · rw [zi_sf z, zi_sf (by rw [← f]; exact z), e]
theorem zi_1 {α : Type} {a : Nat → α} {k i : Nat} {v : α} (h : i < k) : zi_a a k v i = a i := if_pos h
theorem zi_2 {α : Type} {a : Nat → α} {k : Nat} {v : α} : zi_a a k v k = v := by
  unfold zi_a; rw [if_neg (Nat.lt_irrefl k), if_pos rfl]
theorem zi_3 {α : Type} {a : Nat → α} {k i : Nat} {v : α} (h : k < i) : zi_a a k v i = a (i - 1) := by
  unfold zi_a; rw [if_neg (by omega), if_neg (by omega)]
end
section
/-! what is under what: U x y, x is under y -/
def zg_U (c : Nat) (M : Nat → Nat) (U : Nat → Nat → Prop) : Prop :=
  (∀ x, x < c → M x < 4) ∧ (∀ x, x < c → U x x) ∧ (∀ x y, y < c → U x y → x ≤ y) ∧ (∀ x y z, z < c → U x y → U y z → U x z) ∧ (∀ x y, y < c → x ≤ y → M x = M y → U x y)
def zg_R (c : Nat) (M P RL Ro : Nat → Nat) : Prop :=
  (∀ m, m < 4 → RL m ≤ c) ∧ (∀ x, x < c → P x < RL (M x) ∧ Ro (48 * M x + P x) = x) ∧ (∀ m p, m < 4 → p < RL m → Ro (48 * m + p) < c ∧ M (Ro (48 * m + p)) = m ∧ P (Ro (48 * m + p)) = p) ∧ (∀ x y, x < c → y < c → M x = M y → (x < y ↔ P x < P y))
def zg_K (c : Nat) (M P RL : Nat → Nat) (U : Nat → Nat → Prop) (kn : Nat → Nat) : Prop :=
  (∀ y m, y < c → m < 4 → kn (4 * y + m) ≤ RL m) ∧ (∀ x y, x < c → y < c → (U x y ↔ P x < kn (4 * y + M x)))
def zg_F (c : Nat) (M P RL : Nat → Nat) (U : Nat → Nat → Prop) (kf : Nat → Nat) : Prop :=
  (∀ x m, x < c → m < 4 → kf (4 * x + m) ≤ RL m) ∧ (∀ x z, x < c → z < c → (U x z ↔ 0 < kf (4 * x + M z) ∧ kf (4 * x + M z) ≤ P z + 1))
/-- the latest event of a member: 0 for none, z + 1 for z -/
def zg_own (c : Nat) (M : Nat → Nat) (m ow : Nat) : Prop :=
  (ow = 0 ∧ ∀ x, x < c → M x ≠ m) ∨ (0 < ow ∧ ow - 1 < c ∧ M (ow - 1) = m ∧ ∀ x, x < c → M x = m → x ≤ ow - 1)
def zg_new (c : Nat) (U U' : Nat → Nat → Prop) (ow ot : Nat) : Prop :=
  (∀ x y, y ≠ c → (U' x y ↔ U x y)) ∧ (∀ x, U' x c ↔ (x = c ∨ (0 < ow ∧ U x (ow - 1)) ∨ (0 < ot ∧ U x (ot - 1))))
section GR
variable {c m ow ot : Nat} {M P RL Ro kn kf : Nat → Nat} {U U' : Nat → Nat → Prop}
theorem zg_ownle (h : zg_own c M m ow) : ow ≤ c := by
  rcases h with ⟨h, _⟩ | ⟨h0, h, _⟩ <;> omega
theorem zg_own_u (h : zg_own c M m ow) {b : Nat} (h2 : zg_own c M m b) : ow = b := by
  rcases h with ⟨h, g⟩ | ⟨h0, h, g, k⟩ <;> rcases h2 with ⟨h2, g2⟩ | ⟨h20, h2, g2, k2⟩
  · rw [h, h2]
  · exact absurd g2 (g _ h2)
  · exact absurd g (g2 _ h)
  · have := k _ h2 g2
    have := k2 _ h g
    omega
/-- by the rows -/
theorem zg_row_own (hR : zg_R c M P RL Ro) (hm : m < 4) : zg_own c M m (if RL m = 0 then 0 else Ro (48 * m + (RL m - 1)) + 1) := by
  obtain ⟨r1, r2, r3, r4⟩ := hR
  by_cases h : RL m = 0
  · rw [if_pos h]
    refine Or.inl ⟨rfl, fun x hx e => ?_⟩
    have := (r2 x hx).1
    rw [e] at this
    omega
  · rw [if_neg h]
    obtain ⟨a1, a2, a3⟩ := r3 m (RL m - 1) hm (by omega)
    refine Or.inr ⟨by omega, by simpa using a1, by simpa using a2, fun x hx e => ?_⟩
    have b := (r2 x hx).1
    rw [e] at b
    have d := r4 (Ro (48 * m + (RL m - 1))) x a1 hx (by rw [a2, e])
    rw [a3] at d
    show x ≤ Ro (48 * m + (RL m - 1)) + 1 - 1
    have : ¬ Ro (48 * m + (RL m - 1)) < x := fun z => by
      have := d.mp z
      omega
    omega
theorem zg_newc (hN : zg_new c U U' ow ot) : U' c c := (hN.2 c).mpr (Or.inl rfl)
theorem zg_newo (hU : zg_U c M U) (hw : zg_own c M m ow) (hN : zg_new c U U' ow ot) {x : Nat} (hx : x < c) (e : M x = m) : 0 < ow ∧ U x (ow - 1) := by
  rcases hw with ⟨_, g⟩ | ⟨h0, h, g, k⟩
  · exact absurd e (g x hx)
  · exact ⟨h0, hU.2.2.2.2 x (ow - 1) h (k x hx e) (by rw [e, g])⟩
theorem zg_U_new (hU : zg_U c M U) (hm : m < 4) (hw : zg_own c M m ow) (ht : ot ≤ c) (hN : zg_new c U U' ow ot) : zg_U (c + 1) (zu_N M c m) U' := by
  have hwl := zg_ownle hw
  obtain ⟨u1, u2, u3, u4, u5⟩ := hU
  refine ⟨?_, ?_, ?_, ?_, ?_⟩
  · intro x hx
    by_cases e : x = c
    · subst e; rw [zu_s]; exact hm
    · rw [zu_n e]; exact u1 x (by omega)
  · intro x hx
    by_cases e : x = c
    · subst e; exact zg_newc hN
    · exact (hN.1 x x e).mpr (u2 x (by omega))
  · intro x y hy h
    by_cases e : y = c
    · subst e
      rcases (hN.2 x).mp h with h | ⟨h0, h⟩ | ⟨h0, h⟩
      · omega
      · have := u3 x _ (by omega) h; omega
      · have := u3 x _ (by omega) h; omega
    · exact u3 x y (by omega) ((hN.1 x y e).mp h)
  · intro x y z hz h1 h2
    by_cases e : z = c
    · subst e
      rcases (hN.2 y).mp h2 with h | ⟨h0, h⟩ | ⟨h0, h⟩
      · subst h; exact h1
      · have l := u3 y _ (by omega) h
        exact (hN.2 x).mpr (Or.inr (Or.inl ⟨h0, u4 x y _ (by omega) ((hN.1 x y (by omega)).mp h1) h⟩))
      · have l := u3 y _ (by omega) h
        exact (hN.2 x).mpr (Or.inr (Or.inr ⟨h0, u4 x y _ (by omega) ((hN.1 x y (by omega)).mp h1) h⟩))
    · have h := (hN.1 y z e).mp h2
      have l := u3 y z (by omega) h
      exact (hN.1 x z e).mpr (u4 x y z (by omega) ((hN.1 x y (by omega)).mp h1) h)
  · intro x y hy hl e
    by_cases ey : y = c
    · subst ey
      by_cases ex : x = y
      · subst ex; exact zg_newc hN
      · rw [zu_n ex, zu_s] at e
        exact (hN.2 x).mpr (Or.inr (Or.inl (zg_newo ⟨u1, u2, u3, u4, u5⟩ hw hN (by omega) e)))
    · rw [zu_n ey, zu_n (by omega)] at e
      exact (hN.1 x y ey).mpr (u5 x y (by omega) hl e)
theorem zg_R_new (hR : zg_R c M P RL Ro) (hU : zg_U c M U) (hm : m < 4) (hc : c < 48) : zg_R (c + 1) (zu_N M c m) (zu_N P c (RL m)) (zu_N RL m (RL m + 1)) (zu_N Ro (48 * m + RL m) c) := by
  obtain ⟨r1, r2, r3, r4⟩ := hR
  have u1 := hU.1
  have lm := r1 m hm
  refine ⟨?_, ?_, ?_, ?_⟩
  · intro i hi
    by_cases e : i = m
    · subst e; rw [zu_s]; omega
    · rw [zu_n e]; have := r1 i hi; omega
  · intro x hx
    by_cases e : x = c
    · subst e
      rw [zu_s, zu_s, zu_s, zu_s]
      exact ⟨by omega, rfl⟩
    · have hx' : x < c := by omega
      rw [zu_n e, zu_n e]
      obtain ⟨a1, a2⟩ := r2 x hx'
      by_cases em : M x = m
      · rw [em] at a1 a2 ⊢
        rw [zu_s, zu_n (by omega)]
        exact ⟨by omega, a2⟩
      · have l4 := u1 x hx'
        have lc := r1 (M x) l4
        rw [zu_n em, zu_n (by omega)]
        exact ⟨a1, a2⟩
  · intro i p hi hp
    by_cases e : i = m
    · subst e
      rw [zu_s] at hp
      by_cases ep : p = RL i
      · subst ep
        rw [zu_s, zu_s, zu_s]
        exact ⟨by omega, rfl, rfl⟩
      · obtain ⟨a1, a2, a3⟩ := r3 i p hi (by omega)
        have en : Ro (48 * i + p) ≠ c := by omega
        rw [zu_n (f := Ro) (by omega), zu_n en, zu_n en]
        exact ⟨by omega, a2, a3⟩
    · rw [zu_n e] at hp
      have li := r1 i hi
      obtain ⟨a1, a2, a3⟩ := r3 i p hi hp
      have en : Ro (48 * i + p) ≠ c := by omega
      rw [zu_n (f := Ro) (by omega), zu_n en, zu_n en]
      exact ⟨by omega, a2, a3⟩
  · intro x y hx hy e
    by_cases ex : x = c
    · subst ex
      by_cases ey : y = x
      · subst ey; omega
      · rw [zu_s, zu_n ey] at e
        rw [zu_s, zu_n ey]
        have := (r2 y (by omega)).1
        rw [← e] at this
        omega
    · by_cases ey : y = c
      · subst ey
        rw [zu_s, zu_n ex] at e
        rw [zu_s, zu_n ex]
        have := (r2 x (by omega)).1
        rw [e] at this
        omega
      · rw [zu_n ex, zu_n ey] at e
        rw [zu_n ex, zu_n ey]
        exact r4 x y (by omega) (by omega) e
/-! what learn and tellAll make -/
def zg_o (kn : Nat → Nat) (ow i : Nat) : Nat := if ow = 0 then 0 else kn (4 * (ow - 1) + i)
def zg_mx (a b : Nat) : Nat := if a ≤ b then b else a
def zg_kn (c m ow ot : Nat) (RL kn : Nat → Nat) : Nat → Nat := fun j =>
  if j = 4 * c + m then RL m + 1 else if 4 * c ≤ j ∧ j < 4 * c + 4 then zg_mx (zg_o kn ow (j - 4 * c)) (zg_o kn ot (j - 4 * c)) else kn j
/-- kf' is what tellAll leaves of kf -/
def zg_tl (c m : Nat) (RL kf kf' : Nat → Nat) (U' : Nat → Nat → Prop) : Prop :=
  (∀ x i, x < c + 1 → i < 4 → i ≠ m → kf' (4 * x + i) = kf (4 * x + i)) ∧
  (∀ x, x < c + 1 → U' x c → kf (4 * x + m) = 0 → kf' (4 * x + m) = RL m + 1) ∧
  (∀ x, x < c + 1 → (¬ U' x c ∨ ¬ kf (4 * x + m) = 0) → kf' (4 * x + m) = kf (4 * x + m))
theorem zg_mxle {a b r : Nat} (ha : a ≤ r) (hb : b ≤ r) : zg_mx a b ≤ r := by
  unfold zg_mx; split <;> assumption
theorem zg_mxlt {a b p : Nat} : p < zg_mx a b ↔ p < a ∨ p < b := by
  unfold zg_mx; split <;> omega
theorem zg_K_new (hR : zg_R c M P RL Ro) (hU : zg_U c M U) (hK : zg_K c M P RL U kn) (hm : m < 4) (hw : zg_own c M m ow) (ht : ot ≤ c) (hN : zg_new c U U' ow ot) : zg_K (c + 1) (zu_N M c m) (zu_N P c (RL m)) (zu_N RL m (RL m + 1)) U' (zg_kn c m ow ot RL kn) := by
  have hwl := zg_ownle hw
  obtain ⟨r1, r2, r3, r4⟩ := hR
  obtain ⟨k1, k2⟩ := hK
  have u1 := hU.1
  have u3 := hU.2.2.1
  have kold : ∀ y i, y < c → i < 4 → zg_kn c m ow ot RL kn (4 * y + i) = kn (4 * y + i) := by
    intro y i hy hi
    unfold zg_kn
    rw [if_neg (by omega), if_neg (by omega)]
  have kme : zg_kn c m ow ot RL kn (4 * c + m) = RL m + 1 := if_pos rfl
  have kot : ∀ i, i < 4 → i ≠ m → zg_kn c m ow ot RL kn (4 * c + i) = zg_mx (zg_o kn ow i) (zg_o kn ot i) := by
    intro i hi e
    unfold zg_kn
    rw [if_neg (by omega), if_pos (by omega), Nat.add_sub_cancel_left]
  have obd : ∀ o i, o ≤ c → i < 4 → zg_o kn o i ≤ RL i := by
    intro o i ho hi
    unfold zg_o
    split
    · omega
    · exact k1 _ i (by omega) hi
  have oU : ∀ o x, o ≤ c → x < c → (P x < zg_o kn o (M x) ↔ (0 < o ∧ U x (o - 1))) := by
    intro o x ho hx
    unfold zg_o
    by_cases e : o = 0
    · rw [if_pos e]; omega
    · rw [if_neg e, k2 x (o - 1) hx (by omega)]
      exact ⟨fun h => ⟨by omega, h⟩, fun h => h.2⟩
  refine ⟨?_, ?_⟩
  · intro y i hy hi
    by_cases ey : y = c
    · subst ey
      by_cases e : i = m
      · subst e; rw [kme, zu_s]; exact Nat.le_refl _
      · rw [kot i hi e, zu_n e]
        exact zg_mxle (obd ow i hwl hi) (obd ot i ht hi)
    · rw [kold y i (by omega) hi]
      have := k1 y i (by omega) hi
      by_cases e : i = m
      · subst e; rw [zu_s]; omega
      · rw [zu_n e]; exact this
  · intro x y hx hy
    by_cases ey : y = c
    · subst ey
      by_cases ex : x = y
      · subst ex
        rw [zu_s, zu_s, kme]
        exact ⟨fun _ => by omega, fun _ => zg_newc hN⟩
      · have hx' : x < y := by omega
        rw [zu_n ex, zu_n ex]
        by_cases e : M x = m
        · rw [e, kme]
          have := (r2 x hx').1
          rw [e] at this
          exact ⟨fun _ => by omega, fun _ => (hN.2 x).mpr (Or.inr (Or.inl (zg_newo hU hw hN hx' e)))⟩
        · rw [kot _ (u1 x hx') e, zg_mxlt, oU ow x hwl hx', oU ot x ht hx', hN.2 x]
          exact ⟨fun h => h.resolve_left ex, Or.inr⟩
    · have hy' : y < c := by omega
      rw [hN.1 x y ey]
      by_cases ex : x = c
      · subst ex
        rw [zu_s, zu_s, kold y m hy' hm]
        have := k1 y m hy' hm
        exact ⟨fun h => absurd (u3 x y hy' h) (by omega), fun h => by omega⟩
      · have hx' : x < c := by omega
        rw [zu_n ex, zu_n ex, kold y _ hy' (u1 x hx')]
        exact k2 x y hx' hy'
/-- an event that some event of the member knows is under its latest one -/
theorem zg_F_own (hU : zg_U c M U) (hR : zg_R c M P RL Ro) (hF : zg_F c M P RL U kf) (hm : m < 4) (hw : zg_own c M m ow) {x : Nat} (hx : x < c) (h : ¬ kf (4 * x + m) = 0) : 0 < ow ∧ U x (ow - 1) := by
  obtain ⟨r1, r2, r3, r4⟩ := hR
  obtain ⟨f1, f2⟩ := hF
  obtain ⟨u1, u2, u3, u4, u5⟩ := hU
  have b := f1 x m hx hm
  obtain ⟨a1, a2, a3⟩ := r3 m (kf (4 * x + m) - 1) hm (by omega)
  have hz : U x (Ro (48 * m + (kf (4 * x + m) - 1))) := by
    rw [f2 x _ hx a1, a2, a3]; omega
  rcases hw with ⟨_, g⟩ | ⟨h0, hl, g, k⟩
  · exact absurd a2 (g _ a1)
  · exact ⟨h0, u4 x _ _ hl hz (u5 _ _ hl (k _ a1 a2) (by rw [a2, g]))⟩
theorem zg_F_new (hR : zg_R c M P RL Ro) (hU : zg_U c M U) (hF : zg_F c M P RL U kf) {kf0 kf' : Nat → Nat} (h0 : ∀ x i, x < c → i < 4 → kf0 (4 * x + i) = kf (4 * x + i)) (hc0 : ∀ i, i < 4 → kf0 (4 * c + i) = 0) (hm : m < 4) (hw : zg_own c M m ow) (ht : ot ≤ c) (hN : zg_new c U U' ow ot) (hT : zg_tl c m RL kf0 kf' U') : zg_F (c + 1) (zu_N M c m) (zu_N P c (RL m)) (zu_N RL m (RL m + 1)) U' kf' := by
  have r2 := hR.2.1
  have f1 := hF.1
  have f2 := hF.2
  have u1 := hU.1
  have u3 := hU.2.2.1
  obtain ⟨t1, t2, t3⟩ := hT
  have b0 : ∀ x i, x < c + 1 → i < 4 → kf0 (4 * x + i) ≤ RL i := by
    intro x i hx hi
    by_cases e : x = c
    · subst e; rw [hc0 i hi]; omega
    · rw [h0 x i (by omega) hi]; exact f1 x i (by omega) hi
  have bm : ∀ x, x < c + 1 → kf' (4 * x + m) ≤ RL m + 1 := by
    intro x hx
    by_cases h : U' x c ∧ kf0 (4 * x + m) = 0
    · rw [t2 x hx h.1 h.2]; exact Nat.le_refl _
    · rw [t3 x hx (by by_cases hu : U' x c; exact Or.inr (fun z => h ⟨hu, z⟩); exact Or.inl hu)]
      have := b0 x m hx hm; omega
  refine ⟨?_, ?_⟩
  · intro x i hx hi
    by_cases e : i = m
    · subst e; rw [zu_s]; exact bm x hx
    · rw [zu_n e, t1 x i hx hi e]; exact b0 x i hx hi
  · intro x z hx hz
    by_cases ez : z = c
    · subst ez
      rw [zu_s, zu_s]
      constructor
      · intro h
        refine ⟨?_, bm x hx⟩
        by_cases e : kf0 (4 * x + m) = 0
        · rw [t2 x hx h e]; omega
        · rw [t3 x hx (Or.inr e)]; omega
      · intro ⟨h, _⟩
        by_cases hu : U' x z
        · exact hu
        · rw [t3 x hx (Or.inl hu)] at h
          by_cases ex : x = z
          · subst ex; exact absurd (zg_newc hN) hu
          · rw [h0 x m (by omega) hm] at h
            exact (hN.2 x).mpr (Or.inr (Or.inl (zg_F_own hU hR hF hm hw (by omega) (by omega))))
    · have hz' : z < c := by omega
      rw [zu_n ez, zu_n ez, hN.1 x z ez]
      have pz := (r2 z hz').1
      by_cases ex : x = c
      · subst ex
        refine ⟨fun h => absurd (u3 x z hz' h) (by omega), fun ⟨h, h2⟩ => ?_⟩
        exfalso
        by_cases e : M z = m
        · rw [e] at h2 pz
          rw [t2 x hx (zg_newc hN) (hc0 m hm)] at h2
          omega
        · rw [t1 x _ hx (u1 z hz') e, hc0 _ (u1 z hz')] at h
          omega
      · have hx' : x < c := by omega
        rw [f2 x z hx' hz']
        by_cases e : M z = m
        · rw [e] at pz ⊢
          by_cases h : U' x c ∧ kf0 (4 * x + m) = 0
          · rw [t2 x hx h.1 h.2]
            have := h.2
            rw [h0 x m hx' hm] at this
            omega
          · rw [t3 x hx (by by_cases hu : U' x c; exact Or.inr (fun z => h ⟨hu, z⟩); exact Or.inl hu), h0 x m hx' hm]
        · rw [t1 x _ hx (u1 z hz') e, h0 x _ hx' (u1 z hz')]
/-! well under -/
def zg_B (c : Nat) (M : Nat → Nat) (U : Nat → Nat → Prop) (x y i : Nat) : Prop := ∃ z, z < c ∧ M z = i ∧ U x z ∧ U z y
def zg_W (c : Nat) (M : Nat → Nat) (U W : Nat → Nat → Prop) : Prop :=
  (∀ x y, y < c → W x y → x ≤ y) ∧ (∀ x y, x < c → y < c → (W x y ↔ 3 ≤ zc_ct (zg_B c M U x y) 4))
theorem zg_Wlow {W : Nat → Nat → Prop} (hW : zg_W c M U W) {x y : Nat} (hy : y < c) (h : y < x) : ¬ W x y := fun z => by
  have := hW.1 x y hy z
  omega
/-- X's test -/
theorem zg_B_X (hR : zg_R c M P RL Ro) (hK : zg_K c M P RL U kn) (hF : zg_F c M P RL U kf) {x y i : Nat} (hx : x < c) (hy : y < c) (hi : i < 4) : zg_B c M U x y i ↔ (0 < kf (4 * x + i) ∧ kf (4 * x + i) ≤ kn (4 * y + i)) := by
  obtain ⟨r1, r2, r3, r4⟩ := hR
  obtain ⟨f1, f2⟩ := hF
  obtain ⟨k1, k2⟩ := hK
  constructor
  · intro ⟨z, hz, e, h1, h2⟩
    rw [f2 x z hx hz, e] at h1
    rw [k2 z y hz hy, e] at h2
    omega
  · intro ⟨h1, h2⟩
    have b := f1 x i hx hi
    obtain ⟨a1, a2, a3⟩ := r3 i (kf (4 * x + i) - 1) hi (by omega)
    refine ⟨_, a1, a2, ?_, ?_⟩
    · rw [f2 x _ hx a1, a2, a3]; omega
    · rw [k2 _ y a1 hy, a2, a3]; omega
/-- the new event's set of those well under it -/
theorem zg_W_new {W W' : Nat → Nat → Prop} (hU : zg_U c M U) (hU' : zg_U (c + 1) (zu_N M c m) U') (hW : zg_W c M U W) (hN : zg_new c U U' ow ot) (hWo : ∀ x y, y ≠ c → (W' x y ↔ W x y)) (hWc : ∀ x, W' x c ↔ (x < c + 1 ∧ 3 ≤ zc_ct (zg_B (c + 1) (zu_N M c m) U' x c) 4)) : zg_W (c + 1) (zu_N M c m) U' W' := by
  refine ⟨?_, ?_⟩
  · intro x y hy h
    by_cases e : y = c
    · subst e
      have := ((hWc x).mp h).1
      omega
    · exact hW.1 x y (by omega) ((hWo x y e).mp h)
  · intro x y hx hy
    by_cases e : y = c
    · subst e
      rw [hWc x]
      exact ⟨fun h => h.2, fun h => ⟨hx, h⟩⟩
    · have hy' : y < c := by omega
      rw [hWo x y e]
      by_cases ex : x = c
      · subst ex
        constructor
        · intro h
          exact absurd h (zg_Wlow hW hy' (by omega))
        · intro h
          obtain ⟨i, _, z, hz, _, h1, h2⟩ := (zc_pos 4).mp (show 0 < zc_ct (zg_B (x + 1) (zu_N M x m) U' x y) 4 by omega)
          have a := hU'.2.2.1 x z hz h1
          have b := hU'.2.2.1 z y (by omega) h2
          omega
      · rw [hW.2 x y (by omega) hy']
        have : zc_ct (zg_B c M U x y) 4 = zc_ct (zg_B (c + 1) (zu_N M c m) U' x y) 4 := by
          apply zc_c
          intro i _
          constructor
          · intro ⟨z, hz, h1, h2, h3⟩
            exact ⟨z, by omega, by rw [zu_n (by omega)]; exact h1, (hN.1 x z (by omega)).mpr h2, (hN.1 z y e).mpr h3⟩
          · intro ⟨z, hz, h1, h2, h3⟩
            have b := hU'.2.2.1 z y (by omega) h3
            have ez : z ≠ c := by omega
            rw [zu_n ez] at h1
            exact ⟨z, by omega, h1, (hN.1 x z ez).mp h2, (hN.1 z y e).mp h3⟩
        rw [this]
/-! rounds and witnesses -/
def zg_O (c L : Nat) (M R : Nat → Nat) (wi : Nat → Int32) : Prop :=
  (∀ x, x < c → 1 ≤ R x ∧ R x ≤ x + 1 ∧ R x ≤ L) ∧ L ≤ c ∧ (∀ x y, x < y → y < c → M x = M y → R x ≤ R y ∧ (¬ wi y = 0 → R x < R y))
theorem zg_O_dif {L : Nat} {R : Nat → Nat} {wi : Nat → Int32} (hO : zg_O c L M R wi) {r : Nat} {S : Nat → Prop} (hS : ∀ x, S x → ¬ wi x = 0 ∧ R x = r) : ∀ x y, x < y → y < c → S x → S y → M x ≠ M y := by
  intro x y h1 h2 s1 s2 e
  have := (hO.2.2 x y h1 h2 e).2 (hS y s2).1
  rw [(hS x s1).2, (hS y s2).2] at this
  omega
/-- at most four witnesses of one round -/
theorem zg_O_4 {L : Nat} {R : Nat → Nat} {wi : Nat → Int32} (hU : zg_U c M U) (hO : zg_O c L M R wi) {r : Nat} {S : Nat → Prop} (hS : ∀ x, S x → ¬ wi x = 0 ∧ R x = r) : zc_ct S c ≤ 4 := by
  rw [zc_inj (k := 4) c hU.1 (zg_O_dif hO hS)]
  exact zc_le 4
def zg_ro (R : Nat → Nat) (o : Nat) : Nat := if o = 0 then 0 else R (o - 1)
theorem zg_O_new {L : Nat} {R : Nat → Nat} {wi : Nat → Int32} (hO : zg_O c L M R wi) (hw : zg_own c M m ow) {r : Nat} {b : Int32} (h1 : 1 ≤ r) (h2 : r ≤ c + 1) (h3 : zg_ro R ow ≤ r) (h4 : ¬ b = 0 → zg_ro R ow < r) : zg_O (c + 1) (zg_mx r L) (zu_N M c m) (zu_N R c r) (upd wi c b) := by
  obtain ⟨o1, o2, o3⟩ := hO
  have m1 : r ≤ zg_mx r L := by unfold zg_mx; split <;> omega
  have m2 : L ≤ zg_mx r L := by unfold zg_mx; split <;> omega
  refine ⟨?_, zg_mxle h2 (by omega), ?_⟩
  · intro x hx
    by_cases e : x = c
    · subst e; rw [zu_s]; exact ⟨h1, h2, m1⟩
    · rw [zu_n e]
      have := o1 x (by omega)
      omega
  · intro x y hl hy e
    have ex : x ≠ c := by omega
    rw [zu_n ex] at e
    rw [zu_n ex]
    by_cases ey : y = c
    · subst ey
      rw [zu_s] at e
      rw [zu_s, pk_us]
      rcases hw with ⟨_, g⟩ | ⟨g0, gl, g, gk⟩
      · exact absurd e (g x hl)
      · have k := gk x hl e
        have q : zg_ro R ow = R (ow - 1) := if_neg (by omega)
        rw [q] at h3 h4
        have l : R x ≤ R (ow - 1) := by
          by_cases ee : x = ow - 1
          · rw [ee]; exact Nat.le_refl _
          · exact (o3 x (ow - 1) (by omega) gl (by rw [e, g])).1
        exact ⟨by omega, fun hb => by have := h4 hb; omega⟩
    · rw [zu_n ey] at e
      rw [zu_n ey, pk_un ey]
      exact o3 x y hl (by omega) e
/-! votes -/
def zv_p (R : Nat → Nat) (wi : Nat → Int32) (W : Nat → Nat → Prop) (v : Nat → Int32) (y : Nat) (w : Nat) : Prop := ¬ wi w = 0 ∧ R w = R y - 1 ∧ W w y ∧ ¬ v w = 0
def zv_q (R : Nat → Nat) (wi : Nat → Int32) (W : Nat → Nat → Prop) (v : Nat → Int32) (y : Nat) (w : Nat) : Prop := ¬ wi w = 0 ∧ R w = R y - 1 ∧ W w y ∧ v w = 0
def zv_m (a b : Nat) : Int32 := if b ≤ a then 1 else 0
def zv_n (a b : Nat) : Nat := if b ≤ a then a else b
/-- the vote of the counts a, b: (vote, whether it decides) -/
def zv_r (k a b : Nat) (co : Int32) : Int32 × Int32 :=
  if k % 5 = 0 then (if 3 ≤ zv_n a b then zv_m a b else co, 0) else (zv_m a b, if 3 ≤ zv_n a b then 1 else 0)
noncomputable def zv_s (c : Nat) (R : Nat → Nat) (wi co : Nat → Int32) (U W : Nat → Nat → Prop) (v : Nat → Int32) (x y : Nat) : Int32 × Int32 :=
  if R y - R x = 1 then (zc_if (U x y) 1 0, 0) else zv_r (R y - R x) (zc_ct (zv_p R wi W v y) c) (zc_ct (zv_q R wi W v y) c) (co y)
def zg_V (c : Nat) (R : Nat → Nat) (wi co : Nat → Int32) (U W : Nat → Nat → Prop) (vo de : Nat → Int32) : Prop :=
  ∀ x y, x < c → y < c → ¬ wi x = 0 → ¬ wi y = 0 → R x < R y → vo (48 * x + y) = (zv_s c R wi co U W (fun w => vo (48 * x + w)) x y).1 ∧ de (48 * x + y) = (zv_s c R wi co U W (fun w => vo (48 * x + w)) x y).2
theorem zv_01 {k a b : Nat} {co : Int32} (h : co = 0 ∨ co = 1) : (zv_r k a b co).1 = 0 ∨ (zv_r k a b co).1 = 1 := by
  have hm : zv_m a b = 0 ∨ zv_m a b = 1 := by
    unfold zv_m; split
    · exact Or.inr rfl
    · exact Or.inl rfl
  unfold zv_r
  split
  · show (if 3 ≤ zv_n a b then zv_m a b else co) = 0 ∨ _
    split
    · exact hm
    · exact h
  · exact hm
theorem zv_s01 {R : Nat → Nat} {wi co v : Nat → Int32} {W : Nat → Nat → Prop} {x y : Nat} (h : co y = 0 ∨ co y = 1) : (zv_s c R wi co U W v x y).1 = 0 ∨ (zv_s c R wi co U W v x y).1 = 1 := by
  unfold zv_s
  split
  · show zc_if (U x y) 1 0 = (0 : Int32) ∨ _
    by_cases h : U x y
    · rw [zc_t h]; exact Or.inr rfl
    · rw [zc_f h]; exact Or.inl rfl
  · exact zv_01 h
/-- the step looks only at witnesses one round below that are well under y -/
theorem zv_sc {c' : Nat} {R R' : Nat → Nat} {wi co v wi' co' v' : Nat → Int32} {W W' : Nat → Nat → Prop} {x y : Nat} (h1 : R' x = R x) (h2 : R' y = R y) (h3 : R y - R x = 1 → (U x y ↔ U' x y)) (h4 : co' y = co y)
    (h5 : ∀ w, w < c → (¬ wi w = 0 ∧ R w = R y - 1 ∧ W w y ↔ ¬ wi' w = 0 ∧ R' w = R y - 1 ∧ W' w y)) (h6 : ¬ R y - R x = 1 → ∀ w, w < c → ¬ wi w = 0 → R w = R y - 1 → W w y → v' w = v w) (h7 : ∀ w, c ≤ w → w < c' → ¬ W' w y) (h8 : c ≤ c') : zv_s c R wi co U W v x y = zv_s c' R' wi' co' U' W' v' x y := by
  unfold zv_s
  rw [h1, h2]
  by_cases e : R y - R x = 1
  · rw [if_pos e, if_pos e, zc_g (h3 e)]
  · rw [if_neg e, if_neg e, h4]
    have up : ∀ (p : Nat → Prop) (d : Nat), (∀ w, c ≤ w → w < c + d → ¬ p w) → zc_ct p (c + d) = zc_ct p c := by
      intro p d
      induction d with
      | zero => intro _; rfl
      | succ d ih =>
        intro h
        rw [← Nat.add_assoc, zc_sf (h (c + d) (by omega) (by omega)), ih (fun w a b => h w a (by omega))]
    obtain ⟨d, rfl⟩ : ∃ d, c' = c + d := ⟨c' - c, by omega⟩
    have a1 : zc_ct (zv_p R wi W v y) c = zc_ct (zv_p R' wi' W' v' y) (c + d) := by
      rw [up _ d (fun w a b z => h7 w a b z.2.2.1)]
      apply zc_c
      intro w hw
      unfold zv_p
      rw [h2]
      constructor
      · intro ⟨p1, p2, p3, p4⟩
        have q := (h5 w hw).mp ⟨p1, p2, p3⟩
        exact ⟨q.1, q.2.1, q.2.2, by rw [h6 e w hw p1 p2 p3]; exact p4⟩
      · intro ⟨p1, p2, p3, p4⟩
        have q := (h5 w hw).mpr ⟨p1, p2, p3⟩
        exact ⟨q.1, q.2.1, q.2.2, by rw [← h6 e w hw q.1 q.2.1 q.2.2]; exact p4⟩
    have a2 : zc_ct (zv_q R wi W v y) c = zc_ct (zv_q R' wi' W' v' y) (c + d) := by
      rw [up _ d (fun w a b z => h7 w a b z.2.2.1)]
      apply zc_c
      intro w hw
      unfold zv_q
      rw [h2]
      constructor
      · intro ⟨p1, p2, p3, p4⟩
        have q := (h5 w hw).mp ⟨p1, p2, p3⟩
        exact ⟨q.1, q.2.1, q.2.2, by rw [h6 e w hw p1 p2 p3]; exact p4⟩
      · intro ⟨p1, p2, p3, p4⟩
        have q := (h5 w hw).mpr ⟨p1, p2, p3⟩
        exact ⟨q.1, q.2.1, q.2.2, by rw [← h6 e w hw q.1 q.2.1 q.2.2]; exact p4⟩
    rw [a1, a2]
end GR
end
section
section XR
variable {c L : Nat} {ff fs fo ft : Int32} {amk atm aco apl arl aro akn akf ard awi avo ade afa adc arc aft aor apo ast : Nat → Int32} {M P RL Ro kn kf R : Nat → Nat} {U W : Nat → Nat → Prop} {post : Int32 → Prop}
theorem zx_ev_t (hc : c ≤ 48) {x : Nat} (hx : x < c) (h : post 1) : wpX_isEvent post ((nI c), (nI L), ff, fs, fo, ft, amk, atm, aco, apl, arl, aro, akn, akf, ard, awi, avo, ade, afa, adc, arc, aft, aor, apo, ast) (nI x) :=
  br_f (nI_pos (by omega)) (br_f (nI_ge hx (by omega)) h)
theorem zx_ev_f {v : Int32} (hv : v < 0 ∨ nI c ≤ v) (h : post 0) : wpX_isEvent post ((nI c), (nI L), ff, fs, fo, ft, amk, atm, aco, apl, arl, aro, akn, akf, ard, awi, avo, ade, afa, adc, arc, aft, aor, apo, ast) v :=
  br_c (fun _ => h) (fun n => br_t (hv.resolve_left n) h)
theorem zx_mb_t {m : Nat} (hm : m < 4) (h : post 1) : wpX_isMember post (nI m) :=
  br_f (nI_pos (by omega)) (br_f (fun z => absurd ((zn_4le (by omega)).mp z) (by omega)) h)
theorem zx_mb_f {v : Int32} (hv : v < 0 ∨ 4 ≤ v) (h : post 0) : wpX_isMember post v :=
  br_c (fun _ => h) (fun n => br_t (hv.resolve_left n) h)
theorem zx_known (hkn : ∀ j, akn j = zp_I (kn j)) {o i : Nat} (ho : o ≤ 48) (hi : i < 4) (h : post (zp_I (zg_o kn o i))) : wpX_known post ((nI c), (nI L), ff, fs, fo, ft, amk, atm, aco, apl, arl, aro, akn, akf, ard, awi, avo, ade, afa, adc, arc, aft, aor, apo, ast) (zp_I o) (nI i) := by
  cases o with
  | zero =>
    have e : zp_I (zg_o kn 0 i) = -1 := zp_0
    rw [e] at h
    exact br_f (by decide) h
  | succ z =>
    have e : zg_o kn (z + 1) i = kn (4 * z + i) := by
      unfold zg_o; rw [if_neg (by omega), Nat.add_sub_cancel]
    rw [e] at h
    rw [zp_s]
    refine br_t (nI_pos' (by omega)) (And.intro (zn_i4 (by omega) hi) ?_)
    rw [zn_c4 (by omega) hi, hkn]
    exact h
theorem zx_roundOf (hrd : ∀ j, ard j = nI (R j)) {o : Nat} (ho : o ≤ 48) (h : post (nI (zg_ro R o))) : wpX_roundOf post ((nI c), (nI L), ff, fs, fo, ft, amk, atm, aco, apl, arl, aro, akn, akf, ard, awi, avo, ade, afa, adc, arc, aft, aor, apo, ast) (zp_I o) := by
  cases o with
  | zero => exact br_f (by decide) h
  | succ z =>
    have e : zg_ro R (z + 1) = R z := by
      unfold zg_ro; rw [if_neg (by omega), Nat.add_sub_cancel]
    rw [e] at h
    rw [zp_s]
    refine br_t (nI_pos' (by omega)) (And.intro (zn_i (by omega)) ?_)
    rw [zn_c (by omega), hrd]
    exact h
theorem zx_under (hc : c ≤ 48) (hmk : ∀ j, amk j = nI (M j)) (hpl : ∀ j, apl j = nI (P j)) (hkn : ∀ j, akn j = zp_I (kn j)) (hU : zg_U c M U) (hR : zg_R c M P RL Ro) (hK : zg_K c M P RL U kn) {x y : Nat} (hx : x < c) (hy : y < c) (h1 : U x y → post 1) (h0 : ¬ U x y → post 0) : wpX_isUnder post ((nI c), (nI L), ff, fs, fo, ft, amk, atm, aco, apl, arl, aro, akn, akf, ard, awi, avo, ade, afa, adc, arc, aft, aor, apo, ast) (nI x) (nI y) := by
  have m4 : M x < 4 := hU.1 x hx
  have b1 := hK.1 y (M x) hy m4
  have b2 := hR.1 (M x) m4
  have b3 := (hR.2.1 x hx).1
  have k := hK.2 x y hx hy
  refine And.intro (zn_i (by omega)) ?_
  rw [zn_c (show x < 48 by omega), hmk]
  refine ⟨zn_i4 (by omega) m4, zn_i (by omega), ?_⟩
  rw [zn_c4 (show y < 48 by omega) m4, hkn, hpl]
  refine zn_if (zp_ltn (by omega) (by omega)) (fun h => h0 ?_) (fun h => h1 ?_)
  · rw [k]; omega
  · rw [k]; omega
theorem zx_well_l (hkn : ∀ j, akn j = zp_I (kn j)) (hkf : ∀ j, akf j = zp_I (kf j)) {x y : Nat} (hx : x < 48) (hy : y < 48) (bn : ∀ i, i < 4 → kn (4 * y + i) ≤ 48) (bf : ∀ i, i < 4 → kf (4 * x + i) ≤ 48) {q : Nat → Prop} (hq : ∀ i, i < 4 → (q i ↔ 0 < kf (4 * x + i) ∧ kf (4 * x + i) ≤ kn (4 * y + i))) (h1 : 3 ≤ zc_ct q 4 → post 1) (h0 : ¬ 3 ≤ zc_ct q 4 → post 0) : ∀ d i, i + d = 4 → wX_isWellUnder_5 post (nI x) (nI y) (nI c) (nI L) ff fs fo ft amk atm aco apl arl aro akn akf ard awi avo ade afa adc arc aft aor apo ast (d + 1) (nI (zc_ct q i)) (nI i) := by
  intro d
  induction d with
  | zero =>
    intro i hi
    have e : i = 4 := by omega
    subst e
    have := zc_le (p := q) 4
    refine br_t ((zn_4le (by omega)).mpr (by omega)) (zn_if (zn_lt3 (by omega)) (fun h => h0 (by omega)) (fun h => h1 (by omega)))
  | succ d ih =>
    intro i hi
    have l4 : i < 4 := by omega
    have b1 := bn i l4
    have b2 := bf i l4
    have g := ih (i + 1) (by omega)
    have hqi := hq i l4
    refine br_f (fun z => absurd ((zn_4le (by omega)).mp z) (by omega)) (And.intro (zn_i4 hx l4) ?_)
    rw [zn_c4 hx l4, hkf]
    refine nm_e (zn_if (zp_neg (by omega)) (fun h => ?_) (fun h => And.intro (zn_i4 hy l4) ?_))
    · rw [zn_add0, nI_1]
      rw [zc_sf (fun z => by have := hqi.mp z; omega)] at g
      exact nm_e (nm_e g)
    · rw [zn_c4 hy l4, hkn]
      refine zn_if (zp_lt (by omega) (by omega)) (fun h2 => ?_) (fun h2 => ?_)
      · rw [zn_add0, nI_1]
        rw [zc_sf (fun z => by have := hqi.mp z; omega)] at g
        exact nm_e (nm_e g)
      · rw [nI_1, nI_1]
        rw [zc_st (hqi.mpr (by omega))] at g
        exact nm_e (nm_e g)
theorem zx_well (hc : c ≤ 48) (hkn : ∀ j, akn j = zp_I (kn j)) (hkf : ∀ j, akf j = zp_I (kf j)) (hR : zg_R c M P RL Ro) (hK : zg_K c M P RL U kn) (hF : zg_F c M P RL U kf) {x y : Nat} (hx : x < c) (hy : y < c) (h1 : 3 ≤ zc_ct (zg_B c M U x y) 4 → post 1) (h0 : ¬ 3 ≤ zc_ct (zg_B c M U x y) 4 → post 0) : wpX_isWellUnder post ((nI c), (nI L), ff, fs, fo, ft, amk, atm, aco, apl, arl, aro, akn, akf, ard, awi, avo, ade, afa, adc, arc, aft, aor, apo, ast) (nI x) (nI y) :=
  Exists.intro 5 (zx_well_l hkn hkf (by omega) (by omega) (fun i hi => by have := hK.1 y i hy hi; have := hR.1 i hi; omega) (fun i hi => by have := hF.1 x i hx hi; have := hR.1 i hi; omega) (fun i hi => zg_B_X hR hK hF hx hy hi) h1 h0 4 0 rfl)
end XR
end
section
section XL
variable {c L : Nat} {ff fs fo ft : Int32} {amk atm aco apl arl aro akn akf ard awi avo ade afa adc arc aft aor apo ast : Nat → Int32} {M P RL Ro kn kf R : Nat → Nat} {U W : Nat → Nat → Prop} {post : SX → Prop}
theorem zx_learn_51 {J : Int32 → (Nat → Int32) → (Nat → Int32) → (Nat → Int32) → (Nat → Int32) → (Nat → Int32) → (Nat → Int32) → (Nat → Int32) → (Nat → Int32) → (Nat → Int32) → (Nat → Int32) → (Nat → Int32) → (Nat → Int32) → (Nat → Int32) → (Nat → Int32) → (Nat → Int32) → (Nat → Int32) → (Nat → Int32) → (Nat → Int32) → (Nat → Int32) → Prop} {e i : Nat} {x2 x3 z0 : Int32} (he : e < 48) (hi : i < 4) (h : J (nI (i + 1)) amk atm aco apl arl aro (upd akn (4 * e + i) z0) (upd akf (4 * e + i) (zp_I 0)) ard awi avo ade afa adc arc aft aor apo ast) : wX_learn_51 post J (nI e) x2 x3 (nI i) z0 (4 * nI e + nI i) (nI c) (nI L) ff fs fo ft amk atm aco apl arl aro akn akf ard awi avo ade afa adc arc aft aor apo ast :=
  And.intro (zn_i4 he hi) (nm_r (e' := upd akn (4 * e + i) z0) (by rw [zn_c4 he hi]) (And.intro (zn_i4 he hi) (nm_r (e' := upd akf (4 * e + i) (zp_I 0)) (by rw [zn_c4 he hi, zp_0]) (nm_r (nI_1 i) h))))
def zl_k (e i ow ot : Nat) (kn : Nat → Nat) : Nat → Nat := fun j => if 4 * e ≤ j ∧ j < 4 * e + i then zg_mx (zg_o kn ow (j - 4 * e)) (zg_o kn ot (j - 4 * e)) else kn j
def zl_f (e i : Nat) (kf : Nat → Nat) : Nat → Nat := fun j => if 4 * e ≤ j ∧ j < 4 * e + i then 0 else kf j
theorem zl_ks {e i ow ot : Nat} {kn : Nat → Nat} : zu_N (zl_k e i ow ot kn) (4 * e + i) (zg_mx (zg_o kn ow i) (zg_o kn ot i)) = zl_k e (i + 1) ow ot kn := by
  funext j
  by_cases h : j = 4 * e + i
  · subst h
    rw [zu_s]; unfold zl_k
    rw [if_pos (by omega), Nat.add_sub_cancel_left]
  · rw [zu_n h]; unfold zl_k
    by_cases g : 4 * e ≤ j ∧ j < 4 * e + i
    · rw [if_pos g, if_pos (by omega)]
    · rw [if_neg g, if_neg (by omega)]
theorem zl_fs {e i : Nat} {kf : Nat → Nat} : zu_N (zl_f e i kf) (4 * e + i) 0 = zl_f e (i + 1) kf := by
  funext j
  by_cases h : j = 4 * e + i
  · subst h
    rw [zu_s]; unfold zl_f
    rw [if_pos (by omega)]
  · rw [zu_n h]; unfold zl_f
    by_cases g : 4 * e ≤ j ∧ j < 4 * e + i
    · rw [if_pos g, if_pos (by omega)]
    · rw [if_neg g, if_neg (by omega)]
theorem zl_o {e i ow ot o k : Nat} {kn : Nat → Nat} (ho : o ≤ e) (hk : k < 4) : zg_o (zl_k e i ow ot kn) o k = zg_o kn o k := by
  unfold zg_o
  by_cases h : o = 0
  · rw [if_pos h, if_pos h]
  · rw [if_neg h, if_neg h]; unfold zl_k
    rw [if_neg (by omega)]
theorem zl_end {e m ow ot : Nat} {kn RL : Nat → Nat} : zu_N (zl_k e 4 ow ot kn) (4 * e + m) (RL m + 1) = zg_kn e m ow ot RL kn := by
  funext j
  unfold zg_kn
  by_cases h : j = 4 * e + m
  · rw [if_pos h]; subst h; exact zu_s
  · rw [if_neg h, zu_n h]; rfl
theorem zx_learn_l {e m ow ot : Nat} (he : e < 48) (hm : m < 4) (how : ow ≤ e) (hot : ot ≤ e) (hmk : amk e = nI m) (hpl : apl e = nI (RL m)) (hb : ∀ y i, y < e → i < 4 → kn (4 * y + i) ≤ 48)
    (hp : ∀ akn' akf' : Nat → Int32, (∀ j, akn' j = zp_I (zg_kn e m ow ot RL kn j)) → (∀ j, akf' j = zp_I (zl_f e 4 kf j)) → post ((nI c), (nI L), ff, fs, fo, ft, amk, atm, aco, apl, arl, aro, (akn'), (akf'), ard, awi, avo, ade, afa, adc, arc, aft, aor, apo, ast)) :
    ∀ (d i : Nat) (akn akf : Nat → Int32), i + d = 4 → (∀ j, akn j = zp_I (zl_k e i ow ot kn j)) → (∀ j, akf j = zp_I (zl_f e i kf j)) → wX_learn_3 post (nI e) (zp_I ow) (zp_I ot) (nI c) (nI L) ff fs fo ft (d + 1) (nI i) amk atm aco apl arl aro akn akf ard awi avo ade afa adc arc aft aor apo ast := by
  intro d
  induction d with
  | zero =>
    intro i akn akf hi hkn hkf
    have e4 : i = 4 := by omega
    subst e4
    refine br_t ((zn_4le (by omega)).mpr (by omega)) (And.intro (zn_i he) (And.intro (zn_i he) ?_))
    rw [zn_c he, hmk, hpl]
    refine And.intro (zn_i4 he hm) (nm_r (e' := upd akn (4 * e + m) (zp_I (RL m + 1))) (by rw [zn_c4 he hm, zp_s]) (hp _ _ ?_ hkf))
    intro j
    rw [zu_pI hkn, zl_end]
  | succ d ih =>
    intro i akn akf hi hkn hkf
    have l4 : i < 4 := by omega
    have bo : ∀ o, o ≤ e → zg_o kn o i ≤ 48 := by
      intro o ho
      unfold zg_o
      split
      · omega
      · exact hb _ i (by omega) l4
    have b1 := bo ow how
    have b2 := bo ot hot
    have g : ∀ v, v = zg_mx (zg_o kn ow i) (zg_o kn ot i) → wX_learn_3 post (nI e) (zp_I ow) (zp_I ot) (nI c) (nI L) ff fs fo ft (d + 1) (nI (i + 1)) amk atm aco apl arl aro (upd akn (4 * e + i) (zp_I v)) (upd akf (4 * e + i) (zp_I 0)) ard awi avo ade afa adc arc aft aor apo ast := by
      intro v hv
      refine ih (i + 1) _ _ (by omega) ?_ ?_
      · intro j; rw [zu_pI hkn, hv, zl_ks]
      · intro j; rw [zu_pI hkf, zl_fs]
    refine br_f (fun z => absurd ((zn_4le (by omega)).mp z) (by omega)) ?_
    refine zx_known hkn (by omega) l4 ?_
    refine zx_known hkn (by omega) l4 ?_
    rw [zl_o how l4, zl_o hot l4]
    refine zn_if (zp_le (by omega) (by omega)) (fun h => ?_) (fun h => ?_)
    · exact zx_learn_51 he l4 (g _ (by unfold zg_mx; rw [if_pos h]))
    · exact zx_learn_51 he l4 (g _ (by unfold zg_mx; rw [if_neg h]))
theorem zx_learn {e m ow ot : Nat} (he : e < 48) (hm : m < 4) (how : ow ≤ e) (hot : ot ≤ e) (hmk : amk e = nI m) (hpl : apl e = nI (RL m)) (hb : ∀ y i, y < e → i < 4 → kn (4 * y + i) ≤ 48) (hkn : ∀ j, akn j = zp_I (kn j)) (hkf : ∀ j, akf j = zp_I (kf j))
    (hp : ∀ akn' akf' : Nat → Int32, (∀ j, akn' j = zp_I (zg_kn e m ow ot RL kn j)) → (∀ j, akf' j = zp_I (zl_f e 4 kf j)) → post ((nI c), (nI L), ff, fs, fo, ft, amk, atm, aco, apl, arl, aro, (akn'), (akf'), ard, awi, avo, ade, afa, adc, arc, aft, aor, apo, ast)) : wpX_learn post ((nI c), (nI L), ff, fs, fo, ft, amk, atm, aco, apl, arl, aro, akn, akf, ard, awi, avo, ade, afa, adc, arc, aft, aor, apo, ast) (nI e) (zp_I ow) (zp_I ot) := by
  refine Exists.intro 5 (zx_learn_l he hm how hot hmk hpl hb hp 4 0 akn akf rfl ?_ ?_)
  · intro j; rw [hkn]; unfold zl_k; rw [if_neg (by omega)]
  · intro j; rw [hkf]; unfold zl_f; rw [if_neg (by omega)]
/-! tellAll -/
theorem zp_m1 (q : Nat) : nI q + (-1) = zp_I q := (Int32.sub_eq_add_neg (nI q) 1).symm
/-- what is told to those under the new event that the member did not know -/
noncomputable def zl_G (e m pl : Nat) (kf : Nat → Nat) (U : Nat → Nat → Prop) (x : Nat) : Nat := zc_if (U x e ∧ kf (4 * x + m) = 0) (pl + 1) (kf (4 * x + m))
def zl_T (e m pl i p : Nat) (M P kf g : Nat → Nat) (U : Nat → Nat → Prop) : Prop :=
  (∀ x k, x < e + 1 → k < 4 → k ≠ m → g (4 * x + k) = kf (4 * x + k)) ∧
  (∀ x, x < e + 1 → (M x < i ∨ (M x = i ∧ p ≤ P x)) → g (4 * x + m) = zl_G e m pl kf U x) ∧
  (∀ x, x < e + 1 → (i < M x ∨ (M x = i ∧ P x < p)) → g (4 * x + m) = kf (4 * x + m))
def zl_O (e m pl i : Nat) (M kf g : Nat → Nat) (U : Nat → Nat → Prop) : Prop :=
  (∀ x k, x < e + 1 → k < 4 → k ≠ m → g (4 * x + k) = kf (4 * x + k)) ∧
  (∀ x, x < e + 1 → M x < i → g (4 * x + m) = zl_G e m pl kf U x) ∧
  (∀ x, x < e + 1 → i ≤ M x → g (4 * x + m) = kf (4 * x + m))
theorem zl_G1 {e m pl x : Nat} (h : ¬ (U x e ∧ kf (4 * x + m) = 0)) : zl_G e m pl kf U x = kf (4 * x + m) := zc_f h
theorem zl_G2 {e m pl x : Nat} (h : U x e) (h0 : kf (4 * x + m) = 0) : zl_G e m pl kf U x = pl + 1 := zc_t ⟨h, h0⟩
theorem zl_start {e m pl i K : Nat} {g : Nat → Nat} (h : zl_O e m pl i M kf g U) (hs : ∀ x, x < e + 1 → M x = i → (U x e ↔ P x < K)) : zl_T e m pl i K M P kf g U := by
  obtain ⟨h1, h2, h3⟩ := h
  refine ⟨h1, ?_, ?_⟩
  · intro x hx hh
    rcases hh with hh | ⟨hh, hp⟩
    · exact h2 x hx hh
    · rw [h3 x hx (by omega), zl_G1 (fun z => by have := (hs x hx hh).mp z.1; omega)]
  · intro x hx hh
    exact h3 x hx (by omega)
theorem zl_done {e m pl i p : Nat} {g : Nat → Nat} (h : zl_T e m pl i p M P kf g U) (hs : ∀ x, x < e + 1 → M x = i → P x < p → ¬ kf (4 * x + m) = 0) : zl_O e m pl (i + 1) M kf g U := by
  obtain ⟨h1, h2, h3⟩ := h
  refine ⟨h1, ?_, ?_⟩
  · intro x hx hh
    by_cases e1 : M x < i ∨ (M x = i ∧ p ≤ P x)
    · exact h2 x hx e1
    · rw [h3 x hx (by omega), zl_G1 (fun z => hs x hx (by omega) (by omega) z.2)]
  · intro x hx hh
    exact h3 x hx (by omega)
theorem zl_step {e m pl i q x0 : Nat} {g : Nat → Nat} (h : zl_T e m pl i (q + 1) M P kf g U) (hm : m < 4) (hx : x0 < e + 1) (hM : M x0 = i) (hP : P x0 = q) (h0 : kf (4 * x0 + m) = 0) (hu : U x0 e) (hi : ∀ x, x < e + 1 → M x = i → P x = q → x = x0) : zl_T e m pl i q M P kf (zu_N g (4 * x0 + m) (pl + 1)) U := by
  obtain ⟨h1, h2, h3⟩ := h
  refine ⟨?_, ?_, ?_⟩
  · intro x k hx hk hkm
    rw [zu_n (by omega)]
    exact h1 x k hx hk hkm
  · intro x hx hh
    by_cases ex : x = x0
    · subst ex
      rw [zu_s, zl_G2 hu h0]
    · rw [zu_n (by omega)]
      refine h2 x hx ?_
      rcases hh with hh | ⟨hh, hp⟩
      · exact Or.inl hh
      · refine Or.inr ⟨hh, ?_⟩
        by_cases ep : P x = q
        · exact absurd (hi x hx hh ep) ex
        · omega
  · intro x hx hh
    have ex : x ≠ x0 := fun z => by subst z; omega
    rw [zu_n (by omega)]
    exact h3 x hx (by omega)
theorem zl_fin {e m : Nat} {g : Nat → Nat} (h : zl_O e m (RL m) 4 M kf g U) (hM : ∀ x, x < e + 1 → M x < 4) : zg_tl e m RL kf g U := by
  obtain ⟨h1, h2, h3⟩ := h
  refine ⟨h1, ?_, ?_⟩
  · intro x hx hu h0
    rw [h2 x hx (hM x hx), zl_G2 hu h0]
  · intro x hx hh
    rw [h2 x hx (hM x hx), zl_G1]
    intro ⟨a, b⟩
    exact hh.elim (fun z => z a) (fun z => z b)
theorem zx_tell_in {J : Int32 → (Nat → Int32) → (Nat → Int32) → (Nat → Int32) → (Nat → Int32) → (Nat → Int32) → (Nat → Int32) → (Nat → Int32) → (Nat → Int32) → (Nat → Int32) → (Nat → Int32) → (Nat → Int32) → (Nat → Int32) → (Nat → Int32) → (Nat → Int32) → (Nat → Int32) → (Nat → Int32) → (Nat → Int32) → (Nat → Int32) → (Nat → Int32) → Prop} {e m pl i K : Nat} (he : e < 48) (hm : m < 4) (hi : i < 4) (hmk : amk e = nI m) (hpl : apl e = nI pl) (hro : ∀ j, aro j = nI (Ro j)) (hR : zg_R (e + 1) M P RL Ro) (hK : K ≤ RL i) (bK : ∀ x m, x < e + 1 → m < 4 → kf (4 * x + m) ≤ 48)
    (hU : ∀ x, x < e + 1 → M x = i → (U x e ↔ P x < K)) (hdc : ∀ x y, x < e + 1 → y < e + 1 → M x = M y → P x ≤ P y → ¬ kf (4 * y + m) = 0 → ¬ kf (4 * x + m) = 0)
    (hJ : ∀ (akf : Nat → Int32) (g : Nat → Nat), (∀ j, akf j = zp_I (g j)) → zl_O e m pl (i + 1) M kf g U → J (nI (i + 1)) amk atm aco apl arl aro akn akf ard awi avo ade afa adc arc aft aor apo ast) :
    ∀ (p : Nat) (akf : Nat → Int32) (g : Nat → Nat), p ≤ K → (∀ j, akf j = zp_I (g j)) → zl_T e m pl i p M P kf g U → ∀ n, p < n → wX_tellAll_18 post J (nI e) (nI i) (nI c) (nI L) ff fs fo ft n (zp_I p) amk atm aco apl arl aro akn akf ard awi avo ade afa adc arc aft aor apo ast := by
  obtain ⟨r1, r2, r3, r4⟩ := hR
  have bi := r1 i hi
  intro p
  induction p with
  | zero =>
    intro akf g hp hkf hT n hn
    obtain ⟨n, rfl⟩ : ∃ k, n = k + 1 := ⟨n - 1, by omega⟩
    exact br_t (by decide) (nm_r (nI_1 i) (hJ akf g hkf (zl_done hT (fun x hx hM hp => by omega))))
  | succ q ih =>
    intro akf g hp hkf hT n hn
    obtain ⟨n, rfl⟩ : ∃ k, n = k + 1 := ⟨n - 1, by omega⟩
    obtain ⟨a1, a2, a3⟩ := r3 i q hi (by omega)
    have q48 : q < 48 := by omega
    have er : aro (48 * nI i + nI q).toNatClampNeg = nI (Ro (48 * i + q)) := by
      rw [zn_48, nI_clamp (by omega), hro]
    have x48 : Ro (48 * i + q) < 48 := by omega
    have gk : g (4 * Ro (48 * i + q) + m) = kf (4 * Ro (48 * i + q) + m) := hT.2.2 _ a1 (Or.inr ⟨a2, by omega⟩)
    have bk := bK (Ro (48 * i + q)) m a1 hm
    have in1 : vp_in (48 * nI i + nI q) 192 := by
      rw [zn_48]; exact vp_in_nI (by omega) (by decide)
    rw [zp_s]
    refine br_f (nI_pos (by omega)) (And.intro in1 (And.intro (zn_i he) ?_))
    rw [er, zn_c he, hmk, zn_c4 x48 hm, hkf, gk, hpl]
    refine And.intro (zn_i4 x48 hm) (zn_if (zp_0le (by omega)) (fun h => ?_) (fun h => ?_))
    · refine nm_r (nI_1 i) (hJ akf g hkf (zl_done hT (fun x hx hM hp => ?_)))
      exact hdc x (Ro (48 * i + q)) hx a1 (by rw [hM, a2]) (by omega) (by omega)
    · refine And.intro in1 (And.intro (zn_i he) (And.intro (zn_i he) (And.intro (zn_i4 x48 hm) ?_)))
      refine nm_r (e' := upd akf (4 * Ro (48 * i + q) + m) (zp_I (pl + 1))) (by rw [zp_s]) (nm_r (zp_m1 q) ?_)
      refine ih _ _ (by omega) (zu_pI hkf _ _) (zl_step hT hm a1 a2 a3 (by omega) ((hU _ a1 a2).mpr (by omega)) ?_) n (by omega)
      intro x hx hM hP
      have := r2 x hx
      rw [hM, hP] at this
      exact this.2.symm
theorem zx_tell_l {e m : Nat} (he : e < 48) (hm : m < 4) (hmk : amk e = nI m) (hpl : apl e = nI (RL m)) (hro : ∀ j, aro j = nI (Ro j)) {RL' : Nat → Nat} (hR : zg_R (e + 1) M P RL' Ro) (hkn : ∀ j, akn j = zp_I (kn j)) (hK : zg_K (e + 1) M P RL' U kn) (hM : ∀ x, x < e + 1 → M x < 4) (bK : ∀ x m, x < e + 1 → m < 4 → kf (4 * x + m) ≤ 48)
    (hdc : ∀ x y, x < e + 1 → y < e + 1 → M x = M y → P x ≤ P y → ¬ kf (4 * y + m) = 0 → ¬ kf (4 * x + m) = 0)
    (hp : ∀ (akf : Nat → Int32) (g : Nat → Nat), (∀ j, akf j = zp_I (g j)) → zg_tl e m RL kf g U → post ((nI c), (nI L), ff, fs, fo, ft, amk, atm, aco, apl, arl, aro, akn, akf, ard, awi, avo, ade, afa, adc, arc, aft, aor, apo, ast)) :
    ∀ (d i : Nat) (akf : Nat → Int32) (g : Nat → Nat), i + d = 4 → (∀ j, akf j = zp_I (g j)) → zl_O e m (RL m) i M kf g U → wX_tellAll_2 post (nI e) (nI c) (nI L) ff fs fo ft (d + 1) (nI i) amk atm aco apl arl aro akn akf ard awi avo ade afa adc arc aft aor apo ast := by
  intro d
  induction d with
  | zero =>
    intro i akf g hi hkf hO
    have e4 : i = 4 := by omega
    subst e4
    exact br_t ((zn_4le (by omega)).mpr (by omega)) (hp akf g hkf (zl_fin hO hM))
  | succ d ih =>
    intro i akf g hi hkf hO
    have l4 : i < 4 := by omega
    have hU : ∀ x, x < e + 1 → M x = i → (U x e ↔ P x < kn (4 * e + i)) := by
      intro x hx hM
      rw [hK.2 x e hx (by omega), hM]
    refine br_f (fun z => absurd ((zn_4le (by omega)).mp z) (by omega)) (And.intro (zn_i4 he l4) ?_)
    rw [zn_c4 he l4, hkn]
    refine nm_e (Exists.intro (kn (4 * e + i) + 1) ?_)
    exact zx_tell_in he hm l4 hmk hpl hro hR (hK.1 e i (by omega) l4) bK hU hdc (fun akf g h1 h2 => ih (i + 1) akf g (by omega) h1 h2) (kn (4 * e + i)) akf g (Nat.le_refl _) hkf (zl_start hO hU) _ (Nat.lt_succ_self _)
theorem zx_tell {e m : Nat} (he : e < 48) (hm : m < 4) (hmk : amk e = nI m) (hpl : apl e = nI (RL m)) (hro : ∀ j, aro j = nI (Ro j)) {RL' : Nat → Nat} (hR : zg_R (e + 1) M P RL' Ro) (hkn : ∀ j, akn j = zp_I (kn j)) (hkf : ∀ j, akf j = zp_I (kf j)) (hK : zg_K (e + 1) M P RL' U kn) (hM : ∀ x, x < e + 1 → M x < 4) (bK : ∀ x m, x < e + 1 → m < 4 → kf (4 * x + m) ≤ 48)
    (hdc : ∀ x y, x < e + 1 → y < e + 1 → M x = M y → P x ≤ P y → ¬ kf (4 * y + m) = 0 → ¬ kf (4 * x + m) = 0)
    (hp : ∀ (akf : Nat → Int32) (g : Nat → Nat), (∀ j, akf j = zp_I (g j)) → zg_tl e m RL kf g U → post ((nI c), (nI L), ff, fs, fo, ft, amk, atm, aco, apl, arl, aro, akn, akf, ard, awi, avo, ade, afa, adc, arc, aft, aor, apo, ast)) : wpX_tellAll post ((nI c), (nI L), ff, fs, fo, ft, amk, atm, aco, apl, arl, aro, akn, akf, ard, awi, avo, ade, afa, adc, arc, aft, aor, apo, ast) (nI e) :=
  Exists.intro 5 (zx_tell_l he hm hmk hpl hro hR hkn hK hM bK hdc hp 4 0 akf kf rfl hkf ⟨fun _ _ _ _ _ => rfl, fun x _ h => absurd h (Nat.not_lt_zero _), fun _ _ _ => rfl⟩)
end XL
end
section
section XF
variable {c L : Nat} {ff fs fo ft : Int32} {amk atm aco apl arl aro akn akf ard awi avo ade afa adc arc aft aor apo ast : Nat → Int32} {M P RL Ro kn kf R : Nat → Nat} {U W : Nat → Nat → Prop} {post : SX → Prop}
theorem zx_fr_137 {e r : Nat} {z : Int32} (he : e < 48) (hL : L < 2 ^ 31) (hr : r < 2 ^ 31) (hz : z = 0 ∨ z = 1) (hrd : ard e = nI r) (h : post ((nI c), (nI (zg_mx r L)), ff, fs, fo, ft, amk, atm, aco, apl, arl, aro, akn, akf, ard, (upd awi e z), avo, ade, afa, adc, arc, aft, aor, apo, ast)) : wX_findRound_137 post (nI e) z (nI e) (nI c) (nI L) ff fs fo ft amk atm aco apl arl aro akn akf ard awi avo ade afa adc arc aft aor apo ast := by
  refine And.intro (zn_i he) (nm_r (e' := upd awi e z) (by rw [zn_c he, zo_n hz]) (And.intro (zn_i he) ?_))
  rw [zn_c he, hrd]
  refine zn_if (nI_leI hr hL) (fun g => ?_) (fun g => And.intro (zn_i he) (nm_e ?_))
  · rw [show zg_mx r L = L from if_pos g] at h; exact h
  · rw [show zg_mx r L = r from if_neg g] at h; exact h
theorem zx_fr_115 {e r a : Nat} (he : e < 48) (hL : L < 2 ^ 31) (hr : r < 2 ^ 31) (ha : a < 2 ^ 31) (h : post ((nI c), (nI (zg_mx r L)), ff, fs, fo, ft, amk, atm, aco, apl, arl, aro, akn, akf, (upd ard e (nI r)), (upd awi e (if r ≤ a then 0 else 1)), avo, ade, afa, adc, arc, aft, aor, apo, ast)) : wX_findRound_115 post (nI e) (nI a) (nI r) (nI e) (nI c) (nI L) ff fs fo ft amk atm aco apl arl aro akn akf ard awi avo ade afa adc arc aft aor apo ast := by
  refine And.intro (zn_i he) (nm_r (e' := upd ard e (nI r)) (by rw [zn_c he]) (And.intro (zn_i he) ?_))
  rw [zn_c he, pk_us]
  refine zn_if (nI_leI hr ha) (fun g => ?_) (fun g => ?_)
  · rw [if_pos g] at h
    exact zx_fr_137 he hL hr (Or.inl rfl) pk_us h
  · rw [if_neg g] at h
    exact zx_fr_137 he hL hr (Or.inr rfl) pk_us h
def zx_r (r n : Nat) : Nat := if r = 0 ∨ 3 ≤ n then r + 1 else r
theorem zx_fr_l {e a r : Nat} {Q : Nat → Prop} (he : e < 48) (hL : L < 2 ^ 31) (hr : r ≤ 48) (ha : a < 2 ^ 31) (hrd : ∀ j, ard j = nI (R j)) (hRb : ∀ j, j < e → R j ≤ 48) (hw : ∀ (q : Int32 → Prop) (w : Nat), w < e → (Q w → q 1) → (¬ Q w → q 0) → wpX_isWellUnder q ((nI c), (nI L), ff, fs, fo, ft, amk, atm, aco, apl, arl, aro, akn, akf, ard, awi, avo, ade, afa, adc, arc, aft, aor, apo, ast) (nI w) (nI e))
    (h : ∀ r', r' = zx_r r (zc_ct (fun w => ¬ awi w = 0 ∧ R w = r ∧ Q w) e) → post ((nI c), (nI (zg_mx r' L)), ff, fs, fo, ft, amk, atm, aco, apl, arl, aro, akn, akf, (upd ard e (nI r')), (upd awi e (if r' ≤ a then 0 else 1)), avo, ade, afa, adc, arc, aft, aor, apo, ast)) :
    ∀ d j, j + d = e → wX_findRound_36 post (nI e) (nI a) (nI r) (nI c) (nI L) ff fs fo ft amk atm aco apl arl aro akn akf ard awi avo ade afa adc arc aft aor apo ast (d + 1) (nI (zc_ct (fun w => ¬ awi w = 0 ∧ R w = r ∧ Q w) j)) (nI j) := by
  intro d
  induction d with
  | zero =>
    intro j hj
    have e0 : j = e := by omega
    subst e0
    have b := zc_le (p := fun w => ¬ awi w = 0 ∧ R w = r ∧ Q w) j
    refine br_t (nI_le (Nat.le_refl _) (by omega)) (zn_if (zn_eq0 (by omega)) (fun g => ?_) (fun g => zn_if (zn_lt3 (by omega)) (fun g3 => ?_) (fun g3 => ?_)))
    · show wX_findRound_115 post (nI j) (nI a) (nI r + 1) (nI j) (nI c) (nI L) ff fs fo ft amk atm aco apl arl aro akn akf ard awi avo ade afa adc arc aft aor apo ast
      rw [nI_1]
      exact zx_fr_115 he hL (by omega) ha (h _ (by unfold zx_r; rw [if_pos (Or.inl g)]))
    · exact zx_fr_115 he hL (by omega) ha (h _ (by unfold zx_r; rw [if_neg (by omega)]))
    · show wX_findRound_115 post (nI j) (nI a) (nI r + 1) (nI j) (nI c) (nI L) ff fs fo ft amk atm aco apl arl aro akn akf ard awi avo ade afa adc arc aft aor apo ast
      rw [nI_1]
      exact zx_fr_115 he hL (by omega) ha (h _ (by unfold zx_r; rw [if_pos (Or.inr (by omega))]))
  | succ d ih =>
    intro j hj
    have g := ih (j + 1) (by omega)
    have j48 : j < 48 := by omega
    have bR := hRb j (by omega)
    refine br_f (nI_ge (by omega) (by omega)) (And.intro (zn_i j48) ?_)
    rw [zn_c j48, hrd, nI_1]
    refine br_c (fun w0 => ?_) (fun w1 => And.intro (zn_i j48) (zn_if (nI_eq (by omega) (by omega)) (fun er => ?_) (fun er => ?_)))
    · rw [zc_sf (fun z => z.1 w0)] at g
      rw [zn_add0]
      exact nm_e (nm_e g)
    · refine hw _ j (by omega) (fun q1 => br_f zo_10 ?_) (fun q0 => br_t rfl ?_)
      · rw [zc_st ⟨w1, er, q1⟩] at g
        rw [nI_1]
        exact nm_e (nm_e g)
      · rw [zc_sf (fun z => q0 z.2.2)] at g
        rw [zn_add0]
        exact nm_e (nm_e g)
    · rw [zc_sf (fun z => er z.2.1)] at g
      rw [zn_add0]
      exact nm_e (nm_e g)
theorem zx_findRound {e ow ot : Nat} {Q : Nat → Prop} (he : e < 48) (hL : L < 2 ^ 31) (how : ow ≤ e) (hot : ot ≤ e) (hrd : ∀ j, ard j = nI (R j)) (hRb : ∀ j, j < e → R j ≤ 48) (hw : ∀ (q : Int32 → Prop) (w : Nat), w < e → (Q w → q 1) → (¬ Q w → q 0) → wpX_isWellUnder q ((nI c), (nI L), ff, fs, fo, ft, amk, atm, aco, apl, arl, aro, akn, akf, ard, awi, avo, ade, afa, adc, arc, aft, aor, apo, ast) (nI w) (nI e))
    (h : ∀ r r', r = zg_mx (zg_ro R ow) (zg_ro R ot) → r' = zx_r r (zc_ct (fun w => ¬ awi w = 0 ∧ R w = r ∧ Q w) e) → post ((nI c), (nI (zg_mx r' L)), ff, fs, fo, ft, amk, atm, aco, apl, arl, aro, akn, akf, (upd ard e (nI r')), (upd awi e (if r' ≤ zg_ro R ow then 0 else 1)), avo, ade, afa, adc, arc, aft, aor, apo, ast)) : wpX_findRound post ((nI c), (nI L), ff, fs, fo, ft, amk, atm, aco, apl, arl, aro, akn, akf, ard, awi, avo, ade, afa, adc, arc, aft, aor, apo, ast) (nI e) (zp_I ow) (zp_I ot) := by
  have bo : ∀ o, o ≤ e → zg_ro R o ≤ 48 := by
    intro o ho
    unfold zg_ro
    split
    · omega
    · exact hRb _ (by omega)
  have b1 := bo ow how
  have b2 := bo ot hot
  unfold wpX_findRound
  dsimp only
  refine zx_roundOf (o := ow) hrd (by omega) ?_
  refine zx_roundOf (o := ot) hrd (by omega) ?_
  refine zn_if (nI_leI (by omega) (by omega)) (fun g => Exists.intro (e + 1) ?_) (fun g => Exists.intro (e + 1) ?_)
  · exact zx_fr_l he hL b2 (by omega) hrd hRb hw (fun r' e' => h _ r' (by unfold zg_mx; rw [if_pos g]) e') e 0 (by omega)
  · exact zx_fr_l he hL b1 (by omega) hrd hRb hw (fun r' e' => h _ r' (by unfold zg_mx; rw [if_neg g]) e') e 0 (by omega)
end XF
end
section
section XV
variable {c L : Nat} {ff fs fo ft : Int32} {amk atm aco apl arl aro akn akf ard awi avo ade afa adc arc aft aor apo ast : Nat → Int32} {M P RL Ro kn kf R : Nat → Nat} {U W : Nat → Nat → Prop} {post : SX → Prop}
theorem zx_upp {f : Nat → Int32} {k : Nat} {a b : Int32} : upd (upd f k a) k b = upd f k b := by
  funext j
  by_cases h : j = k
  · subst h; rw [pk_us, pk_us]
  · rw [pk_un h, pk_un h, pk_un h]
theorem zx_v231 {K y : Nat} {x7 x8 x9 z0 v : Int32} (hK : K < 2304) (hy : y < 48) (hco : aco y = 0 ∨ aco y = 1) (h7 : x7 = 0 ∨ x7 = 1) (hz : z0 = 0 ∨ z0 = 1) (hv : v = if x9 = 0 then (if x8 = 0 then aco y else x7) else x7) (h : post ((nI c), (nI L), ff, fs, fo, ft, amk, atm, aco, apl, arl, aro, akn, akf, ard, awi, (upd avo K v), (upd ade K z0), afa, adc, arc, aft, aor, apo, ast)) : wX_vote_231 post (nI y) (nI K) x7 x8 x9 z0 (nI K) (nI c) (nI L) ff fs fo ft amk atm aco apl arl aro akn akf ard awi avo ade afa adc arc aft aor apo ast := by
  have iK : vp_in (nI K) 2304 := vp_in_nI hK (by decide)
  have cK : (nI K).toNatClampNeg = K := nI_clamp (by omega)
  refine And.intro iK (nm_r (e' := upd ade K z0) (by rw [cK, zo_n hz]) (br_c (fun h9 => br_c (fun h8 => And.intro (zn_i hy) (And.intro iK (nm_r (e' := upd avo K v) ?_ h))) (fun h8 => And.intro iK (nm_r (e' := upd avo K v) ?_ h))) (fun h9 => And.intro iK (nm_r (e' := upd avo K v) ?_ h))))
  · rw [cK, zn_c hy, zo_n hco, hv, if_pos h9, if_pos h8]
  · rw [cK, zo_n h7, hv, if_pos h9, if_neg h8]
  · rw [cK, zo_n h7, hv, if_neg h9]
theorem zx_v195 {K y k : Nat} {x7 z0 : Int32} (hK : K < 2304) (hy : y < 48) (hk : k < 2 ^ 31) (hco : aco y = 0 ∨ aco y = 1) (h7 : x7 = 0 ∨ x7 = 1) (h : post ((nI c), (nI L), ff, fs, fo, ft, amk, atm, aco, apl, arl, aro, akn, akf, ard, awi, (upd avo K (if k % 5 = 0 then (if z0 = 0 then aco y else x7) else x7)), (upd ade K (if k % 5 = 0 then 0 else if z0 = 0 then 0 else 1)), afa, adc, arc, aft, aor, apo, ast)) : wX_vote_195 post (nI y) (nI K) (nI k) x7 z0 (nI c) (nI L) ff fs fo ft amk atm aco apl arl aro akn akf ard awi avo ade afa adc arc aft aor apo ast := by
  have er : nI k - nI k / 5 * 5 = nI (k % 5) := pk_rem (d := 5) hk (by decide) (by decide)
  refine And.intro (by decide) ?_
  rw [er]
  refine zn_if (zn_eq0 (by omega)) (fun g => ?_) (fun g => ?_)
  · rw [if_pos g, if_pos g] at h
    exact br_t rfl (zx_v231 hK hy hco h7 (Or.inl rfl) (by rw [if_pos rfl]) h)
  · rw [if_neg g, if_neg g] at h
    refine br_f zo_10 (br_c (fun z => ?_) (fun z => ?_))
    · rw [if_pos z] at h
      exact zx_v231 hK hy hco h7 (Or.inl rfl) (by rw [if_neg zo_10]) h
    · rw [if_neg z] at h
      exact zx_v231 hK hy hco h7 (Or.inr rfl) (by rw [if_neg zo_10]) h
theorem zx_v186 {K y k n : Nat} {x7 : Int32} (hK : K < 2304) (hy : y < 48) (hk : k < 2 ^ 31) (hn : n < 2 ^ 31) (hco : aco y = 0 ∨ aco y = 1) (h7 : x7 = 0 ∨ x7 = 1) (h : post ((nI c), (nI L), ff, fs, fo, ft, amk, atm, aco, apl, arl, aro, akn, akf, ard, awi, (upd avo K (if k % 5 = 0 then (if 3 ≤ n then x7 else aco y) else x7)), (upd ade K (if k % 5 = 0 then 0 else if 3 ≤ n then 1 else 0)), afa, adc, arc, aft, aor, apo, ast)) : wX_vote_186 post (nI y) (nI K) (nI k) x7 (nI n) (nI c) (nI L) ff fs fo ft amk atm aco apl arl aro akn akf ard awi avo ade afa adc arc aft aor apo ast := by
  refine zn_if (zn_lt3 hn) (fun g => ?_) (fun g => ?_)
  · refine zx_v195 hK hy hk hco h7 ?_
    have g3 : ¬ 3 ≤ n := by omega
    rw [if_neg g3, if_neg g3] at h
    rw [if_pos (rfl : (0 : Int32) = 0), if_pos (rfl : (0 : Int32) = 0)]
    exact h
  · refine zx_v195 hK hy hk hco h7 ?_
    have g3 : 3 ≤ n := by omega
    rw [if_pos g3, if_pos g3] at h
    rw [if_neg zo_10, if_neg zo_10]
    exact h
theorem zv_r1 {k a b : Nat} {co : Int32} : (zv_r k a b co).1 = if k % 5 = 0 then (if 3 ≤ zv_n a b then zv_m a b else co) else zv_m a b := by
  unfold zv_r
  by_cases h : k % 5 = 0
  · rw [if_pos h, if_pos h]
  · rw [if_neg h, if_neg h]
theorem zv_r2 {k a b : Nat} {co : Int32} : (zv_r k a b co).2 = if k % 5 = 0 then 0 else if 3 ≤ zv_n a b then 1 else 0 := by
  unfold zv_r
  by_cases h : k % 5 = 0
  · rw [if_pos h, if_pos h]
  · rw [if_neg h, if_neg h]
theorem zx_vend {K y k a b : Nat} (hK : K < 2304) (hy : y < 48) (hk : k < 2 ^ 31) (ha : a < 2 ^ 31) (hb : b < 2 ^ 31) (hco : aco y = 0 ∨ aco y = 1) (h : post ((nI c), (nI L), ff, fs, fo, ft, amk, atm, aco, apl, arl, aro, akn, akf, ard, awi, (upd avo K (zv_r k a b (aco y)).1), (upd ade K (zv_r k a b (aco y)).2), afa, adc, arc, aft, aor, apo, ast)) : (nI a < nI b → wX_vote_172 post (nI y) (nI K) (nI k) (nI a) (nI b) 0 (nI c) (nI L) ff fs fo ft amk atm aco apl arl aro akn akf ard awi avo ade afa adc arc aft aor apo ast) ∧ (¬ nI a < nI b → wX_vote_172 post (nI y) (nI K) (nI k) (nI a) (nI b) 1 (nI c) (nI L) ff fs fo ft amk atm aco apl arl aro akn akf ard awi avo ade afa adc arc aft aor apo ast) := by
  rw [zv_r1, zv_r2] at h
  refine zn_if (nI_ltI ha hb) (fun g => br_t rfl (zx_v186 hK hy hk hb hco (Or.inl rfl) ?_)) (fun g => br_f zo_10 (zx_v186 hK hy hk ha hco (Or.inr rfl) ?_))
  · have e1 : zv_n a b = b := if_neg (by omega)
    have e2 : zv_m a b = 0 := if_neg (by omega)
    rw [e1, e2] at h
    exact h
  · have e1 : zv_n a b = a := if_pos (by omega)
    have e2 : zv_m a b = 1 := if_pos (by omega)
    rw [e1, e2] at h
    exact h
theorem zx_vote_l {x y : Nat} (hc : c ≤ 48) (hx : x < c) (hy : y < c) (hrd : ∀ j, ard j = nI (R j)) (hRb : ∀ j, j < c → 1 ≤ R j ∧ R j ≤ 48) (hco : aco y = 0 ∨ aco y = 1) {k : Nat} (hk : k < 2 ^ 31) (hw : ∀ (q : Int32 → Prop) (a b : Nat), a < c → b < c → (W a b → q 1) → (¬ W a b → q 0) → wpX_isWellUnder q ((nI c), (nI L), ff, fs, fo, ft, amk, atm, aco, apl, arl, aro, akn, akf, ard, awi, avo, ade, afa, adc, arc, aft, aor, apo, ast) (nI a) (nI b))
    (h : ∀ s, s = zv_r k (zc_ct (zv_p R awi W (fun w => avo (48 * x + w)) y) c) (zc_ct (zv_q R awi W (fun w => avo (48 * x + w)) y) c) (aco y) → post ((nI c), (nI L), ff, fs, fo, ft, amk, atm, aco, apl, arl, aro, akn, akf, ard, awi, (upd avo (48 * x + y) s.1), (upd ade (48 * x + y) s.2), afa, adc, arc, aft, aor, apo, ast)) :
    ∀ d j, j + d = c → wX_vote_57 post (nI x) (nI y) (nI (48 * x + y)) (nI k) (nI c) (nI L) ff fs fo ft amk atm aco apl arl aro akn akf ard awi avo ade afa adc arc aft aor apo ast (d + 1) (nI (zc_ct (zv_p R awi W (fun w => avo (48 * x + w)) y) j)) (nI (zc_ct (zv_q R awi W (fun w => avo (48 * x + w)) y) j)) (nI j) := by
  intro d
  induction d with
  | zero =>
    intro j hj
    have e0 : j = c := by omega
    subst e0
    have b1 := zc_le (p := zv_p R awi W (fun w => avo (48 * x + w)) y) j
    have b2 := zc_le (p := zv_q R awi W (fun w => avo (48 * x + w)) y) j
    exact br_t (nI_le (Nat.le_refl _) (by omega)) (zx_vend (by omega) (by omega) hk (by omega) (by omega) hco (h _ rfl))
  | succ d ih =>
    intro j hj
    have g := ih (j + 1) (by omega)
    have j48 : j < 48 := by omega
    have bj := hRb j (by omega)
    have bY := hRb y hy
    have i48 : vp_in (48 * nI x + nI j) 2304 := by
      rw [zn_48]; exact vp_in_nI (by omega) (by decide)
    have c48 : (48 * nI x + nI j).toNatClampNeg = 48 * x + j := by
      rw [zn_48]; exact nI_clamp (by omega)
    refine br_f (nI_ge (by omega) (by omega)) (And.intro (zn_i j48) ?_)
    rw [zn_c j48, nI_1]
    refine br_c (fun w0 => ?_) (fun w1 => And.intro (zn_i j48) (And.intro (zn_i (by omega)) ?_))
    · rw [zc_sf (fun z => z.1 w0), zc_sf (fun z => z.1 w0)] at g
      exact nm_e g
    · rw [zn_c (show y < 48 by omega), hrd, hrd, zn_sub1 (by omega)]
      refine zn_if (nI_eq (by omega) (by omega)) (fun er => hw _ j y (by omega) hy (fun q1 => br_f zo_10 (And.intro i48 ?_)) (fun q0 => br_t rfl ?_)) (fun er => ?_)
      · rw [c48]
        refine br_c (fun v0 => ?_) (fun v1 => ?_)
        · rw [zc_sf (fun z => z.2.2.2 v0), zc_st ⟨w1, er, q1, v0⟩] at g
          refine nm_r (zn_add0 _) (And.intro i48 ?_)
          rw [c48]
          exact br_t v0 (nm_r (nI_1 _) (nm_r (nI_1 _) g))
        · rw [zc_st ⟨w1, er, q1, v1⟩, zc_sf (fun z => v1 z.2.2.2)] at g
          refine nm_r (nI_1 _) (And.intro i48 ?_)
          rw [c48]
          exact br_f v1 (nm_r (zn_add0 _) (nm_r (nI_1 _) g))
      · rw [zc_sf (fun z => q0 z.2.2.1), zc_sf (fun z => q0 z.2.2.1)] at g
        exact nm_e g
      · rw [zc_sf (fun z => er z.2.1), zc_sf (fun z => er z.2.1)] at g
        exact nm_e g
theorem zx_vote {x y : Nat} (hc : c ≤ 48) (hx : x < c) (hy : y < c) (hl : R x < R y) (hrd : ∀ j, ard j = nI (R j)) (hRb : ∀ j, j < c → 1 ≤ R j ∧ R j ≤ 48) (hco : aco y = 0 ∨ aco y = 1) (hw : ∀ (avo ade : Nat → Int32) (q : Int32 → Prop) (a b : Nat), a < c → b < c → (W a b → q 1) → (¬ W a b → q 0) → wpX_isWellUnder q ((nI c), (nI L), ff, fs, fo, ft, amk, atm, aco, apl, arl, aro, akn, akf, ard, awi, avo, ade, afa, adc, arc, aft, aor, apo, ast) (nI a) (nI b)) (hu : ∀ (avo ade : Nat → Int32) (q : Int32 → Prop) (a b : Nat), a < c → b < c → (U a b → q 1) → (¬ U a b → q 0) → wpX_isUnder q ((nI c), (nI L), ff, fs, fo, ft, amk, atm, aco, apl, arl, aro, akn, akf, ard, awi, avo, ade, afa, adc, arc, aft, aor, apo, ast) (nI a) (nI b))
    (h : ∀ s, s = zv_s c R awi aco U W (fun w => avo (48 * x + w)) x y → post ((nI c), (nI L), ff, fs, fo, ft, amk, atm, aco, apl, arl, aro, akn, akf, ard, awi, (upd avo (48 * x + y) s.1), (upd ade (48 * x + y) s.2), afa, adc, arc, aft, aor, apo, ast)) : wpX_vote post ((nI c), (nI L), ff, fs, fo, ft, amk, atm, aco, apl, arl, aro, akn, akf, ard, awi, avo, ade, afa, adc, arc, aft, aor, apo, ast) (nI x) (nI y) := by
  have bx := hRb x hx
  have bY := hRb y hy
  have iK : vp_in (nI (48 * x + y)) 2304 := vp_in_nI (by omega) (by decide)
  have cK : (nI (48 * x + y)).toNatClampNeg = 48 * x + y := nI_clamp (by omega)
  refine nm_r (zn_48 x y) (And.intro (zn_i (by omega)) (And.intro (zn_i (by omega)) ?_))
  rw [zn_c (show x < 48 by omega), zn_c (show y < 48 by omega), hrd, hrd, pk_sub (Nat.le_of_lt hl)]
  refine nm_e (And.intro iK ?_)
  rw [cK, zo_n0]
  refine nm_e (zn_if (zn_eq1 (by omega)) (fun g => ?_) (fun g => Exists.intro (c + 1) ?_))
  · have es : ∀ b : Int32, b = zc_if (U x y) 1 0 → zv_s c R awi aco U W (fun w => avo (48 * x + w)) x y = (b, 0) := by
      intro b hb
      unfold zv_s
      rw [if_pos g, hb]
    refine hu avo (upd ade (48 * x + y) 0) _ x y hx hy (fun u1 => And.intro iK ?_) (fun u0 => And.intro iK ?_)
    · have q := h _ (es 1 (zc_t u1).symm).symm
      exact nm_r (e' := upd avo (48 * x + y) 1) (by rw [zo_n1]) q
    · have q := h _ (es 0 (zc_f u0).symm).symm
      exact nm_r (e' := upd avo (48 * x + y) 0) (by rw [zo_n0]) q
  · refine zx_vote_l hc hx hy hrd hRb hco (by omega) (hw avo (upd ade (48 * x + y) 0)) (fun s es => ?_) c 0 (by omega)
    rw [zx_upp]
    refine h s ?_
    unfold zv_s
    rw [if_neg g]
    exact es
end XV
end
section
section XW
variable {c L : Nat} {ff fs fo ft : Int32} {amk atm aco apl arl aro akn akf ard awi avo ade afa adc arc aft aor apo ast : Nat → Int32} {M P RL Ro kn kf R : Nat → Nat} {U W : Nat → Nat → Prop} {post : SX → Prop}
def zv_Q (Q : Nat → Nat → Prop) (c : Nat) (R : Nat → Nat) (wi co : Nat → Int32) (U W : Nat → Nat → Prop) (vo de : Nat → Int32) : Prop :=
  ∀ x y, x < c → y < c → ¬ wi x = 0 → ¬ wi y = 0 → R x < R y → Q x y → vo (48 * x + y) = (zv_s c R wi co U W (fun w => vo (48 * x + w)) x y).1 ∧ de (48 * x + y) = (zv_s c R wi co U W (fun w => vo (48 * x + w)) x y).2
theorem zv_Qm {Q Q' : Nat → Nat → Prop} (h : zv_Q Q c R awi aco U W avo ade) (hq : ∀ x y, x < c → y < c → ¬ awi x = 0 → ¬ awi y = 0 → R x < R y → Q' x y → Q x y) : zv_Q Q' c R awi aco U W avo ade :=
  fun x y hx hy h1 h2 h3 h4 => h x y hx hy h1 h2 h3 (hq x y hx hy h1 h2 h3 h4)
theorem zv_put {Q : Nat → Nat → Prop} {x y : Nat} {s : Int32 × Int32} (hc : c ≤ 48) (hx : x < c) (hy : y < c) (hl : R x < R y) (h : zv_Q Q c R awi aco U W avo ade) (hs : s = zv_s c R awi aco U W (fun w => avo (48 * x + w)) x y) (hn : ∀ b, b < c → Q x b → R x < R b → R y = R b - 1 → W y b → False) : zv_Q (fun a b => Q a b ∨ (a = x ∧ b = y)) c R awi aco U W (upd avo (48 * x + y) s.1) (upd ade (48 * x + y) s.2) := by
  intro a b ha hb wa wb hab hq
  have key : zv_s c R awi aco U W (fun w => avo (48 * a + w)) a b = zv_s c R awi aco U W (fun w => upd avo (48 * x + y) s.1 (48 * a + w)) a b := by
    refine zv_sc rfl rfl (fun _ => Iff.rfl) rfl (fun _ _ => Iff.rfl) (fun _ w hw w1 w2 w3 => ?_) (fun w h1 h2 => by omega) (Nat.le_refl _)
    show upd avo (48 * x + y) s.1 (48 * a + w) = avo (48 * a + w)
    by_cases e : 48 * a + w = 48 * x + y
    · exfalso
      have ea : a = x := by omega
      have ew : w = y := by omega
      subst ea
      subst ew
      rcases hq with hq | ⟨_, hq⟩
      · exact hn b hb hq hab w2 w3
      · subst hq; omega
    · exact pk_un e
  by_cases e : a = x ∧ b = y
  · obtain ⟨e1, e2⟩ := e
    subst e1
    subst e2
    rw [← key, pk_us, pk_us, hs]
    exact ⟨rfl, rfl⟩
  · have q : Q a b := hq.resolve_right e
    have i : 48 * a + b ≠ 48 * x + y := fun z => e ⟨by omega, by omega⟩
    rw [← key, pk_un i, pk_un i]
    exact h a b ha hb wa wb hab q
def zv_2 (e r j : Nat) (R : Nat → Nat) (a b : Nat) : Prop := a ≠ e ∨ R b < r ∨ (R b = r ∧ b < j)
theorem zx_fv_62 {J : Int32 → Int32 → Int32 → Int32 → Int32 → Int32 → Int32 → (Nat → Int32) → (Nat → Int32) → (Nat → Int32) → (Nat → Int32) → (Nat → Int32) → (Nat → Int32) → (Nat → Int32) → (Nat → Int32) → (Nat → Int32) → (Nat → Int32) → (Nat → Int32) → (Nat → Int32) → (Nat → Int32) → (Nat → Int32) → (Nat → Int32) → (Nat → Int32) → (Nat → Int32) → (Nat → Int32) → (Nat → Int32) → Prop} {e r : Nat} (hc : c ≤ 48) (he : c = e + 1) (hr : r ≤ 48) (hre : R e < r) (hrd : ∀ j, ard j = nI (R j)) (hRb : ∀ j, j < c → 1 ≤ R j ∧ R j ≤ 48) (hco : ∀ j, aco j = 0 ∨ aco j = 1) (hW : ∀ a b, b < c → W a b → a ≤ b) (hw : ∀ (avo ade : Nat → Int32) (q : Int32 → Prop) (a b : Nat), a < c → b < c → (W a b → q 1) → (¬ W a b → q 0) → wpX_isWellUnder q ((nI c), (nI L), ff, fs, fo, ft, amk, atm, aco, apl, arl, aro, akn, akf, ard, awi, avo, ade, afa, adc, arc, aft, aor, apo, ast) (nI a) (nI b)) (hu : ∀ (avo ade : Nat → Int32) (q : Int32 → Prop) (a b : Nat), a < c → b < c → (U a b → q 1) → (¬ U a b → q 0) → wpX_isUnder q ((nI c), (nI L), ff, fs, fo, ft, amk, atm, aco, apl, arl, aro, akn, akf, ard, awi, avo, ade, afa, adc, arc, aft, aor, apo, ast) (nI a) (nI b))
    (hJ : ∀ avo ade : Nat → Int32, zv_Q (zv_2 e (r + 1) 0 R) c R awi aco U W avo ade → J (nI (r + 1)) (nI c) (nI L) ff fs fo ft amk atm aco apl arl aro akn akf ard awi avo ade afa adc arc aft aor apo ast) :
    ∀ (d j : Nat) (avo ade : Nat → Int32), j + d = e → zv_Q (zv_2 e r j R) c R awi aco U W avo ade → wX_findVotes_62 post J (nI e) (nI r) (d + 1) (nI j) (nI c) (nI L) ff fs fo ft amk atm aco apl arl aro akn akf ard awi avo ade afa adc arc aft aor apo ast := by
  intro d
  induction d with
  | zero =>
    intro j avo ade hj hq
    refine br_t (nI_le (by omega) (by omega)) (nm_r (nI_1 r) (hJ avo ade (zv_Qm hq ?_)))
    intro x y hx hy w1 w2 hl hz
    unfold zv_2 at hz ⊢
    by_cases ex : x = e
    · refine Or.inr ?_
      by_cases ey : y = e
      · subst ex; subst ey; omega
      · omega
    · exact Or.inl ex
  | succ d ih =>
    intro j avo ade hj hq
    have j48 : j < 48 := by omega
    have bj := hRb j (by omega)
    refine br_f (nI_ge (by omega) (by omega)) (And.intro (zn_i j48) ?_)
    rw [zn_c j48]
    refine br_c (fun w0 => nm_r (nI_1 j) (ih (j + 1) avo ade (by omega) (zv_Qm hq ?_))) (fun w1 => And.intro (zn_i j48) ?_)
    · intro x y hx hy h1 h2 hl hz
      unfold zv_2 at hz ⊢
      have : y ≠ j := fun z => by subst z; exact h2 w0
      omega
    · rw [hrd]
      refine zn_if (nI_eq (by omega) (by omega)) (fun er => ?_) (fun er => nm_r (nI_1 j) (ih (j + 1) avo ade (by omega) (zv_Qm hq ?_)))
      · refine zx_vote (x := e) (y := j) hc (by omega) (by omega) (by omega) hrd hRb (hco j) hw hu (fun s hs => nm_r (nI_1 j) (ih (j + 1) _ _ (by omega) (zv_Qm (zv_put hc (by omega) (by omega) (by omega) hq hs ?_) ?_)))
        · intro b hb hz hl e1 hWb
          unfold zv_2 at hz
          omega
        · intro x y hx hy h1 h2 hl hz
          unfold zv_2 at hz ⊢
          by_cases g : x = e ∧ y = j
          · exact Or.inr g
          · exact Or.inl (by omega)
      · intro x y hx hy h1 h2 hl hz
        unfold zv_2 at hz ⊢
        by_cases ey : y = j
        · subst ey; omega
        · omega
theorem zx_fv_52 {e : Nat} (hc : c ≤ 48) (he : c = e + 1) (hL : L ≤ 48) (hrd : ∀ j, ard j = nI (R j)) (hRb : ∀ j, j < c → 1 ≤ R j ∧ R j ≤ 48) (hRL : ∀ j, j < c → R j ≤ L) (hco : ∀ j, aco j = 0 ∨ aco j = 1) (hW : ∀ a b, b < c → W a b → a ≤ b) (hw : ∀ (avo ade : Nat → Int32) (q : Int32 → Prop) (a b : Nat), a < c → b < c → (W a b → q 1) → (¬ W a b → q 0) → wpX_isWellUnder q ((nI c), (nI L), ff, fs, fo, ft, amk, atm, aco, apl, arl, aro, akn, akf, ard, awi, avo, ade, afa, adc, arc, aft, aor, apo, ast) (nI a) (nI b)) (hu : ∀ (avo ade : Nat → Int32) (q : Int32 → Prop) (a b : Nat), a < c → b < c → (U a b → q 1) → (¬ U a b → q 0) → wpX_isUnder q ((nI c), (nI L), ff, fs, fo, ft, amk, atm, aco, apl, arl, aro, akn, akf, ard, awi, avo, ade, afa, adc, arc, aft, aor, apo, ast) (nI a) (nI b))
    (hp : ∀ avo ade : Nat → Int32, zv_Q (fun _ _ => True) c R awi aco U W avo ade → post ((nI c), (nI L), ff, fs, fo, ft, amk, atm, aco, apl, arl, aro, akn, akf, ard, awi, avo, ade, afa, adc, arc, aft, aor, apo, ast)) :
    ∀ (d r : Nat) (avo ade : Nat → Int32), r + d = L + 1 → R e < r → zv_Q (zv_2 e r 0 R) c R awi aco U W avo ade → wX_findVotes_52 post (nI e) (d + 1) (nI r) (nI c) (nI L) ff fs fo ft amk atm aco apl arl aro akn akf ard awi avo ade afa adc arc aft aor apo ast := by
  intro d
  induction d with
  | zero =>
    intro r avo ade hr hre hq
    refine br_t (nI_lt (by omega) (by omega)) (hp avo ade (zv_Qm hq ?_))
    intro x y hx hy h1 h2 hl hz
    have := hRL y hy
    unfold zv_2
    omega
  | succ d ih =>
    intro r avo ade hr hre hq
    exact br_f (nI_nlt (by omega) (by omega)) (Exists.intro (e + 1) (zx_fv_62 hc he (by omega) hre hrd hRb hco hW hw hu (fun avo ade h => ih (r + 1) avo ade (by omega) (by omega) h) e 0 avo ade (by omega) hq))
def zv_1 (e j : Nat) (a b : Nat) : Prop := (a ≠ e ∧ b ≠ e) ∨ (b = e ∧ a < j)
theorem zx_fv_2 {e : Nat} (hc : c ≤ 48) (he : c = e + 1) (hL : L ≤ 48) (hrd : ∀ j, ard j = nI (R j)) (hRb : ∀ j, j < c → 1 ≤ R j ∧ R j ≤ 48) (hRL : ∀ j, j < c → R j ≤ L) (hco : ∀ j, aco j = 0 ∨ aco j = 1) (hW : ∀ a b, b < c → W a b → a ≤ b) (hw : ∀ (avo ade : Nat → Int32) (q : Int32 → Prop) (a b : Nat), a < c → b < c → (W a b → q 1) → (¬ W a b → q 0) → wpX_isWellUnder q ((nI c), (nI L), ff, fs, fo, ft, amk, atm, aco, apl, arl, aro, akn, akf, ard, awi, avo, ade, afa, adc, arc, aft, aor, apo, ast) (nI a) (nI b)) (hu : ∀ (avo ade : Nat → Int32) (q : Int32 → Prop) (a b : Nat), a < c → b < c → (U a b → q 1) → (¬ U a b → q 0) → wpX_isUnder q ((nI c), (nI L), ff, fs, fo, ft, amk, atm, aco, apl, arl, aro, akn, akf, ard, awi, avo, ade, afa, adc, arc, aft, aor, apo, ast) (nI a) (nI b))
    (hp : ∀ avo ade : Nat → Int32, zv_Q (fun _ _ => True) c R awi aco U W avo ade → post ((nI c), (nI L), ff, fs, fo, ft, amk, atm, aco, apl, arl, aro, akn, akf, ard, awi, avo, ade, afa, adc, arc, aft, aor, apo, ast)) :
    ∀ (d j : Nat) (avo ade : Nat → Int32), j + d = e → zv_Q (zv_1 e j) c R awi aco U W avo ade → wX_findVotes_2 post (nI e) (d + 1) (nI j) (nI c) (nI L) ff fs fo ft amk atm aco apl arl aro akn akf ard awi avo ade afa adc arc aft aor apo ast := by
  have be := hRb e (by omega)
  have bL := hRL e (by omega)
  intro d
  induction d with
  | zero =>
    intro j avo ade hj hq
    refine br_t (nI_le (by omega) (by omega)) (And.intro (zn_i (by omega)) ?_)
    rw [zn_c (show e < 48 by omega), hrd, nI_1]
    refine nm_e (Exists.intro (L - R e + 1) (zx_fv_52 hc he hL hrd hRb hRL hco hW hw hu hp (L - R e) (R e + 1) avo ade (by omega) (by omega) (zv_Qm hq ?_)))
    intro x y hx hy h1 h2 hl hz
    unfold zv_2 at hz
    unfold zv_1
    by_cases ex : x = e
    · subst ex; omega
    · omega
  | succ d ih =>
    intro j avo ade hj hq
    have j48 : j < 48 := by omega
    have bj := hRb j (by omega)
    refine br_f (nI_ge (by omega) (by omega)) (And.intro (zn_i j48) ?_)
    rw [zn_c j48]
    refine br_c (fun w0 => nm_r (nI_1 j) (ih (j + 1) avo ade (by omega) (zv_Qm hq ?_))) (fun w1 => And.intro (zn_i j48) (And.intro (zn_i (by omega)) ?_))
    · intro x y hx hy h1 h2 hl hz
      unfold zv_1 at hz ⊢
      have : x ≠ j := fun z => by subst z; exact h1 w0
      omega
    · rw [zn_c (show e < 48 by omega), hrd, hrd]
      refine zn_if (nI_leI (by omega) (by omega)) (fun er => nm_r (nI_1 j) (ih (j + 1) avo ade (by omega) (zv_Qm hq ?_))) (fun er => ?_)
      · intro x y hx hy h1 h2 hl hz
        unfold zv_1 at hz ⊢
        by_cases ex : x = j ∧ y = e
        · obtain ⟨a1, a2⟩ := ex
          subst a1; subst a2; omega
        · omega
      · refine zx_vote (x := j) (y := e) hc (by omega) (by omega) (by omega) hrd hRb (hco e) hw hu (fun s hs => nm_r (nI_1 j) (ih (j + 1) _ _ (by omega) (zv_Qm (zv_put hc (by omega) (by omega) (by omega) hq hs ?_) ?_)))
        · intro b hb hz hl e1 hWb
          have l := hW e b hb hWb
          have eb : b = e := by omega
          subst eb
          omega
        · intro x y hx hy h1 h2 hl hz
          unfold zv_1 at hz ⊢
          by_cases g : x = j ∧ y = e
          · exact Or.inr g
          · exact Or.inl (by omega)
theorem zx_findVotes {e : Nat} (hc : c ≤ 48) (he : c = e + 1) (hL : L ≤ 48) (hrd : ∀ j, ard j = nI (R j)) (hRb : ∀ j, j < c → 1 ≤ R j ∧ R j ≤ 48) (hRL : ∀ j, j < c → R j ≤ L) (hco : ∀ j, aco j = 0 ∨ aco j = 1) (hW : ∀ a b, b < c → W a b → a ≤ b) (hw : ∀ (avo ade : Nat → Int32) (q : Int32 → Prop) (a b : Nat), a < c → b < c → (W a b → q 1) → (¬ W a b → q 0) → wpX_isWellUnder q ((nI c), (nI L), ff, fs, fo, ft, amk, atm, aco, apl, arl, aro, akn, akf, ard, awi, avo, ade, afa, adc, arc, aft, aor, apo, ast) (nI a) (nI b)) (hu : ∀ (avo ade : Nat → Int32) (q : Int32 → Prop) (a b : Nat), a < c → b < c → (U a b → q 1) → (¬ U a b → q 0) → wpX_isUnder q ((nI c), (nI L), ff, fs, fo, ft, amk, atm, aco, apl, arl, aro, akn, akf, ard, awi, avo, ade, afa, adc, arc, aft, aor, apo, ast) (nI a) (nI b))
    (h0 : zv_Q (fun a b => a ≠ e ∧ b ≠ e) c R awi aco U W avo ade)
    (hp : ∀ avo ade : Nat → Int32, zv_Q (fun _ _ => True) c R awi aco U W avo ade → post ((nI c), (nI L), ff, fs, fo, ft, amk, atm, aco, apl, arl, aro, akn, akf, ard, awi, avo, ade, afa, adc, arc, aft, aor, apo, ast)) : wpX_findVotes post ((nI c), (nI L), ff, fs, fo, ft, amk, atm, aco, apl, arl, aro, akn, akf, ard, awi, avo, ade, afa, adc, arc, aft, aor, apo, ast) (nI e) :=
  Exists.intro (e + 1) (zx_fv_2 hc he hL hrd hRb hRL hco hW hw hu hp e 0 avo ade (by omega) (zv_Qm h0 (fun x y _ _ _ _ _ hz => by unfold zv_1 at hz; omega)))
end XW
end
section
section XM
variable {c L : Nat} {ff fs fo ft : Int32} {amk atm aco apl arl aro akn akf ard awi avo ade afa adc arc aft aor apo ast : Nat → Int32} {M P RL Ro kn kf R : Nat → Nat} {U W : Nat → Nat → Prop} {post : Int32 → SX → Prop} {m ow ot : Nat}
def zz_E (amk apl arl aro akn akf ard : Nat → Int32) (M P RL Ro kn kf R : Nat → Nat) : Prop :=
  (∀ j, amk j = nI (M j)) ∧ (∀ j, apl j = nI (P j)) ∧ (∀ j, arl j = nI (RL j)) ∧ (∀ j, aro j = nI (Ro j)) ∧ (∀ j, akn j = zp_I (kn j)) ∧ (∀ j, akf j = zp_I (kf j)) ∧ (∀ j, ard j = nI (R j))
def zz_F (c L : Nat) (M P RL Ro kn kf R : Nat → Nat) (wi co vo de : Nat → Int32) (U W : Nat → Nat → Prop) : Prop :=
  c ≤ 48 ∧ zg_U c M U ∧ zg_R c M P RL Ro ∧ zg_K c M P RL U kn ∧ zg_F c M P RL U kf ∧ zg_W c M U W ∧ zg_O c L M R wi ∧ zg_V c R wi co U W vo de ∧ (∀ j, co j = 0 ∨ co j = 1) ∧ (∀ j, M j < 4)
def zm_U (c ow ot : Nat) (U : Nat → Nat → Prop) (x y : Nat) : Prop := (y ≠ c ∧ U x y) ∨ (y = c ∧ (x = c ∨ (0 < ow ∧ U x (ow - 1)) ∨ (0 < ot ∧ U x (ot - 1))))
def zm_W (c m ow ot : Nat) (M : Nat → Nat) (U W : Nat → Nat → Prop) (x y : Nat) : Prop := (y ≠ c ∧ W x y) ∨ (y = c ∧ x < c + 1 ∧ 3 ≤ zc_ct (zg_B (c + 1) (zu_N M c m) (zm_U c ow ot U) x c) 4)
theorem zm_new : zg_new c U (zm_U c ow ot U) ow ot := by
  refine ⟨?_, ?_⟩
  · intro x y h
    unfold zm_U
    exact ⟨fun z => z.elim (fun a => a.2) (fun a => absurd a.1 h), fun z => Or.inl ⟨h, z⟩⟩
  · intro x
    unfold zm_U
    exact ⟨fun z => z.elim (fun a => absurd rfl a.1) (fun a => a.2), fun z => Or.inr ⟨rfl, z⟩⟩
theorem zm_Wo {x y : Nat} (h : y ≠ c) : zm_W c m ow ot M U W x y ↔ W x y := by
  unfold zm_W
  exact ⟨fun z => z.elim (fun a => a.2) (fun a => absurd a.1 h), fun z => Or.inl ⟨h, z⟩⟩
theorem zm_Wc {x : Nat} : zm_W c m ow ot M U W x c ↔ (x < c + 1 ∧ 3 ≤ zc_ct (zg_B (c + 1) (zu_N M c m) (zm_U c ow ot U) x c) 4) := by
  unfold zm_W
  exact ⟨fun z => z.elim (fun a => absurd rfl a.1) (fun a => a.2), fun z => Or.inr ⟨rfl, z⟩⟩
theorem zg_dc (hU : zg_U c M U) (hR : zg_R c M P RL Ro) (hF : zg_F c M P RL U kf) (hm : m < 4) {x y : Nat} (hx : x < c) (hy : y < c) (hxy : U x y) (h : ¬ kf (4 * y + m) = 0) : ¬ kf (4 * x + m) = 0 := by
  obtain ⟨r1, r2, r3, r4⟩ := hR
  obtain ⟨f1, f2⟩ := hF
  have b := f1 y m hy hm
  obtain ⟨a1, a2, a3⟩ := r3 m (kf (4 * y + m) - 1) hm (by omega)
  have hz : U y (Ro (48 * m + (kf (4 * y + m) - 1))) := by
    rw [f2 y _ hy a1, a2, a3]; omega
  have hw := hU.2.2.2.1 x y _ a1 hxy hz
  rw [f2 x _ hx a1, a2] at hw
  omega
theorem zg_V_old {U' W' : Nat → Nat → Prop} {r : Nat} {b t : Int32} (hU : zg_U c M U) (hV : zg_V c R awi aco U W avo ade) (hN : zg_new c U U' ow ot) (hWo : ∀ x y, y ≠ c → (W' x y ↔ W x y)) (hW : ∀ x y, y < c → W x y → x ≤ y) : zv_Q (fun x y => x ≠ c ∧ y ≠ c) (c + 1) (zu_N R c r) (upd awi c b) (upd aco c t) U' W' avo ade := by
  intro x y hx hy h1 h2 hl ⟨ex, ey⟩
  rw [pk_un ex] at h1
  rw [pk_un ey] at h2
  rw [zu_n ex, zu_n ey] at hl
  have k := hV x y (by omega) (by omega) h1 h2 hl
  have e : zv_s c R awi aco U W (fun w => avo (48 * x + w)) x y = zv_s (c + 1) (zu_N R c r) (upd awi c b) (upd aco c t) U' W' (fun w => avo (48 * x + w)) x y := by
    refine zv_sc (zu_n ex) (zu_n ey) (fun _ => (hN.1 x y ey).symm) (pk_un ey) (fun w hw => ?_) (fun _ _ _ _ _ _ => rfl) (fun w hw1 hw2 z => ?_) (by omega)
    · have ew : w ≠ c := by omega
      rw [pk_un ew, zu_n ew, hWo w y ey]
    · have := hW w y (by omega) ((hWo w y ey).mp z)
      omega
  rw [← e]
  exact k
theorem zm_rle (hR : zg_O c L M R awi) {o : Nat} (ho : o ≤ c) : zg_ro R o ≤ c := by
  unfold zg_ro
  split
  · omega
  · have := (hR.1 (o - 1) (by omega)).2.1
    omega
theorem zx_r1 {r n : Nat} : 1 ≤ zx_r r n ∧ r ≤ zx_r r n ∧ zx_r r n ≤ r + 1 := by
  unfold zx_r
  split <;> omega
end XM
section XN
variable {c L : Nat} {ff fs fo ft : Int32} {amk atm aco apl arl aro akn akf ard awi avo ade afa adc arc aft aor apo ast : Nat → Int32} {M P RL Ro kn kf R : Nat → Nat} {U W : Nat → Nat → Prop} {post : Int32 → SX → Prop} {m ow ot : Nat} {tt cn : Int32}
theorem zx_make_47 (hE : zz_E amk apl arl aro akn akf ard M P RL Ro kn kf R) (hFF : zz_F c L M P RL Ro kn kf R awi aco avo ade U W) (hc : c < 48) (hm : m < 4) (hw : zg_own c M m ow) (hot : ot ≤ c) (hcn : cn = 0 ∨ cn = 1)
    (hp : ∀ (akn' akf' avo' ade' : Nat → Int32) (kn' kf' : Nat → Nat) (r r' : Nat) (b : Int32), r = zg_mx (zg_ro R ow) (zg_ro R ot) → r' = zx_r r (zc_ct (fun w => ¬ awi w = 0 ∧ R w = r ∧ 3 ≤ zc_ct (zg_B (c + 1) (zu_N M c m) (zm_U c ow ot U) w c) 4) c) → b = (if r' ≤ zg_ro R ow then 0 else 1) →
      zz_E (upd amk c (nI m)) (upd apl c (nI (RL m))) (upd arl m (nI (RL m + 1))) (upd aro (48 * m + RL m) (nI c)) akn' akf' (upd ard c (nI r')) (zu_N M c m) (zu_N P c (RL m)) (zu_N RL m (RL m + 1)) (zu_N Ro (48 * m + RL m) c) kn' kf' (zu_N R c r') →
      zz_F (c + 1) (zg_mx r' L) (zu_N M c m) (zu_N P c (RL m)) (zu_N RL m (RL m + 1)) (zu_N Ro (48 * m + RL m) c) kn' kf' (zu_N R c r') (upd awi c b) (upd aco c cn) avo' ade' (zm_U c ow ot U) (zm_W c m ow ot M U W) →
      post (nI c) ((nI (c + 1)), (nI (zg_mx r' L)), 0, fs, fo, ft, (upd amk c (nI m)), (upd atm c tt), (upd aco c cn), (upd apl c (nI (RL m))), (upd arl m (nI (RL m + 1))), (upd aro (48 * m + RL m) (nI c)), (akn'), (akf'), (upd ard c (nI r')), (upd awi c b), (avo'), (ade'), afa, adc, arc, aft, aor, apo, ast)) :
    wX_make_47 post (nI m) (zp_I ot) tt cn (nI c) (zp_I ow) (nI (c + 1)) (nI L) ff fs fo ft amk atm aco apl arl aro akn akf ard awi avo ade afa adc arc aft aor apo ast := by
  obtain ⟨emk, epl, erl, ero, ekn, ekf, erd⟩ := hE
  obtain ⟨hc8, hU, hR, hK, hF, hW, hO, hV, hco, hM4⟩ := hFF
  have how := zg_ownle hw
  have bm := hR.1 m hm
  have cm : (nI m).toNatClampNeg = m := nI_clamp (by omega)
  have im : vp_in (nI m) 4 := vp_in_nI hm (by decide)
  have i48 : vp_in (48 * nI m + nI (RL m)) 192 := by
    rw [zn_48]; exact vp_in_nI (by omega) (by decide)
  have c48 : (48 * nI m + nI (RL m)).toNatClampNeg = 48 * m + RL m := by
    rw [zn_48]; exact nI_clamp (by omega)
  have bL := hO.2.1
  have hN : zg_new c U (zm_U c ow ot U) ow ot := zm_new
  have hU' := zg_U_new hU hm hw hot hN
  have hR' := zg_R_new hR hU hm hc
  have hK' := zg_K_new hR hU hK hm hw hot hN
  have ic := zn_i hc
  have kf0 : ∀ x i, x < c → i < 4 → zl_f c 4 kf (4 * x + i) = kf (4 * x + i) := by
    intro x i hx hi
    unfold zl_f
    rw [if_neg (by omega)]
  have kfc : ∀ i, i < 4 → zl_f c 4 kf (4 * c + i) = 0 := by
    intro i hi
    unfold zl_f
    rw [if_pos (by omega)]
  refine And.intro ic (nm_r (e' := upd amk c (nI m)) (by rw [zn_c hc]) (And.intro ic (nm_r (e' := upd atm c tt) (by rw [zn_c hc]) (And.intro ic (nm_r (e' := upd aco c cn) (by rw [zn_c hc, zo_n hcn]) (And.intro im (And.intro ic (nm_r (e' := upd apl c (nI (RL m))) (by rw [zn_c hc, cm, erl]) (And.intro im ?_)))))))))
  rw [cm, erl, c48]
  refine And.intro i48 (nm_e (And.intro im (And.intro im (nm_r (e' := upd arl m (nI (RL m + 1))) (by rw [nI_1]) ?_))))
  refine zx_learn (kn := kn) (kf := kf) (RL := RL) hc hm how hot pk_us pk_us (fun y i hy hi => by have := hK.1 y i hy hi; have := hR.1 i hi; omega) ekn ekf (fun akn1 akf1 hk1 hf1 => ?_)
  refine zx_tell (RL := RL) hc hm pk_us pk_us (zu_nI ero _ _) hR' hk1 hf1 hK' hU'.1 ?_ ?_ (fun akf2 kf2 hf2 hT => ?_)
  · intro x i hx hi
    by_cases e : x = c
    · subst e; rw [kfc i hi]; omega
    · rw [kf0 x i (by omega) hi]
      have := hF.1 x i (by omega) hi
      have := hR.1 i hi
      omega
  · intro x y hx hy eM hP hy0
    have ey : y ≠ c := fun z => by subst z; exact hy0 (kfc m hm)
    rw [kf0 y m (by omega) hm] at hy0
    rw [zu_n ey] at eM hP
    have ex : x ≠ c := fun z => by
      subst z
      rw [zu_s] at eM hP
      have := (hR.2.1 y (by omega)).1
      rw [← eM] at this
      omega
    rw [zu_n ex] at eM hP
    rw [kf0 x m (by omega) hm]
    refine zg_dc hU hR hF hm (show x < c by omega) (show y < c by omega) ?_ hy0
    refine hU.2.2.2.2 x y (by omega) ?_ eM
    have q := hR.2.2.2 y x (by omega) (by omega) eM.symm
    have : ¬ y < x := fun z => by have := q.mp z; omega
    omega
  have hF' := zg_F_new hR hU hF kf0 kfc hm hw hot hN hT
  have hW' : zg_W (c + 1) (zu_N M c m) (zm_U c ow ot U) (zm_W c m ow ot M U W) := zg_W_new hU hU' hW hN (fun x y h => zm_Wo h) (fun x => zm_Wc)
  refine zx_findRound (R := R) (ow := ow) (ot := ot) (Q := fun w => 3 ≤ zc_ct (zg_B (c + 1) (zu_N M c m) (zm_U c ow ot U) w c) 4) hc (by omega) how hot erd (fun j hj => by have := (hO.1 j hj).2.1; omega) (fun q w hw h1 h0 => zx_well (by omega) hk1 hf2 hR' hK' hF' (by omega) (by omega) h1 h0) (fun r r' er er' => ?_)
  have b1 := zm_rle hO how
  have b2 := zm_rle hO hot
  have br : r ≤ c := by rw [er]; exact zg_mxle b1 b2
  have q1 : zg_ro R ow ≤ r := by rw [er]; unfold zg_mx; split <;> omega
  obtain ⟨q2, q3, q4⟩ := zx_r1 (r := r) (n := zc_ct (fun w => ¬ awi w = 0 ∧ R w = r ∧ 3 ≤ zc_ct (zg_B (c + 1) (zu_N M c m) (zm_U c ow ot U) w c) 4) c)
  rw [← er'] at q2 q3 q4
  have hO' : zg_O (c + 1) (zg_mx r' L) (zu_N M c m) (zu_N R c r') (upd awi c (if r' ≤ zg_ro R ow then 0 else 1)) := by
    refine zg_O_new hO hw q2 (by omega) (by omega) (fun hb => ?_)
    by_cases g : r' ≤ zg_ro R ow
    · rw [if_pos g] at hb; exact absurd rfl hb
    · omega
  have hco' : ∀ j, upd aco c cn j = 0 ∨ upd aco c cn j = 1 := by
    intro j
    by_cases e : j = c
    · subst e; rw [pk_us]; exact hcn
    · rw [pk_un e]; exact hco j
  have hM4' : ∀ j, zu_N M c m j < 4 := by
    intro j
    by_cases e : j = c
    · subst e; rw [zu_s]; exact hm
    · rw [zu_n e]; exact hM4 j
  have hQ := zg_V_old (r := r') (b := if r' ≤ zg_ro R ow then 0 else 1) (t := cn) hU hV hN (fun x y h => zm_Wo (m := m) (ow := ow) (ot := ot) (M := M) (U := U) h) hW.1
  have hE' : ∀ (a b : Nat → Int32) (k f : Nat → Nat), (∀ j, a j = zp_I (k j)) → (∀ j, b j = zp_I (f j)) → zz_E (upd amk c (nI m)) (upd apl c (nI (RL m))) (upd arl m (nI (RL m + 1))) (upd aro (48 * m + RL m) (nI c)) a b (upd ard c (nI r')) (zu_N M c m) (zu_N P c (RL m)) (zu_N RL m (RL m + 1)) (zu_N Ro (48 * m + RL m) c) k f (zu_N R c r') := by
    intro a b k f ha hb
    exact ⟨zu_nI emk _ _, zu_nI epl _ _, zu_nI erl _ _, zu_nI ero _ _, ha, hb, zu_nI erd _ _⟩
  refine And.intro ic ?_
  rw [zn_c hc, pk_us]
  refine br_c (fun z => ?_) (fun z => ?_)
  · refine hp akn1 akf2 avo ade _ kf2 r r' _ er er' rfl (hE' _ _ _ _ hk1 hf2) ⟨by omega, hU', hR', hK', hF', hW', hO', ?_, hco', hM4'⟩
    intro x y hx hy h1 h2 hl
    refine hQ x y hx hy h1 h2 hl ⟨fun e => ?_, fun e => ?_⟩
    · subst e; rw [pk_us] at h1; exact h1 z
    · subst e; rw [pk_us] at h2; exact h2 z
  · refine zx_findVotes (U := zm_U c ow ot U) (W := zm_W c m ow ot M U W) (R := zu_N R c r') (by omega) rfl ?_ (zu_nI erd _ _) ?_ (fun j hj => (hO'.1 j hj).2.2) hco' hW'.1 ?_ ?_ hQ (fun avo2 ade2 h2 => hp akn1 akf2 avo2 ade2 _ kf2 r r' _ er er' rfl (hE' _ _ _ _ hk1 hf2) ⟨by omega, hU', hR', hK', hF', hW', hO', fun x y hx hy h1 h2' hl => h2 x y hx hy h1 h2' hl trivial, hco', hM4'⟩)
    · have := hO'.2.1; omega
    · intro j hj
      have := hO'.1 j hj
      omega
    · intro avo3 ade3 q a b ha hb h1 h0
      refine zx_well (by omega) hk1 hf2 hR' hK' hF' ha hb (fun t => h1 ((hW'.2 a b ha hb).mpr t)) (fun t => h0 (fun s => t ((hW'.2 a b ha hb).mp s)))
    · intro avo3 ade3 q a b ha hb h1 h0
      exact zx_under (by omega) (zu_nI emk _ _) (zu_nI epl _ _) hk1 hU' hR' hK' ha hb h1 h0
theorem zx_make (hE : zz_E amk apl arl aro akn akf ard M P RL Ro kn kf R) (hFF : zz_F c L M P RL Ro kn kf R awi aco avo ade U W) (hc : c < 48) (hm : m < 4) (hw : zg_own c M m ow) (hot : ot ≤ c) (hcn : cn = 0 ∨ cn = 1)
    (hp : ∀ (akn' akf' avo' ade' : Nat → Int32) (kn' kf' : Nat → Nat) (r r' : Nat) (b : Int32), r = zg_mx (zg_ro R ow) (zg_ro R ot) → r' = zx_r r (zc_ct (fun w => ¬ awi w = 0 ∧ R w = r ∧ 3 ≤ zc_ct (zg_B (c + 1) (zu_N M c m) (zm_U c ow ot U) w c) 4) c) → b = (if r' ≤ zg_ro R ow then 0 else 1) →
      zz_E (upd amk c (nI m)) (upd apl c (nI (RL m))) (upd arl m (nI (RL m + 1))) (upd aro (48 * m + RL m) (nI c)) akn' akf' (upd ard c (nI r')) (zu_N M c m) (zu_N P c (RL m)) (zu_N RL m (RL m + 1)) (zu_N Ro (48 * m + RL m) c) kn' kf' (zu_N R c r') →
      zz_F (c + 1) (zg_mx r' L) (zu_N M c m) (zu_N P c (RL m)) (zu_N RL m (RL m + 1)) (zu_N Ro (48 * m + RL m) c) kn' kf' (zu_N R c r') (upd awi c b) (upd aco c cn) avo' ade' (zm_U c ow ot U) (zm_W c m ow ot M U W) →
      post (nI c) ((nI (c + 1)), (nI (zg_mx r' L)), 0, fs, fo, ft, (upd amk c (nI m)), (upd atm c tt), (upd aco c cn), (upd apl c (nI (RL m))), (upd arl m (nI (RL m + 1))), (upd aro (48 * m + RL m) (nI c)), (akn'), (akf'), (upd ard c (nI r')), (upd awi c b), (avo'), (ade'), afa, adc, arc, aft, aor, apo, ast)) :
    wpX_make post ((nI c), (nI L), ff, fs, fo, ft, amk, atm, aco, apl, arl, aro, akn, akf, ard, awi, avo, ade, afa, adc, arc, aft, aor, apo, ast) (nI m) (zp_I ot) tt cn := by
  have hR := hFF.2.2.1
  have bm := hR.1 m hm
  have im : vp_in (nI m) 4 := vp_in_nI hm (by decide)
  have cm : (nI m).toNatClampNeg = m := nI_clamp (by omega)
  have eo := zg_own_u hw (zg_row_own hR hm)
  refine nm_r (nI_1 c) (And.intro im ?_)
  rw [cm, hE.2.2.1 m]
  refine zn_if (zn_eq0 (by omega)) (fun g => ?_) (fun g => And.intro im ?_)
  · rw [if_pos g] at eo
    subst eo
    have k := zx_make_47 (ff := ff) (fs := fs) (fo := fo) (ft := ft) (afa := afa) (adc := adc) (arc := arc) (aft := aft) (aor := aor) (apo := apo) (ast := ast) hE hFF hc hm hw hot hcn hp
    rw [zp_0] at k
    exact k
  · rw [if_neg g] at eo
    have e1 : 48 * nI m + nI (RL m) - 1 = nI (48 * m + (RL m - 1)) := by
      rw [zn_48, zn_sub1 (by omega)]
      exact congrArg nI (by omega)
    rw [e1, nI_clamp (by omega), hE.2.2.2.1, ← zp_s (Ro (48 * m + (RL m - 1))), ← eo]
    exact And.intro (vp_in_nI (by omega) (by decide)) (zx_make_47 hE hFF hc hm hw hot hcn hp)
end XN
end
section
section YR
variable {c L : Nat} {gs go gm : Int32} {amk atm aco ard awi bvo bfa bdc brc bfi bor bso : Nat → Int32} {bun bwe : Nat → Int64} {M P RL Ro kn kf R : Nat → Nat} {U W : Nat → Nat → Prop} {post : Int32 → Prop}
theorem zy_bad_f (hc : c ≤ 48) {x : Nat} (hx : x < c) (h : post 0) : wpY_bad post ((nI c), (nI L), gs, go, gm, amk, atm, aco, bun, bwe, ard, awi, bvo, bfa, bdc, brc, bfi, bor, bso) (nI x) :=
  br_f (nI_pos (by omega)) (br_t (nI_lt hx (by omega)) h)
theorem zy_bad_t {v : Int32} (hv : v < 0 ∨ nI c ≤ v) (h : post 1) : wpY_bad post ((nI c), (nI L), gs, go, gm, amk, atm, aco, bun, bwe, ard, awi, bvo, bfa, bdc, brc, bfi, bor, bso) v :=
  br_c (fun _ => h) (fun n => br_f (fun z => Int32.lt_irrefl (Int32.lt_of_lt_of_le z (hv.resolve_left n))) h)
theorem zy_has {w : Int64} {k : Nat} (hk : k < 48) (h1 : zb_l w k = true → post 1) (h0 : ¬ zb_l w k = true → post 0) : wpY_has post ((nI c), (nI L), gs, go, gm, amk, atm, aco, bun, bwe, ard, awi, bvo, bfa, bdc, brc, bfi, bor, bso) w (nI k) :=
  zn_if (zb_bit w (by omega)) h1 h0
theorem zy_latest_l {m : Nat} (hc : c ≤ 48) (hm : m < 4) (hmk : ∀ j, amk j = nI (M j)) (hM : ∀ x, x < c → M x < 4) (hp : ∀ ow, zg_own c M m ow → post (zp_I ow)) : ∀ j, j ≤ c → (∀ x, x < c → j ≤ x → M x ≠ m) → wY_latestOf_7 post (nI m) (nI c) (nI L) gs go gm amk atm aco bun bwe ard awi bvo bfa bdc brc bfi bor bso (j + 1) (zp_I j) := by
  intro j
  induction j with
  | zero =>
    intro hj h
    exact br_t (by decide) (hp 0 (Or.inl ⟨rfl, fun x hx => h x hx (Nat.zero_le x)⟩))
  | succ j ih =>
    intro hj h
    have j48 : j < 48 := by omega
    have bj := hM j (by omega)
    rw [zp_s]
    refine br_f (nI_pos (by omega)) (And.intro (zn_i j48) ?_)
    rw [zn_c j48, hmk]
    refine zn_if (nI_eq (by omega) (by omega)) (fun g => ?_) (fun g => nm_r (zp_m1 j) (ih (by omega) ?_))
    · rw [← zp_s]
      refine hp (j + 1) (Or.inr ⟨by omega, by omega, g, fun x hx e => ?_⟩)
      by_cases l : j + 1 ≤ x
      · exact absurd e (h x hx l)
      · omega
    · intro x hx l
      by_cases e : x = j
      · subst e; exact g
      · exact h x hx (by omega)
theorem zy_latest {m : Nat} (hc : c ≤ 48) (hm : m < 4) (hmk : ∀ j, amk j = nI (M j)) (hM : ∀ x, x < c → M x < 4) (hp : ∀ ow, zg_own c M m ow → post (zp_I ow)) : wpY_latestOf post ((nI c), (nI L), gs, go, gm, amk, atm, aco, bun, bwe, ard, awi, bvo, bfa, bdc, brc, bfi, bor, bso) (nI m) :=
  nm_e (Exists.intro (c + 1) (zy_latest_l hc hm hmk hM hp c (Nat.le_refl c) (fun x hx l => by omega)))
theorem zy_three_in {J : Int32 → Int32 → Prop} {s : Int64} {k i : Nat} (hi : i < 4) (hmk : ∀ j, amk j = nI (M j)) (hM : ∀ z, z < 48 → M z < 2 ^ 31) (h1 : (∃ z, z < 48 ∧ zb_l s z = true ∧ M z = i) → J (nI (k + 1)) (nI (i + 1))) (h0 : ¬ (∃ z, z < 48 ∧ zb_l s z = true ∧ M z = i) → J (nI k) (nI (i + 1))) :
    ∀ d j, j + d = 48 → (¬ (∃ z, z < j ∧ zb_l s z = true ∧ M z = i) → wY_ofThree_17 post J s (nI k) (nI i) (nI c) (nI L) gs go gm amk atm aco bun bwe ard awi bvo bfa bdc brc bfi bor bso (d + 1) 0 (nI j)) ∧ ((∃ z, z < j ∧ zb_l s z = true ∧ M z = i) → wY_ofThree_17 post J s (nI k) (nI i) (nI c) (nI L) gs go gm amk atm aco bun bwe ard awi bvo bfa bdc brc bfi bor bso (d + 1) 1 (nI j)) := by
  intro d
  induction d with
  | zero =>
    intro j hj
    have e : j = 48 := by omega
    subst e
    refine ⟨fun g => ?_, fun g => ?_⟩
    · exact br_t ((zn_48le (by omega)).mpr (by omega)) (br_t rfl (nm_r (nI_1 i) (h0 g)))
    · exact br_t ((zn_48le (by omega)).mpr (by omega)) (br_f zo_10 (nm_r (nI_1 k) (nm_r (nI_1 i) (h1 g))))
  | succ d ih =>
    intro j hj
    have j48 : j < 48 := by omega
    obtain ⟨a0, a1⟩ := ih (j + 1) (by omega)
    have bj := hM j j48
    refine ⟨fun g => ?_, fun g => ?_⟩
    · refine br_f (fun z => absurd ((zn_48le (by omega)).mp z) (by omega)) (br_t rfl ?_)
      refine zy_has j48 (fun b1 => br_f zo_10 (And.intro (zn_i j48) ?_)) (fun b0 => br_t rfl (nm_r (nI_1 j) (a0 ?_)))
      · rw [zn_c j48, hmk]
        refine zn_if (nI_eq bj (by omega)) (fun e => nm_r (nI_1 j) (a1 ⟨j, by omega, b1, e⟩)) (fun e => nm_r (nI_1 j) (a0 ?_))
        intro ⟨z, hz, h2, h3⟩
        by_cases ez : z = j
        · subst ez; exact e h3
        · exact g ⟨z, by omega, h2, h3⟩
      · intro ⟨z, hz, h2, h3⟩
        by_cases ez : z = j
        · subst ez; exact b0 h2
        · exact g ⟨z, by omega, h2, h3⟩
    · refine br_f (fun z => absurd ((zn_48le (by omega)).mp z) (by omega)) (br_f zo_10 (nm_r (nI_1 j) (a1 ?_)))
      obtain ⟨z, hz, h2⟩ := g
      exact ⟨z, by omega, h2⟩
theorem zy_three_l {s : Int64} (hmk : ∀ j, amk j = nI (M j)) (hM : ∀ z, z < 48 → M z < 2 ^ 31) (h1 : 3 ≤ zc_ct (fun i => ∃ z, z < 48 ∧ zb_l s z = true ∧ M z = i) 4 → post 1) (h0 : ¬ 3 ≤ zc_ct (fun i => ∃ z, z < 48 ∧ zb_l s z = true ∧ M z = i) 4 → post 0) :
    ∀ d i, i + d = 4 → wY_ofThree_5 post s (nI c) (nI L) gs go gm amk atm aco bun bwe ard awi bvo bfa bdc brc bfi bor bso (d + 1) (nI (zc_ct (fun i => ∃ z, z < 48 ∧ zb_l s z = true ∧ M z = i) i)) (nI i) := by
  intro d
  induction d with
  | zero =>
    intro i hi
    have e : i = 4 := by omega
    subst e
    have := zc_le (p := fun i => ∃ z, z < 48 ∧ zb_l s z = true ∧ M z = i) 4
    exact br_t ((zn_4le (by omega)).mpr (by omega)) (zn_if (zn_lt3 (by omega)) (fun g => h0 (by omega)) (fun g => h1 (by omega)))
  | succ d ih =>
    intro i hi
    have g := ih (i + 1) (by omega)
    refine br_f (fun z => absurd ((zn_4le (by omega)).mp z) (by omega)) (Exists.intro 49 ?_)
    refine (zy_three_in (by omega) hmk hM (fun t => ?_) (fun t => ?_) 48 0 rfl).1 (fun ⟨z, hz, _⟩ => absurd hz (Nat.not_lt_zero z))
    · rw [zc_st t] at g; exact g
    · rw [zc_sf t] at g; exact g
theorem zy_three {s : Int64} (hmk : ∀ j, amk j = nI (M j)) (hM : ∀ z, z < 48 → M z < 2 ^ 31) (h1 : 3 ≤ zc_ct (fun i => ∃ z, z < 48 ∧ zb_l s z = true ∧ M z = i) 4 → post 1) (h0 : ¬ 3 ≤ zc_ct (fun i => ∃ z, z < 48 ∧ zb_l s z = true ∧ M z = i) 4 → post 0) : wpY_ofThree post ((nI c), (nI L), gs, go, gm, amk, atm, aco, bun, bwe, ard, awi, bvo, bfa, bdc, brc, bfi, bor, bso) s :=
  Exists.intro 5 (zy_three_l hmk hM h1 h0 4 0 rfl)
end YR
section YW
variable {c L : Nat} {gs go gm : Int32} {amk atm aco ard awi bvo bfa bdc brc bfi bor bso : Nat → Int32} {bun bwe : Nat → Int64} {M P RL Ro kn kf R : Nat → Nat} {U W : Nat → Nat → Prop} {post : Int64 → Prop}
theorem zy_wu_in {J : Int64 → Int32 → Prop} {x y : Nat} {s : Int64} (hy : y < 48) (hx : x ≤ y) (hmk : ∀ j, amk j = nI (M j)) (hM : ∀ z, z < 48 → M z < 2 ^ 31) (hbu : ∀ a b, zb_l (bun b) a = true ↔ U a b)
    (h1 : 3 ≤ zc_ct (zg_B (y + 1) M U x y) 4 → J (s ||| ((1 : Int64) <<< ((nI x).toInt64 &&& 63))) (nI (x + 1))) (h0 : ¬ 3 ≤ zc_ct (zg_B (y + 1) M U x y) 4 → J s (nI (x + 1))) :
    ∀ (d j : Nat) (t : Int64), j + d = y + 1 → (∀ z, zb_l t z = true ↔ z < j ∧ U z y ∧ U x z) → wY_wellUnderOf_17 post J (nI y) s (nI x) (nI c) (nI L) gs go gm amk atm aco bun bwe ard awi bvo bfa bdc brc bfi bor bso (d + 1) t (nI j) := by
  intro d
  induction d with
  | zero =>
    intro j t hj ht
    have e : zc_ct (fun i => ∃ z, z < 48 ∧ zb_l t z = true ∧ M z = i) 4 = zc_ct (zg_B (y + 1) M U x y) 4 := by
      apply zc_c
      intro i _
      constructor
      · intro ⟨z, hz, b, hm⟩
        have q := (ht z).mp b
        exact ⟨z, by omega, hm, q.2.2, q.2.1⟩
      · intro ⟨z, hz, hm, q1, q2⟩
        exact ⟨z, by omega, (ht z).mpr ⟨by omega, q2, q1⟩, hm⟩
    refine br_t (nI_lt (by omega) (by omega)) (zy_three hmk hM (fun g => br_f zo_10 ?_) (fun g => br_t rfl ?_))
    · rw [e] at g
      exact nm_e (nm_r (nI_1 x) (h1 g))
    · rw [e] at g
      exact nm_r (nI_1 x) (h0 g)
  | succ d ih =>
    intro j t hj ht
    have j48 : j < 48 := by omega
    refine br_f (nI_nlt (by omega) (by omega)) (And.intro (zn_i hy) ?_)
    rw [zn_c hy, zn_c j48]
    refine zy_has j48 (fun b1 => br_f zo_10 (And.intro (zn_i j48) ?_)) (fun b0 => br_t rfl (nm_r (nI_1 j) (ih (j + 1) t (by omega) (fun z => ?_))))
    · refine zy_has (by omega) (fun c1 => br_f zo_10 (nm_e (nm_r (nI_1 j) (ih (j + 1) _ (by omega) (fun z => ?_))))) (fun c0 => br_t rfl (nm_r (nI_1 j) (ih (j + 1) t (by omega) (fun z => ?_))))
      · rw [zb_or, zb_one j48, Bool.or_eq_true, ht z, decide_eq_true_eq]
        constructor
        · intro hz
          rcases hz with ⟨p1, p2⟩ | p
          · exact ⟨by omega, p2⟩
          · subst p; exact ⟨by omega, (hbu z y).mp b1, (hbu x z).mp c1⟩
        · intro ⟨p1, p2⟩
          by_cases ez : z = j
          · exact Or.inr ez
          · exact Or.inl ⟨by omega, p2⟩
      · rw [ht z]
        constructor
        · intro ⟨p1, p2⟩; exact ⟨by omega, p2⟩
        · intro ⟨p1, p2⟩
          by_cases ez : z = j
          · subst ez; exact absurd ((hbu x z).mpr p2.2) c0
          · exact ⟨by omega, p2⟩
    · rw [ht z]
      constructor
      · intro ⟨p1, p2⟩; exact ⟨by omega, p2⟩
      · intro ⟨p1, p2⟩
        by_cases ez : z = j
        · subst ez; exact absurd ((hbu z y).mpr p2.1) b0
        · exact ⟨by omega, p2⟩
theorem zy_wu_l {y : Nat} (hy : y < 48) (hmk : ∀ j, amk j = nI (M j)) (hM : ∀ z, z < 48 → M z < 2 ^ 31) (hbu : ∀ a b, zb_l (bun b) a = true ↔ U a b)
    (hp : ∀ w : Int64, (∀ z, zb_l w z = true ↔ z < y + 1 ∧ 3 ≤ zc_ct (zg_B (y + 1) M U z y) 4) → post w) :
    ∀ (d j : Nat) (s : Int64), j + d = y + 1 → (∀ z, zb_l s z = true ↔ z < j ∧ 3 ≤ zc_ct (zg_B (y + 1) M U z y) 4) → wY_wellUnderOf_5 post (nI y) (nI c) (nI L) gs go gm amk atm aco bun bwe ard awi bvo bfa bdc brc bfi bor bso (d + 1) s (nI j) := by
  intro d
  induction d with
  | zero =>
    intro j s hj hs
    have e : j = y + 1 := by omega
    subst e
    exact br_t (nI_lt (by omega) (by omega)) (hp s hs)
  | succ d ih =>
    intro j s hj hs
    refine br_f (nI_nlt (by omega) (by omega)) (Exists.intro (y + 2) ?_)
    refine zy_wu_in hy (by omega) hmk hM hbu (fun g => ih (j + 1) _ (by omega) (fun z => ?_)) (fun g => ih (j + 1) s (by omega) (fun z => ?_)) (y + 1) 0 0 (by omega) (fun z => ?_)
    · rw [zb_or, zb_one (show j < 48 by omega), Bool.or_eq_true, hs z, decide_eq_true_eq]
      constructor
      · intro hz
        rcases hz with ⟨p1, p2⟩ | p
        · exact ⟨by omega, p2⟩
        · subst p; exact ⟨by omega, g⟩
      · intro ⟨p1, p2⟩
        by_cases ez : z = j
        · exact Or.inr ez
        · exact Or.inl ⟨by omega, p2⟩
    · rw [hs z]
      constructor
      · intro ⟨p1, p2⟩; exact ⟨by omega, p2⟩
      · intro ⟨p1, p2⟩
        by_cases ez : z = j
        · subst ez; exact absurd p2 g
        · exact ⟨by omega, p2⟩
    · rw [zb_0]
      exact ⟨fun h => absurd h Bool.false_ne_true, fun h => absurd h.1 (Nat.not_lt_zero z)⟩
theorem zy_wu {y : Nat} (hy : y < 48) (hmk : ∀ j, amk j = nI (M j)) (hM : ∀ z, z < 48 → M z < 2 ^ 31) (hbu : ∀ a b, zb_l (bun b) a = true ↔ U a b)
    (hp : ∀ w : Int64, (∀ z, zb_l w z = true ↔ z < y + 1 ∧ 3 ≤ zc_ct (zg_B (y + 1) M U z y) 4) → post w) : wpY_wellUnderOf post ((nI c), (nI L), gs, go, gm, amk, atm, aco, bun, bwe, ard, awi, bvo, bfa, bdc, brc, bfi, bor, bso) (nI y) :=
  Exists.intro (y + 2) (zy_wu_l hy hmk hM hbu hp (y + 1) 0 0 (by omega) (fun z => by rw [zb_0]; exact ⟨fun h => absurd h Bool.false_ne_true, fun h => absurd h.1 (Nat.not_lt_zero z)⟩))
end YW
end
section
section YM
variable {c L : Nat} {gs go gm : Int32} {amk atm aco ard awi bvo bfa bdc brc bfi bor bso : Nat → Int32} {bun bwe : Nat → Int64} {M P RL Ro kn kf R : Nat → Nat} {U W : Nat → Nat → Prop} {post : Int32 → SY → Prop} {m ow ot : Nat} {tt cn : Int32}
theorem zy_307 {z : Int32} {r : Nat} (hz : z = nI (zg_mx r L)) (h : post (nI c) ((nI (c + 1)), (nI (zg_mx r L)), gs, go, gm, amk, atm, aco, bun, bwe, ard, awi, bvo, bfa, bdc, brc, bfi, bor, bso)) : wY_make_307 post (nI c) z (nI c) (nI L) gs go gm amk atm aco bun bwe ard awi bvo bfa bdc brc bfi bor bso := by
  subst hz
  exact nm_r (nI_1 c) h
theorem zy_277 {r : Nat} {z : Int32} (hc : c < 48) (hL : L < 2 ^ 31) (hr : r < 2 ^ 31) (hz : z = 0 ∨ z = 1) (hrd : ard c = nI r) (h : post (nI c) ((nI (c + 1)), (nI (zg_mx r L)), gs, go, gm, amk, atm, aco, bun, bwe, ard, (upd awi c z), bvo, bfa, bdc, brc, bfi, bor, bso)) : wY_make_277 post (nI c) z (nI c) (nI c) (nI L) gs go gm amk atm aco bun bwe ard awi bvo bfa bdc brc bfi bor bso := by
  refine And.intro (zn_i hc) (nm_r (e' := upd awi c z) (by rw [zn_c hc, zo_n hz]) (And.intro (zn_i hc) ?_))
  rw [zn_c hc, hrd]
  refine zn_if (nI_leI hr hL) (fun g => zy_307 (r := r) ?_ h) (fun g => And.intro (zn_i hc) (zy_307 (r := r) ?_ h))
  · rw [show zg_mx r L = L from if_pos g]
  · rw [show zg_mx r L = r from if_neg g]
theorem zy_245 {r : Nat} (hc : c < 48) (hL : L < 2 ^ 31) (hr1 : 1 ≤ r) (hr : r < 2 ^ 31) (how : ow ≤ c) (hrd : ∀ j, ard j = nI (R j)) (hRb : ∀ j, j < c → R j ≤ 48) (h : post (nI c) ((nI (c + 1)), (nI (zg_mx r L)), gs, go, gm, amk, atm, aco, bun, bwe, (upd ard c (nI r)), (upd awi c (if r ≤ zg_ro R ow then 0 else 1)), bvo, bfa, bdc, brc, bfi, bor, bso)) : wY_make_245 post (zp_I ow) (nI c) (nI r) (nI c) (nI c) (nI L) gs go gm amk atm aco bun bwe ard awi bvo bfa bdc brc bfi bor bso := by
  refine And.intro (zn_i hc) (nm_r (e' := upd ard c (nI r)) (by rw [zn_c hc]) ?_)
  refine zn_if (zp_neg (by omega)) (fun g => ?_) (fun g => ?_)
  · subst g
    rw [if_neg (show ¬ r ≤ zg_ro R 0 by rw [show zg_ro R 0 = 0 from if_pos rfl]; omega)] at h
    exact zy_277 hc hL hr (Or.inr rfl) pk_us h
  · have e : zg_ro R ow = R (ow - 1) := if_neg g
    have b := hRb (ow - 1) (by omega)
    rw [e] at h
    rw [zp_pos (by omega)]
    refine And.intro (zn_i (by omega)) (And.intro (zn_i hc) ?_)
    rw [zn_c hc, zn_c (show ow - 1 < 48 by omega), pk_us, pk_un (show ow - 1 ≠ c by omega), hrd]
    refine zn_if (nI_leI hr (by omega)) (fun g2 => ?_) (fun g2 => ?_)
    · rw [if_pos g2] at h
      exact zy_277 hc hL hr (Or.inl rfl) pk_us h
    · rw [if_neg g2] at h
      exact zy_277 hc hL hr (Or.inr rfl) pk_us h
theorem zy_151 {r : Nat} (hc : c < 48) (hL : L < 2 ^ 31) (hr : r ≤ 48) (how : ow ≤ c) (hrd : ∀ j, ard j = nI (R j)) (hRb : ∀ j, j < c → R j ≤ 48) (hmk : ∀ j, amk j = nI (M j)) (hM : ∀ z, z < 48 → M z < 2 ^ 31) (hr0 : ow = 0 → r = 0) (hr1 : 0 < ow → 1 ≤ r) {Q : Nat → Prop} (hQ : ∀ z, z < c → (zb_l (bwe c) z = true ↔ Q z))
    (h3 : zc_ct (fun i => ∃ z, z < 48 ∧ (z < c ∧ (¬ awi z = 0 ∧ R z = r ∧ Q z)) ∧ M z = i) 4 = zc_ct (fun w => ¬ awi w = 0 ∧ R w = r ∧ Q w) c)
    (hp : ∀ r', r' = zx_r r (zc_ct (fun w => ¬ awi w = 0 ∧ R w = r ∧ Q w) c) → post (nI c) ((nI (c + 1)), (nI (zg_mx r' L)), gs, go, gm, amk, atm, aco, bun, bwe, (upd ard c (nI r')), (upd awi c (if r' ≤ zg_ro R ow then 0 else 1)), bvo, bfa, bdc, brc, bfi, bor, bso)) :
    ∀ (d j : Nat) (s : Int64), j + d = c → (∀ z, zb_l s z = true ↔ z < j ∧ (¬ awi z = 0 ∧ R z = r ∧ Q z)) → wY_make_151 post (zp_I ow) (nI c) (nI r) (nI c) (nI L) gs go gm amk atm aco bun bwe ard awi bvo bfa bdc brc bfi bor bso (d + 1) s (nI j) := by
  intro d
  induction d with
  | zero =>
    intro j s hj hs
    have ej : j = c := by omega
    subst ej
    refine br_t (nI_le (Nat.le_refl _) (by omega)) (zn_if (zp_0le (by omega)) (fun g => ?_) (fun g => ?_))
    · have e : zc_ct (fun i => ∃ z, z < 48 ∧ zb_l s z = true ∧ M z = i) 4 = zc_ct (fun w => ¬ awi w = 0 ∧ R w = r ∧ Q w) j := by
        rw [← h3]
        apply zc_c
        intro i _
        constructor
        · intro ⟨z, hz, b, hm⟩; exact ⟨z, hz, (hs z).mp b, hm⟩
        · intro ⟨z, hz, b, hm⟩; exact ⟨z, hz, (hs z).mpr b, hm⟩
      have r1 := hr1 g
      refine zy_three hmk hM (fun t => br_f zo_10 ?_) (fun t => br_t rfl ?_)
      · rw [e] at t
        rw [nI_1]
        exact zy_245 hc hL (by omega) (by omega) how hrd hRb (hp _ (by unfold zx_r; rw [if_pos (Or.inr t)]))
      · rw [e] at t
        exact zy_245 hc hL (by omega) (by omega) how hrd hRb (hp _ (by unfold zx_r; rw [if_neg (by omega)]))
    · have r0 := hr0 (by omega)
      exact zy_245 (r := 1) hc hL (by omega) (by omega) how hrd hRb (hp _ (by unfold zx_r; rw [if_pos (Or.inl r0), r0]))
  | succ d ih =>
    intro j s hj hs
    have j48 : j < 48 := by omega
    have bj := hRb j (by omega)
    refine br_f (nI_ge (by omega) (by omega)) (And.intro (zn_i j48) ?_)
    rw [zn_c j48]
    have skip : ¬ (¬ awi j = 0 ∧ R j = r ∧ Q j) → ∀ z, zb_l s z = true ↔ z < j + 1 ∧ (¬ awi z = 0 ∧ R z = r ∧ Q z) := by
      intro hn z
      rw [hs z]
      constructor
      · intro ⟨p1, p2⟩; exact ⟨by omega, p2⟩
      · intro ⟨p1, p2⟩
        by_cases ez : z = j
        · subst ez; exact absurd p2 hn
        · exact ⟨by omega, p2⟩
    refine br_c (fun w0 => nm_r (nI_1 j) (ih (j + 1) s (by omega) (skip (fun z => z.1 w0)))) (fun w1 => And.intro (zn_i j48) ?_)
    rw [hrd]
    refine zn_if (nI_eq (by omega) (by omega)) (fun er => And.intro (zn_i hc) ?_) (fun er => nm_r (nI_1 j) (ih (j + 1) s (by omega) (skip (fun z => er z.2.1))))
    rw [zn_c hc]
    refine zy_has j48 (fun b1 => br_f zo_10 (nm_e (nm_r (nI_1 j) (ih (j + 1) _ (by omega) (fun z => ?_))))) (fun b0 => br_t rfl (nm_r (nI_1 j) (ih (j + 1) s (by omega) (skip (fun z => b0 ((hQ j (by omega)).mpr z.2.2))))))
    rw [zb_or, zb_one j48, Bool.or_eq_true, hs z, decide_eq_true_eq]
    constructor
    · intro hz
      rcases hz with ⟨p1, p2⟩ | p
      · exact ⟨by omega, p2⟩
      · subst p; exact ⟨by omega, w1, er, (hQ z (by omega)).mp b1⟩
    · intro ⟨p1, p2⟩
      by_cases ez : z = j
      · exact Or.inr ez
      · exact Or.inl ⟨by omega, p2⟩
theorem zy_120 (hc : c < 48) (hL : L < 2 ^ 31) (how : ow ≤ c) (hot : ot ≤ c) (how0 : ow = 0 → ot = 0) (hrd : ∀ j, ard j = nI (R j)) (hRb : ∀ j, j < c → 1 ≤ R j ∧ R j ≤ 48) (hmk : ∀ j, amk j = nI (M j)) (hM : ∀ z, z < 48 → M z < 2 ^ 31) {Q : Nat → Prop} (hQ : ∀ z, z < c → (zb_l (bwe c) z = true ↔ Q z))
    (h3 : ∀ r, zc_ct (fun i => ∃ z, z < 48 ∧ (z < c ∧ (¬ awi z = 0 ∧ R z = r ∧ Q z)) ∧ M z = i) 4 = zc_ct (fun w => ¬ awi w = 0 ∧ R w = r ∧ Q w) c)
    (hp : ∀ r r', r = zg_mx (zg_ro R ow) (zg_ro R ot) → r' = zx_r r (zc_ct (fun w => ¬ awi w = 0 ∧ R w = r ∧ Q w) c) → post (nI c) ((nI (c + 1)), (nI (zg_mx r' L)), gs, go, gm, amk, atm, aco, bun, bwe, (upd ard c (nI r')), (upd awi c (if r' ≤ zg_ro R ow then 0 else 1)), bvo, bfa, bdc, brc, bfi, bor, bso)) :
    wY_make_120 post (zp_I ow) (zp_I ot) (nI c) (nI (zg_ro R ow)) (nI c) (nI L) gs go gm amk atm aco bun bwe ard awi bvo bfa bdc brc bfi bor bso := by
  have bo : ∀ o, o ≤ c → zg_ro R o ≤ 48 ∧ (0 < o → 1 ≤ zg_ro R o) ∧ (o = 0 → zg_ro R o = 0) := by
    intro o ho
    unfold zg_ro
    split
    · omega
    · have := hRb (o - 1) (by omega); omega
  obtain ⟨b1, b2, b3⟩ := bo ow how
  obtain ⟨d1, d2, d3⟩ := bo ot hot
  have emp : ∀ z, zb_l 0 z = true ↔ z < 0 ∧ (¬ awi z = 0 ∧ R z = zg_mx (zg_ro R ow) (zg_ro R ot) ∧ Q z) := by
    intro z
    rw [zb_0]
    exact ⟨fun h => absurd h Bool.false_ne_true, fun h => absurd h.1 (Nat.not_lt_zero z)⟩
  have go : ∀ r, r = zg_mx (zg_ro R ow) (zg_ro R ot) → ∃ n : Nat, wY_make_151 post (zp_I ow) (nI c) (nI r) (nI c) (nI L) gs go gm amk atm aco bun bwe ard awi bvo bfa bdc brc bfi bor bso n 0 0 := by
    intro r er
    refine ⟨c + 1, zy_151 hc hL ?_ how hrd (fun j hj => (hRb j hj).2) hmk hM ?_ ?_ hQ (h3 r) (fun r' => hp r r' er) c 0 0 (by omega) (fun z => ?_)⟩
    · rw [er]; exact zg_mxle b1 d1
    · intro e0
      have e1 := b3 e0
      have e2 := d3 (how0 e0)
      rw [er, e1, e2]; rfl
    · intro e0
      have := b2 e0
      rw [er]; unfold zg_mx; split <;> omega
    · rw [er]; exact emp z
  refine zn_if (zp_neg (by omega)) (fun g => ?_) (fun g => ?_)
  · refine go _ ?_
    rw [d3 g]; unfold zg_mx
    by_cases e : zg_ro R ow ≤ 0
    · rw [if_pos e]; omega
    · rw [if_neg e]
  · have e : zg_ro R ot = R (ot - 1) := if_neg g
    rw [e] at d1 go
    rw [zp_pos (by omega)]
    refine And.intro (zn_i (by omega)) ?_
    rw [zn_c (show ot - 1 < 48 by omega), hrd]
    refine zn_if (nI_leI (by omega) (by omega)) (fun g2 => go _ ?_) (fun g2 => And.intro (zn_i (by omega)) (nm_e (go _ ?_)))
    · unfold zg_mx
      by_cases e : zg_ro R ow ≤ R (ot - 1)
      · rw [if_pos e]; omega
      · rw [if_neg e]
    · unfold zg_mx
      rw [if_pos (by omega)]
theorem zy_93 (hc : c < 48) (hL : L < 2 ^ 31) (how : ow ≤ c) (hot : ot ≤ c) (how0 : ow = 0 → ot = 0) (hrd : ∀ j, ard j = nI (R j)) (hRb : ∀ j, j < c → 1 ≤ R j ∧ R j ≤ 48) (hmk : ∀ j, amk j = nI (M j)) (hM : ∀ z, z < 48 → M z < 2 ^ 31) (hbu : ∀ a b, zb_l (bun b) a = true ↔ U a b)
    (h3 : ∀ r, zc_ct (fun i => ∃ z, z < 48 ∧ (z < c ∧ (¬ awi z = 0 ∧ R z = r ∧ 3 ≤ zc_ct (zg_B (c + 1) M U z c) 4)) ∧ M z = i) 4 = zc_ct (fun w => ¬ awi w = 0 ∧ R w = r ∧ 3 ≤ zc_ct (zg_B (c + 1) M U w c) 4) c)
    (hp : ∀ (w : Int64) (r r' : Nat), (∀ z, zb_l w z = true ↔ z < c + 1 ∧ 3 ≤ zc_ct (zg_B (c + 1) M U z c) 4) → r = zg_mx (zg_ro R ow) (zg_ro R ot) → r' = zx_r r (zc_ct (fun w => ¬ awi w = 0 ∧ R w = r ∧ 3 ≤ zc_ct (zg_B (c + 1) M U w c) 4) c) → post (nI c) ((nI (c + 1)), (nI (zg_mx r' L)), gs, go, gm, amk, atm, aco, bun, (vp_updL bwe c w), (upd ard c (nI r')), (upd awi c (if r' ≤ zg_ro R ow then 0 else 1)), bvo, bfa, bdc, brc, bfi, bor, bso)) :
    wY_make_93 post (zp_I ow) (zp_I ot) (nI c) (nI c) (nI L) gs go gm amk atm aco bun bwe ard awi bvo bfa bdc brc bfi bor bso := by
  refine zy_wu hc hmk hM hbu (fun w hw => And.intro (zn_i hc) (nm_r (e' := vp_updL bwe c w) (by rw [zn_c hc]) ?_))
  have hQ : ∀ z, z < c → (zb_l (vp_updL bwe c w c) z = true ↔ 3 ≤ zc_ct (zg_B (c + 1) M U z c) 4) := by
    intro z hz
    rw [pk_uLs, hw z]
    exact ⟨fun t => t.2, fun t => ⟨by omega, t⟩⟩
  have fin := zy_120 (post := post) (bwe := vp_updL bwe c w) (gs := gs) (go := go) (gm := gm) (atm := atm) (aco := aco) (bvo := bvo) (bfa := bfa) (bdc := bdc) (brc := brc) (bfi := bfi) (bor := bor) (bso := bso) (bun := bun) hc hL how hot how0 hrd hRb hmk hM hQ h3 (fun r r' => hp w r r' hw)
  refine zn_if (zp_0le (by omega)) (fun g => ?_) (fun g => ?_)
  · have e : zg_ro R ow = R (ow - 1) := if_neg (by omega)
    rw [e] at fin
    have q : vp_in (zp_I ow) 48 := by rw [zp_pos (by omega)]; exact zn_i (by omega)
    have q2 : (zp_I ow).toNatClampNeg = ow - 1 := by rw [zp_pos (by omega)]; exact zn_c (by omega)
    refine And.intro q ?_
    rw [q2, hrd]
    exact fin
  · have e : zg_ro R ow = 0 := if_pos (by omega)
    rw [e] at fin
    exact fin
theorem zy_make {avo ade : Nat → Int32} (emk : ∀ j, amk j = nI (M j)) (erd : ∀ j, ard j = nI (R j)) (hFF : zz_F c L M P RL Ro kn kf R awi aco avo ade U W) (hbu : ∀ x y, zb_l (bun y) x = true ↔ U x y) (hbw : ∀ x y, zb_l (bwe y) x = true ↔ W x y) (hc : c < 48) (hm : m < 4) (hw : zg_own c M m ow) (hot : ot ≤ c) (how0 : ow = 0 → ot = 0) (hcn : cn = 0 ∨ cn = 1)
    (hp : ∀ (bun' bwe' : Nat → Int64) (r r' : Nat) (b : Int32), r = zg_mx (zg_ro R ow) (zg_ro R ot) → r' = zx_r r (zc_ct (fun w => ¬ awi w = 0 ∧ R w = r ∧ 3 ≤ zc_ct (zg_B (c + 1) (zu_N M c m) (zm_U c ow ot U) w c) 4) c) → b = (if r' ≤ zg_ro R ow then 0 else 1) →
      (∀ x y, zb_l (bun' y) x = true ↔ zm_U c ow ot U x y) → (∀ x y, zb_l (bwe' y) x = true ↔ zm_W c m ow ot M U W x y) →
      post (nI c) ((nI (c + 1)), (nI (zg_mx r' L)), gs, go, gm, (upd amk c (nI m)), (upd atm c tt), (upd aco c cn), (bun'), (bwe'), (upd ard c (nI r')), (upd awi c b), bvo, bfa, bdc, brc, bfi, bor, bso)) :
    wpY_make post ((nI c), (nI L), gs, go, gm, amk, atm, aco, bun, bwe, ard, awi, bvo, bfa, bdc, brc, bfi, bor, bso) (nI m) (zp_I ow) (zp_I ot) tt cn := by
  obtain ⟨hc8, hU, hR, hK, hF, hW, hO, hV, hco, hM4⟩ := hFF
  have how := zg_ownle hw
  have bL := hO.2.1
  have ic := zn_i hc
  have hN : zg_new c U (zm_U c ow ot U) ow ot := zm_new
  have hM4' : ∀ j, zu_N M c m j < 4 := by
    intro j
    by_cases e : j = c
    · subst e; rw [zu_s]; exact hm
    · rw [zu_n e]; exact hM4 j
  have h3 : ∀ r, zc_ct (fun i => ∃ z, z < 48 ∧ (z < c ∧ (¬ awi z = 0 ∧ R z = r ∧ 3 ≤ zc_ct (zg_B (c + 1) (zu_N M c m) (zm_U c ow ot U) z c) 4)) ∧ zu_N M c m z = i) 4 = zc_ct (fun w => ¬ awi w = 0 ∧ R w = r ∧ 3 ≤ zc_ct (zg_B (c + 1) (zu_N M c m) (zm_U c ow ot U) w c) 4) c := by
    intro r
    rw [zc_inj (S := fun w => ¬ awi w = 0 ∧ R w = r ∧ 3 ≤ zc_ct (zg_B (c + 1) (zu_N M c m) (zm_U c ow ot U) w c) 4) (M := M) (k := 4) c hU.1 (zg_O_dif hO (fun x hx => ⟨hx.1, hx.2.1⟩))]
    apply zc_c
    intro i _
    constructor
    · intro ⟨z, _, ⟨hz, hs⟩, e⟩
      rw [zu_n (by omega)] at e
      exact ⟨z, hz, hs, e⟩
    · intro ⟨z, hz, hs, e⟩
      exact ⟨z, by omega, ⟨hz, hs⟩, by rw [zu_n (by omega)]; exact e⟩
  have fin : ∀ bu : Nat → Int64, (∀ y, y ≠ c → bu y = bun y) → (∀ x, zb_l (bu c) x = true ↔ (x = c ∨ (0 < ow ∧ U x (ow - 1)) ∨ (0 < ot ∧ U x (ot - 1)))) → wY_make_93 post (zp_I ow) (zp_I ot) (nI c) (nI c) (nI L) gs go gm (upd amk c (nI m)) (upd atm c tt) (upd aco c cn) bu bwe ard awi bvo bfa bdc brc bfi bor bso := by
    intro bu ho hcb
    have hbu' : ∀ x y, zb_l (bu y) x = true ↔ zm_U c ow ot U x y := by
      intro x y
      by_cases e : y = c
      · subst e; rw [hcb x, hN.2 x]
      · rw [ho y e, hbu x y, hN.1 x y e]
    refine zy_93 (M := zu_N M c m) hc (by omega) how hot how0 erd (fun j hj => by have := hO.1 j hj; omega) (zu_nI emk _ _) (fun z _ => by have := hM4' z; omega) hbu' h3 (fun w r r' hww er er' => hp _ _ r r' _ er er' rfl hbu' (fun x y => ?_))
    by_cases e : y = c
    · subst e; rw [pk_uLs, hww x, zm_Wc]
    · rw [pk_uLn e, hbw x y, zm_Wo e]
  have st68 : ∀ bu : Nat → Int64, (∀ y, y ≠ c → bu y = bun y) → (∀ x, zb_l (bu c) x = true ↔ (x = c ∨ (0 < ow ∧ U x (ow - 1)))) → wY_make_68 post (zp_I ow) (zp_I ot) (nI c) (nI c) (nI L) gs go gm (upd amk c (nI m)) (upd atm c tt) (upd aco c cn) bu bwe ard awi bvo bfa bdc brc bfi bor bso := by
    intro bu ho hcb
    refine zn_if (zp_neg (by omega)) (fun g => fin bu ho (fun x => ?_)) (fun g => ?_)
    · rw [hcb x]
      constructor
      · intro t; exact t.elim Or.inl (fun s => Or.inr (Or.inl s))
      · intro t
        rcases t with t | t | t
        · exact Or.inl t
        · exact Or.inr t
        · exact absurd t.1 (by omega)
    · have q : vp_in (zp_I ot) 48 := by rw [zp_pos (by omega)]; exact zn_i (by omega)
      have q2 : (zp_I ot).toNatClampNeg = ot - 1 := by rw [zp_pos (by omega)]; exact zn_c (by omega)
      refine And.intro ic (And.intro q (And.intro ic ?_))
      rw [zn_c hc, q2]
      refine nm_e (fin _ (fun y hy => ?_) (fun x => ?_))
      · rw [pk_uLn hy]; exact ho y hy
      · rw [pk_uLs, zb_or, Bool.or_eq_true, hcb x, ho (ot - 1) (by omega), hbu]
        constructor
        · intro t
          rcases t with (t | t) | t
          · exact Or.inl t
          · exact Or.inr (Or.inl t)
          · exact Or.inr (Or.inr ⟨by omega, t⟩)
        · intro t
          rcases t with t | t | t
          · exact Or.inl (Or.inl t)
          · exact Or.inl (Or.inr t)
          · exact Or.inr t.2
  refine And.intro ic (nm_r (e' := upd amk c (nI m)) (by rw [zn_c hc]) (And.intro ic (nm_r (e' := upd atm c tt) (by rw [zn_c hc]) (And.intro ic (nm_r (e' := upd aco c cn) (by rw [zn_c hc, zo_n hcn]) (And.intro ic ?_))))))
  rw [zn_c hc]
  refine nm_e (zn_if (zp_neg (by omega)) (fun g => st68 _ (fun y hy => pk_uLn hy) (fun x => ?_)) (fun g => ?_))
  · rw [pk_uLs, zb_one hc, decide_eq_true_eq]
    exact ⟨Or.inl, fun t => t.elim id (fun s => absurd s.1 (by omega))⟩
  · have q : vp_in (zp_I ow) 48 := by rw [zp_pos (by omega)]; exact zn_i (by omega)
    have q2 : (zp_I ow).toNatClampNeg = ow - 1 := by rw [zp_pos (by omega)]; exact zn_c (by omega)
    refine And.intro ic (And.intro q (And.intro ic ?_))
    rw [q2]
    refine nm_e (st68 _ (fun y hy => ?_) (fun x => ?_))
    · rw [pk_uLn hy, pk_uLn hy]
    · rw [pk_uLs, pk_uLs, pk_uLn (show ow - 1 ≠ c by omega), zb_or, zb_one hc, Bool.or_eq_true, decide_eq_true_eq, hbu]
      exact ⟨fun t => t.elim Or.inl (fun s => Or.inr ⟨by omega, s⟩), fun t => t.elim Or.inl (fun s => Or.inr s.2)⟩
end YM
end
section
/-! what follows: deciders, fames, settled rounds, where received, final times, the order: pure -/
section PU
def zd_i (R : Nat → Nat) (wi de : Nat → Int32) (x r d : Nat) : Nat → Nat
  | 0 => d
  | j + 1 => if zd_i R wi de x r d j = 0 ∧ ¬ wi j = 0 ∧ R j = r ∧ ¬ de (48 * x + j) = 0 then j + 1 else zd_i R wi de x r d j
def zd_o (c : Nat) (R : Nat → Nat) (wi de : Nat → Int32) (x : Nat) : Nat → Nat
  | 0 => 0
  | k + 1 => zd_i R wi de x (R x + 1 + k) (zd_o c R wi de x k) c
def zd_d (c L : Nat) (R : Nat → Nat) (wi de : Nat → Int32) (x : Nat) : Nat := zd_o c R wi de x (L - R x)
def zd_m (vo : Nat → Int32) (x d : Nat) : Nat := if d = 0 then 0 else if vo (48 * x + (d - 1)) = 0 then 1 else 2
variable {R : Nat → Nat} {wi de vo : Nat → Int32} {x r d : Nat}
theorem zd_it {j : Nat} (h1 : zd_i R wi de x r d j = 0) (h2 : ¬ wi j = 0) (h3 : R j = r) (h4 : ¬ de (48 * x + j) = 0) : zd_i R wi de x r d (j + 1) = j + 1 := if_pos ⟨h1, h2, h3, h4⟩
theorem zd_if {j : Nat} (h : ¬ (zd_i R wi de x r d j = 0 ∧ ¬ wi j = 0 ∧ R j = r ∧ ¬ de (48 * x + j) = 0)) : zd_i R wi de x r d (j + 1) = zd_i R wi de x r d j := if_neg h
theorem zd_ile {c : Nat} (h : d ≤ c) : ∀ j, j ≤ c → zd_i R wi de x r d j ≤ c := by
  intro j
  induction j with
  | zero => intro _; exact h
  | succ j ih =>
    intro hj
    by_cases g : zd_i R wi de x r d j = 0 ∧ ¬ wi j = 0 ∧ R j = r ∧ ¬ de (48 * x + j) = 0
    · rw [zd_it g.1 g.2.1 g.2.2.1 g.2.2.2]; exact hj
    · rw [zd_if g]; exact ih (by omega)
theorem zd_ole {c : Nat} : ∀ k, zd_o c R wi de x k ≤ c := by
  intro k
  induction k with
  | zero => exact Nat.zero_le _
  | succ k ih => exact zd_ile ih c (Nat.le_refl c)
theorem zd_m2 : zd_m vo x d ≤ 2 := by
  unfold zd_m
  split
  · omega
  · split <;> omega
theorem zd_m1 {y : Nat} (h : vo (48 * x + y) = 0) : zd_m vo x (y + 1) = 1 := by
  unfold zd_m
  rw [if_neg (by omega), Nat.add_sub_cancel, if_pos h]
theorem zd_mm {y : Nat} (h : ¬ vo (48 * x + y) = 0) : zd_m vo x (y + 1) = 2 := by
  unfold zd_m
  rw [if_neg (by omega), Nat.add_sub_cancel, if_neg h]
def zs_S (c L : Nat) (R : Nat → Nat) (wi : Nat → Int32) (f : Nat → Nat) (r : Nat) : Prop :=
  (∀ x, x < c → ¬ wi x = 0 → R x = r → ¬ f x = 0) ∧ (∃ x, x < c ∧ ¬ wi x = 0 ∧ R x = r ∧ f x = 2) ∧ r < L
noncomputable def zs_g (S : Nat → Prop) : Nat → Nat
  | 0 => 0
  | k + 1 => zc_if (zs_g S k = k ∧ S (k + 1)) (k + 1) (zs_g S k)
theorem zs_next {S : Nat → Prop} {k : Nat} (h : zs_g S k = k) (g : S (k + 1)) : zs_g S (k + 1) = k + 1 := zc_t ⟨h, g⟩
theorem zs_stay {S : Nat → Prop} {k : Nat} (h : ¬ (zs_g S k = k ∧ S (k + 1))) : zs_g S (k + 1) = zs_g S k := zc_f h
theorem zs_le {S : Nat → Prop} : ∀ k, zs_g S k ≤ k := by
  intro k
  induction k with
  | zero => exact Nat.le_refl 0
  | succ k ih =>
    by_cases h : zs_g S k = k ∧ S (k + 1)
    · rw [zs_next h.1 h.2]; exact Nat.le_refl _
    · rw [zs_stay h]; omega
theorem zs_up {S : Nat → Prop} {s : Nat} (h : zs_g S s = s) (g : ¬ S (s + 1)) : ∀ d, zs_g S (s + d) = s := by
  intro d
  induction d with
  | zero => exact h
  | succ d ih =>
    rw [← Nat.add_assoc, zs_stay, ih]
    intro ⟨a, b⟩
    rw [ih] at a
    have e : d = 0 := by omega
    subst e
    exact g b
theorem zs_all {S : Nat → Prop} : ∀ k r, 1 ≤ r → r ≤ zs_g S k → S r := by
  intro k
  induction k with
  | zero => intro r h1 h2; exact absurd (show 1 ≤ 0 from Nat.le_trans h1 h2) (by decide)
  | succ k ih =>
    intro r h1 h2
    by_cases h : zs_g S k = k ∧ S (k + 1)
    · rw [zs_next h.1 h.2] at h2
      by_cases e : r = k + 1
      · rw [e]; exact h.2
      · exact ih r h1 (by rw [h.1]; omega)
    · rw [zs_stay h] at h2
      exact ih r h1 h2
def zr_U (c : Nat) (R : Nat → Nat) (wi : Nat → Int32) (f : Nat → Nat) (U : Nat → Nat → Prop) (x r : Nat) : Prop := ∀ w, w < c → ¬ wi w = 0 → R w = r → f w = 2 → U x w
noncomputable def zr_l (T : Nat → Prop) : Nat → Nat
  | 0 => 0
  | k + 1 => zc_if (zr_l T k = 0) (zc_if (T (k + 1)) (k + 1) 0) (zr_l T k)
theorem zr_1 {T : Nat → Prop} {k : Nat} (h : zr_l T k = 0) (g : T (k + 1)) : zr_l T (k + 1) = k + 1 := (zc_t h).trans (zc_t g)
theorem zr_2 {T : Nat → Prop} {k : Nat} (h : zr_l T k = 0) (g : ¬ T (k + 1)) : zr_l T (k + 1) = 0 := (zc_t h).trans (zc_f g)
theorem zr_3 {T : Nat → Prop} {k : Nat} (h : ¬ zr_l T k = 0) : zr_l T (k + 1) = zr_l T k := zc_f h
theorem zr_le {T : Nat → Prop} : ∀ k, zr_l T k ≤ k := by
  intro k
  induction k with
  | zero => exact Nat.le_refl 0
  | succ k ih =>
    by_cases h : zr_l T k = 0
    · by_cases g : T (k + 1)
      · rw [zr_1 h g]; exact Nat.le_refl _
      · rw [zr_2 h g]; omega
    · rw [zr_3 h]; omega
theorem zr_T {T : Nat → Prop} : ∀ k, ¬ zr_l T k = 0 → T (zr_l T k) := by
  intro k
  induction k with
  | zero => intro h; exact absurd rfl h
  | succ k ih =>
    intro h0
    by_cases h : zr_l T k = 0
    · by_cases g : T (k + 1)
      · rw [zr_1 h g]; exact g
      · exact absurd (zr_2 h g) h0
    · rw [zr_3 h]; exact ih h
theorem zr_up {T : Nat → Prop} {r : Nat} (h : ¬ zr_l T r = 0) : ∀ d, zr_l T (r + d) = zr_l T r := by
  intro d
  induction d with
  | zero => rfl
  | succ d ih => rw [← Nat.add_assoc, zr_3 (by rw [ih]; exact h), ih]
def zt_p (R : Nat → Nat) (wi : Nat → Int32) (f : Nat → Nat) (r : Nat) (w : Nat) : Prop := ¬ wi w = 0 ∧ R w = r ∧ f w = 2
noncomputable def zt_a (p : Nat → Prop) (g : Nat → Int32) : Nat → (Nat → Int32)
  | 0 => fun _ => 0
  | w + 1 => zc_if (p w) (zi_a (zt_a p g w) (zi_k (fun v => v ≤ g w) (zt_a p g w) (zc_ct p w)) (g w)) (zt_a p g w)
theorem zt_1 {p : Nat → Prop} {g : Nat → Int32} {w : Nat} (h : p w) : zt_a p g (w + 1) = zi_a (zt_a p g w) (zi_k (fun v => v ≤ g w) (zt_a p g w) (zc_ct p w)) (g w) := zc_t h
theorem zt_2 {p : Nat → Prop} {g : Nat → Int32} {w : Nat} (h : ¬ p w) : zt_a p g (w + 1) = zt_a p g w := zc_f h
def zo_B (rc : Nat → Nat) (ft : Nat → Int32) (x y : Nat) : Prop := (¬ rc x = rc y ∧ rc x < rc y) ∨ (rc x = rc y ∧ ft x < ft y)
noncomputable def zo_a (rc : Nat → Nat) (ft : Nat → Int32) : Nat → (Nat → Nat)
  | 0 => fun _ => 0
  | x + 1 => zc_if (¬ rc x = 0) (zi_a (zo_a rc ft x) (zi_k (fun y => ¬ zo_B rc ft x y) (zo_a rc ft x) (zc_ct (fun j => ¬ rc j = 0) x)) x) (zo_a rc ft x)
theorem zo_1 {rc : Nat → Nat} {ft : Nat → Int32} {x : Nat} (h : ¬ rc x = 0) : zo_a rc ft (x + 1) = zi_a (zo_a rc ft x) (zi_k (fun y => ¬ zo_B rc ft x y) (zo_a rc ft x) (zc_ct (fun j => ¬ rc j = 0) x)) x := zc_t h
theorem zo_2 {rc : Nat → Nat} {ft : Nat → Int32} {x : Nat} (h : rc x = 0) : zo_a rc ft (x + 1) = zo_a rc ft x := zc_f (fun z => z h)
theorem zo_lt {rc : Nat → Nat} {ft : Nat → Int32} : ∀ x i, i < zc_ct (fun j => ¬ rc j = 0) x → zo_a rc ft x i < x ∧ ¬ rc (zo_a rc ft x i) = 0 := by
  intro x
  induction x with
  | zero => intro i hi; exact absurd hi (Nat.not_lt_zero i)
  | succ x ih =>
    intro i hi
    by_cases h : rc x = 0
    · rw [zc_sf (fun z => z h)] at hi
      rw [zo_2 h]
      have := ih i hi
      exact ⟨by omega, this.2⟩
    · rw [zc_st h] at hi
      rw [zo_1 h]
      have kl := zi_le (s := fun y => ¬ zo_B rc ft x y) (a := zo_a rc ft x) (zc_ct (fun j => ¬ rc j = 0) x)
      generalize zi_k (fun y => ¬ zo_B rc ft x y) (zo_a rc ft x) (zc_ct (fun j => ¬ rc j = 0) x) = k at kl ⊢
      by_cases h1 : i < k
      · rw [zi_1 h1]
        have := ih i (by omega)
        exact ⟨by omega, this.2⟩
      · by_cases h2 : i = k
        · subst h2
          rw [zi_2]
          exact ⟨by omega, h⟩
        · rw [zi_3 (by omega)]
          have := ih (i - 1) (by omega)
          exact ⟨by omega, this.2⟩
theorem zo_in {rc : Nat → Nat} {ft : Nat → Int32} : ∀ x y, y < x → ¬ rc y = 0 → ∃ i, i < zc_ct (fun j => ¬ rc j = 0) x ∧ zo_a rc ft x i = y := by
  intro x
  induction x with
  | zero => intro y hy; exact absurd hy (Nat.not_lt_zero y)
  | succ x ih =>
    intro y hy hr
    by_cases h : rc x = 0
    · rw [zc_sf (fun z => z h), zo_2 h]
      exact ih y (by by_cases e : y = x; subst e; exact absurd h hr; omega) hr
    · rw [zc_st h, zo_1 h]
      have kl := zi_le (s := fun y => ¬ zo_B rc ft x y) (a := zo_a rc ft x) (zc_ct (fun j => ¬ rc j = 0) x)
      generalize zi_k (fun y => ¬ zo_B rc ft x y) (zo_a rc ft x) (zc_ct (fun j => ¬ rc j = 0) x) = k at kl ⊢
      by_cases e : y = x
      · subst e
        exact ⟨k, by omega, zi_2⟩
      · obtain ⟨i, hi, hv⟩ := ih y (by omega) hr
        by_cases h1 : i < k
        · exact ⟨i, by omega, by rw [zi_1 h1]; exact hv⟩
        · exact ⟨i + 1, by omega, by rw [zi_3 (by omega), Nat.add_sub_cancel]; exact hv⟩
/-! the insertion loop -/
def zi_I {α : Type} (en : α → Int32) (s : α → Prop) (a : Nat → α) (N k : Nat) (b : Nat → Int32) : Prop :=
  k ≤ N ∧ (∀ i, i < k → b i = en (a i)) ∧ (∀ i, k < i → i ≤ N → b i = en (a (i - 1))) ∧ zi_k s a N = zi_k s a k
theorem zi_go {α : Type} {en : α → Int32} {s : α → Prop} {a : Nat → α} {N : Nat} {b : Nat → Int32} (h : ∀ i, i < N → b i = en (a i)) : zi_I en s a N N b :=
  ⟨Nat.le_refl _, h, fun i h1 h2 => absurd h1 (by omega), rfl⟩
theorem zi_step {α : Type} {en : α → Int32} {s : α → Prop} {a : Nat → α} {N q : Nat} {b : Nat → Int32} (h : zi_I en s a N (q + 1) b) (hs : ¬ s (a q)) : zi_I en s a N q (upd b (q + 1) (b q)) := by
  obtain ⟨h1, h2, h3, h4⟩ := h
  refine ⟨by omega, fun i hi => ?_, fun i hi hN => ?_, ?_⟩
  · rw [pk_un (by omega)]; exact h2 i (by omega)
  · by_cases e : i = q + 1
    · subst e
      rw [pk_us, Nat.add_sub_cancel]
      exact h2 q (by omega)
    · rw [pk_un e]
      exact h3 i (by omega) hN
  · rw [h4, zi_sf hs]
theorem zi_end {α : Type} {en : α → Int32} {s : α → Prop} {a : Nat → α} {N k : Nat} {b : Nat → Int32} {v : α} (h : zi_I en s a N k b) (hs : k = 0 ∨ s (a (k - 1))) : zi_k s a N = k ∧ ∀ i, i < N + 1 → upd b k (en v) i = en (zi_a a (zi_k s a N) v i) := by
  obtain ⟨h1, h2, h3, h4⟩ := h
  have e : zi_k s a N = k := by
    rw [h4]
    cases k with
    | zero => rfl
    | succ k =>
      have q : s (a k) := by
        rcases hs with hs | hs
        · exact absurd hs (by omega)
        · exact hs
      exact zi_st q
  refine ⟨e, fun i hi => ?_⟩
  rw [e]
  by_cases g1 : i < k
  · rw [pk_un (by omega), zi_1 g1]; exact h2 i g1
  · by_cases g2 : i = k
    · subst g2
      rw [pk_us, zi_2]
    · rw [pk_un g2, zi_3 (by omega)]
      exact h3 i (by omega) (by omega)
end PU
end
section
section XD
variable {c L : Nat} {ff fs fo ft : Int32} {amk atm aco apl arl aro akn akf ard awi avo ade afa adc arc aft aor apo ast : Nat → Int32} {M P RL Ro kn kf R : Nat → Nat} {U W : Nat → Nat → Prop} {post : SX → Prop}
def zd_S (avo : Nat → Int32) (x d : Nat) (afa0 adc0 afa adc : Nat → Int32) : Prop :=
  adc x = zp_I d ∧ afa x = nI (zd_m avo x d) ∧ ∀ j, j ≠ x → adc j = adc0 j ∧ afa j = afa0 j
theorem zd_Sp {x d : Nat} {afa0 adc0 : Nat → Int32} (h : zd_S avo x d afa0 adc0 afa adc) {y k : Nat} (hk : k = zd_m avo x (y + 1)) : zd_S avo x (y + 1) afa0 adc0 (upd afa x (nI k)) (upd adc x (nI y)) := by
  refine ⟨by rw [pk_us, zp_s], by rw [pk_us, hk], fun j hj => ?_⟩
  rw [pk_un hj, pk_un hj]
  exact h.2.2 j hj
theorem zx_dec_19 {J : Int32 → (Nat → Int32) → (Nat → Int32) → (Nat → Int32) → (Nat → Int32) → (Nat → Int32) → (Nat → Int32) → (Nat → Int32) → (Nat → Int32) → (Nat → Int32) → (Nat → Int32) → (Nat → Int32) → (Nat → Int32) → (Nat → Int32) → (Nat → Int32) → (Nat → Int32) → (Nat → Int32) → (Nat → Int32) → (Nat → Int32) → (Nat → Int32) → Prop} {x r d0 : Nat} {afa0 adc0 : Nat → Int32} (hc : c ≤ 48) (hx : x < c) (hr : r ≤ 48) (hd0 : d0 ≤ c) (hrd : ∀ j, ard j = nI (R j)) (hRb : ∀ j, j < c → R j ≤ 48)
    (hJ : ∀ afa adc : Nat → Int32, zd_S avo x (zd_i R awi ade x r d0 c) afa0 adc0 afa adc → J (nI (r + 1)) amk atm aco apl arl aro akn akf ard awi avo ade afa adc arc aft aor apo ast) :
    ∀ (d j : Nat) (afa adc : Nat → Int32), j + d = c → zd_S avo x (zd_i R awi ade x r d0 j) afa0 adc0 afa adc → wX_decide_19 post J (nI x) (nI r) (nI c) (nI L) ff fs fo ft (d + 1) (nI j) amk atm aco apl arl aro akn akf ard awi avo ade afa adc arc aft aor apo ast := by
  intro d
  induction d with
  | zero =>
    intro j afa adc hj hS
    have e : j = c := by omega
    subst e
    exact br_t (nI_le (Nat.le_refl _) (by omega)) (nm_r (nI_1 r) (hJ afa adc hS))
  | succ d ih =>
    intro j afa adc hj hS
    have j48 : j < 48 := by omega
    have x48 : x < 48 := by omega
    have bj := hRb j (by omega)
    have bd := zd_ile (R := R) (wi := awi) (de := ade) (x := x) (r := r) hd0 j (by omega)
    have i48 : vp_in (48 * nI x + nI j) 2304 := by
      rw [zn_48]; exact vp_in_nI (by omega) (by decide)
    have c48 : (48 * nI x + nI j).toNatClampNeg = 48 * x + j := by
      rw [zn_48]; exact nI_clamp (by omega)
    have skip : ¬ (zd_i R awi ade x r d0 j = 0 ∧ ¬ awi j = 0 ∧ R j = r ∧ ¬ ade (48 * x + j) = 0) → wX_decide_19 post J (nI x) (nI r) (nI c) (nI L) ff fs fo ft (d + 1) (nI (j + 1)) amk atm aco apl arl aro akn akf ard awi avo ade afa adc arc aft aor apo ast := by
      intro hn
      refine ih (j + 1) afa adc (by omega) ?_
      rw [zd_if hn]
      exact hS
    refine br_f (nI_ge (by omega) (by omega)) (And.intro (zn_i x48) ?_)
    rw [zn_c x48, zn_c j48, hS.1]
    refine zn_if (zp_0le (by omega)) (fun g => nm_r (nI_1 j) (skip (fun z => by omega))) (fun g => And.intro (zn_i j48) (br_c (fun w0 => nm_r (nI_1 j) (skip (fun z => z.2.1 w0))) (fun w1 => And.intro (zn_i j48) ?_)))
    rw [hrd]
    refine zn_if (nI_eq (by omega) (by omega)) (fun er => And.intro i48 ?_) (fun er => nm_r (nI_1 j) (skip (fun z => er z.2.2.1)))
    rw [c48]
    refine br_c (fun e0 => nm_r (nI_1 j) (skip (fun z => z.2.2.2 e0))) (fun e1 => And.intro (zn_i x48) (nm_e (And.intro i48 ?_)))
    have et := zd_it (R := R) (wi := awi) (de := ade) (x := x) (r := r) (d := d0) (j := j) (by omega) w1 er e1
    refine br_c (fun v0 => And.intro (zn_i x48) (nm_e (nm_r (nI_1 j) (ih (j + 1) _ _ (by omega) ?_)))) (fun v1 => And.intro (zn_i x48) (nm_e (nm_r (nI_1 j) (ih (j + 1) _ _ (by omega) ?_))))
    · rw [et]
      exact zd_Sp (k := 1) hS (zd_m1 v0).symm
    · rw [et]
      exact zd_Sp (k := 2) hS (zd_mm v1).symm
theorem zx_dec_9 {x : Nat} {afa0 adc0 : Nat → Int32} (hc : c ≤ 48) (hx : x < c) (hL : L ≤ 48) (hrd : ∀ j, ard j = nI (R j)) (hRb : ∀ j, j < c → R j ≤ 48) (hRL : R x ≤ L)
    (hp : ∀ afa adc : Nat → Int32, zd_S avo x (zd_d c L R awi ade x) afa0 adc0 afa adc → post ((nI c), (nI L), ff, fs, fo, ft, amk, atm, aco, apl, arl, aro, akn, akf, ard, awi, avo, ade, afa, adc, arc, aft, aor, apo, ast)) :
    ∀ (d k : Nat) (afa adc : Nat → Int32), R x + k + d = L → zd_S avo x (zd_o c R awi ade x k) afa0 adc0 afa adc → wX_decide_9 post (nI x) (nI c) (nI L) ff fs fo ft (d + 1) (nI (R x + 1 + k)) amk atm aco apl arl aro akn akf ard awi avo ade afa adc arc aft aor apo ast := by
  intro d
  induction d with
  | zero =>
    intro k afa adc hk hS
    have e : zd_d c L R awi ade x = zd_o c R awi ade x k := by
      unfold zd_d
      rw [show L - R x = k by omega]
    rw [← e] at hS
    exact br_t (nI_lt (by omega) (by omega)) (hp afa adc hS)
  | succ d ih =>
    intro k afa adc hk hS
    refine br_f (nI_nlt (by omega) (by omega)) (Exists.intro (c + 1) ?_)
    refine zx_dec_19 hc hx (by omega) (zd_ole k) hrd hRb (fun afa adc h => ?_) c 0 afa adc (by omega) hS
    exact ih (k + 1) afa adc (by omega) h
theorem zx_decide {x : Nat} (hc : c ≤ 48) (hx : x < c) (hL : L ≤ 48) (hrd : ∀ j, ard j = nI (R j)) (hRb : ∀ j, j < c → R j ≤ 48) (hRL : R x ≤ L) (ha : adc x = zp_I 0) (hf : afa x = nI 0)
    (hp : ∀ afa' adc' : Nat → Int32, zd_S avo x (zd_d c L R awi ade x) afa adc afa' adc' → post ((nI c), (nI L), ff, fs, fo, ft, amk, atm, aco, apl, arl, aro, akn, akf, ard, awi, avo, ade, (afa'), (adc'), arc, aft, aor, apo, ast)) : wpX_decide post ((nI c), (nI L), ff, fs, fo, ft, amk, atm, aco, apl, arl, aro, akn, akf, ard, awi, avo, ade, afa, adc, arc, aft, aor, apo, ast) (nI x) := by
  refine And.intro (zn_i (by omega)) ?_
  rw [zn_c (show x < 48 by omega), hrd, nI_1]
  exact nm_e (Exists.intro (L - R x + 1) (zx_dec_9 (afa0 := afa) (adc0 := adc) hc hx hL hrd hRb hRL hp (L - R x) 0 afa adc (by omega) ⟨ha, hf, fun j _ => ⟨rfl, rfl⟩⟩))
end XD
section XS
variable {c L : Nat} {ff fs fo ft : Int32} {amk atm aco apl arl aro akn akf ard awi avo ade afa adc arc aft aor apo ast : Nat → Int32} {M P RL Ro kn kf R : Nat → Nat} {U W : Nat → Nat → Prop} {post : Int32 → Prop} {f : Nat → Nat}
theorem zx_set_l {r : Nat} (hc : c ≤ 48) (hL : L ≤ 48) (hr : r ≤ 49) (hrd : ∀ j, ard j = nI (R j)) (hRb : ∀ j, j < c → R j ≤ 48) (hf : ∀ j, j < c → afa j = nI (f j) ∧ f j ≤ 2) (h1 : zs_S c L R awi f r → post 1) (h0 : ¬ zs_S c L R awi f r → post 0) :
    ∀ (d j : Nat), j + d = c → (∀ x, x < j → ¬ awi x = 0 → R x = r → ¬ f x = 0) → wX_isSettled_4 post (nI r) (nI c) (nI L) ff fs fo ft amk atm aco apl arl aro akn akf ard awi avo ade afa adc arc aft aor apo ast (d + 1) (nI (zc_ct (zt_p R awi f r) j)) (nI j) := by
  intro d
  induction d with
  | zero =>
    intro j hj ha
    have e : j = c := by omega
    subst e
    have b := zc_le (p := zt_p R awi f r) j
    refine br_t (nI_le (Nat.le_refl _) (by omega)) (zn_if (nI_leI (by omega) (by omega)) (fun g => h0 (fun z => ?_)) (fun g => zn_if (zn_le0 (by omega)) (fun g2 => h0 (fun z => ?_)) (fun g2 => h1 ⟨ha, ?_, by omega⟩)))
    · have := z.2.2; omega
    · have := (zc_pos (p := zt_p R awi f r) j).mpr z.2.1
      omega
    · exact (zc_pos (p := zt_p R awi f r) j).mp (by omega)
  | succ d ih =>
    intro j hj ha
    have j48 : j < 48 := by omega
    have bj := hRb j (by omega)
    obtain ⟨fj, f2⟩ := hf j (by omega)
    have g := ih (j + 1) (by omega)
    have ext : (¬ awi j = 0 → R j = r → ¬ f j = 0) → ∀ x, x < j + 1 → ¬ awi x = 0 → R x = r → ¬ f x = 0 := by
      intro hh x hx
      by_cases e : x = j
      · subst e; exact hh
      · exact ha x (by omega)
    refine br_f (nI_ge (by omega) (by omega)) (And.intro (zn_i j48) ?_)
    rw [zn_c j48, hrd, fj]
    refine br_c (fun w0 => ?_) (fun w1 => And.intro (zn_i j48) (zn_if (nI_eq (by omega) (by omega)) (fun er => And.intro (zn_i j48) (zn_if (zn_eq0 (by omega)) (fun g0 => h0 (fun z => z.1 j (by omega) w1 er g0)) (fun g0 => And.intro (zn_i j48) (zn_if (zn_eq2 (by omega)) (fun e2 => ?_) (fun e2 => ?_))))) (fun er => ?_)))
    · rw [zc_sf (fun z => z.1 w0)] at g
      exact nm_r (nI_1 j) (g (ext (fun z => absurd w0 z)))
    · rw [zc_st ⟨w1, er, e2⟩] at g
      exact nm_r (nI_1 _) (nm_r (nI_1 j) (g (ext (fun _ _ => g0))))
    · rw [zc_sf (fun z => e2 z.2.2)] at g
      exact nm_r (zn_add0 _) (nm_r (nI_1 j) (g (ext (fun _ _ => g0))))
    · rw [zc_sf (fun z => er z.2.1)] at g
      exact nm_r (nI_1 j) (g (ext (fun _ z => absurd z er)))
theorem zx_isSettled {r : Nat} (hc : c ≤ 48) (hL : L ≤ 48) (hr : r ≤ 49) (hrd : ∀ j, ard j = nI (R j)) (hRb : ∀ j, j < c → R j ≤ 48) (hf : ∀ j, j < c → afa j = nI (f j) ∧ f j ≤ 2) (h1 : zs_S c L R awi f r → post 1) (h0 : ¬ zs_S c L R awi f r → post 0) : wpX_isSettled post ((nI c), (nI L), ff, fs, fo, ft, amk, atm, aco, apl, arl, aro, akn, akf, ard, awi, avo, ade, afa, adc, arc, aft, aor, apo, ast) (nI r) :=
  Exists.intro (c + 1) (zx_set_l hc hL hr hrd hRb hf h1 h0 c 0 (by omega) (fun x hx => absurd hx (Nat.not_lt_zero x)))
theorem zx_uf_l {x r : Nat} (hc : c ≤ 48) (hr : r ≤ 48) (hrd : ∀ j, ard j = nI (R j)) (hRb : ∀ j, j < c → R j ≤ 48) (hf : ∀ j, j < c → afa j = nI (f j) ∧ f j ≤ 2) (hu : ∀ (q : Int32 → Prop) (b : Nat), b < c → (U x b → q 1) → (¬ U x b → q 0) → wpX_isUnder q ((nI c), (nI L), ff, fs, fo, ft, amk, atm, aco, apl, arl, aro, akn, akf, ard, awi, avo, ade, afa, adc, arc, aft, aor, apo, ast) (nI x) (nI b)) (h1 : zr_U c R awi f U x r → post 1) (h0 : ¬ zr_U c R awi f U x r → post 0) :
    ∀ (d j : Nat), j + d = c → (∀ w, w < j → ¬ awi w = 0 → R w = r → f w = 2 → U x w) → wX_isUnderFamous_2 post (nI x) (nI r) (nI c) (nI L) ff fs fo ft amk atm aco apl arl aro akn akf ard awi avo ade afa adc arc aft aor apo ast (d + 1) (nI j) := by
  intro d
  induction d with
  | zero =>
    intro j hj ha
    have e : j = c := by omega
    subst e
    exact br_t (nI_le (Nat.le_refl _) (by omega)) (h1 ha)
  | succ d ih =>
    intro j hj ha
    have j48 : j < 48 := by omega
    have bj := hRb j (by omega)
    obtain ⟨fj, f2⟩ := hf j (by omega)
    have g := ih (j + 1) (by omega)
    have ext : (¬ awi j = 0 → R j = r → f j = 2 → U x j) → ∀ w, w < j + 1 → ¬ awi w = 0 → R w = r → f w = 2 → U x w := by
      intro hh w hw
      by_cases e : w = j
      · subst e; exact hh
      · exact ha w (by omega)
    refine br_f (nI_ge (by omega) (by omega)) (And.intro (zn_i j48) ?_)
    rw [zn_c j48, hrd, fj]
    refine br_c (fun w0 => nm_r (nI_1 j) (g (ext (fun z => absurd w0 z)))) (fun w1 => And.intro (zn_i j48) (zn_if (nI_eq (by omega) (by omega)) (fun er => And.intro (zn_i j48) (zn_if (zn_eq2 (by omega)) (fun e2 => ?_) (fun e2 => nm_r (nI_1 j) (g (ext (fun _ _ z => absurd z e2)))))) (fun er => nm_r (nI_1 j) (g (ext (fun _ z => absurd z er))))))
    exact hu _ j (by omega) (fun u1 => br_f zo_10 (nm_r (nI_1 j) (g (ext (fun _ _ _ => u1))))) (fun u0 => br_t rfl (h0 (fun z => u0 (z j (by omega) w1 er e2))))
theorem zx_isUF {x r : Nat} (hc : c ≤ 48) (hr : r ≤ 48) (hrd : ∀ j, ard j = nI (R j)) (hRb : ∀ j, j < c → R j ≤ 48) (hf : ∀ j, j < c → afa j = nI (f j) ∧ f j ≤ 2) (hu : ∀ (q : Int32 → Prop) (b : Nat), b < c → (U x b → q 1) → (¬ U x b → q 0) → wpX_isUnder q ((nI c), (nI L), ff, fs, fo, ft, amk, atm, aco, apl, arl, aro, akn, akf, ard, awi, avo, ade, afa, adc, arc, aft, aor, apo, ast) (nI x) (nI b)) (h1 : zr_U c R awi f U x r → post 1) (h0 : ¬ zr_U c R awi f U x r → post 0) : wpX_isUnderFamous post ((nI c), (nI L), ff, fs, fo, ft, amk, atm, aco, apl, arl, aro, akn, akf, ard, awi, avo, ade, afa, adc, arc, aft, aor, apo, ast) (nI x) (nI r) :=
  Exists.intro (c + 1) (zx_uf_l hc hr hrd hRb hf hu h1 h0 c 0 (by omega) (fun w hw => absurd hw (Nat.not_lt_zero w)))
end XS
end
section
section XA
variable {c L : Nat} {ff fs fo ft : Int32} {amk atm aco apl arl aro akn akf ard awi avo ade afa adc arc aft aor apo ast : Nat → Int32} {M P RL Ro kn kf R : Nat → Nat} {U W : Nat → Nat → Prop} {post : SX → Prop} {f : Nat → Nat}
theorem zc_mono {p : Nat → Prop} {a : Nat} : ∀ d, zc_ct p a ≤ zc_ct p (a + d) := by
  intro d
  induction d with
  | zero => exact Nat.le_refl _
  | succ d ih =>
    rw [← Nat.add_assoc]
    by_cases h : p (a + d)
    · rw [zc_st h]; omega
    · rw [zc_sf h]; exact ih
theorem zx_add_41 {t : Int32} {k N : Nat} (hk : k < 4) (h : post ((nI c), (nI L), ff, fs, fo, (nI (N + 1)), amk, atm, aco, apl, arl, aro, akn, akf, ard, awi, avo, ade, afa, adc, arc, aft, aor, apo, (upd ast k t))) : wX_addTime_41 post t (nI k) (nI c) (nI L) ff fs fo (nI N) amk atm aco apl arl aro akn akf ard awi avo ade afa adc arc aft aor apo ast :=
  And.intro (vp_in_nI hk (by decide)) (nm_r (e' := upd ast k t) (by rw [nI_clamp (by omega)]) (nm_r (nI_1 N) h))
theorem zx_add_l {t : Int32} {N : Nat} {a : Nat → Int32} (hN : N < 4) (hp : ∀ ast : Nat → Int32, (∀ i, i < N + 1 → ast i = zi_a a (zi_k (fun v => v ≤ t) a N) t i) → post ((nI c), (nI L), ff, fs, fo, (nI (N + 1)), amk, atm, aco, apl, arl, aro, akn, akf, ard, awi, avo, ade, afa, adc, arc, aft, aor, apo, ast)) :
    ∀ (k : Nat) (ast : Nat → Int32), zi_I (fun v => v) (fun v => v ≤ t) a N k ast → wX_addTime_5 post t (nI c) (nI L) ff fs fo (nI N) (k + 1) (nI k) amk atm aco apl arl aro akn akf ard awi avo ade afa adc arc aft aor apo ast := by
  intro k
  induction k with
  | zero =>
    intro ast hI
    exact br_t ((zn_le0 (by omega)).mpr rfl) (zx_add_41 (by omega) (hp _ (zi_end (v := t) hI (Or.inl rfl)).2))
  | succ q ih =>
    intro ast hI
    have hq := hI.1
    have eq : ast q = a q := hI.2.1 q (by omega)
    have iq : vp_in (nI q) 4 := vp_in_nI (by omega) (by decide)
    have cq : (nI q).toNatClampNeg = q := nI_clamp (by omega)
    refine br_f (fun z => absurd ((zn_le0 (by omega)).mp z) (by omega)) ?_
    rw [nI_pred, cq]
    refine And.intro iq (br_c (fun g => ?_) (fun g => ?_))
    · exact zx_add_41 (by omega) (hp _ (zi_end (v := t) hI (Or.inr (by rw [Nat.add_sub_cancel, ← eq]; exact g))).2)
    · refine And.intro iq (And.intro (vp_in_nI (by omega) (by decide)) (nm_r (e' := upd ast (q + 1) (ast q)) (by rw [nI_clamp (by omega)]) (nm_r (pk_m1 q) (ih _ (zi_step hI (by rw [← eq]; exact g))))))
theorem zx_add {t : Int32} {N : Nat} {a : Nat → Int32} (hN : N < 4) (ha : ∀ i, i < N → ast i = a i) (hp : ∀ ast : Nat → Int32, (∀ i, i < N + 1 → ast i = zi_a a (zi_k (fun v => v ≤ t) a N) t i) → post ((nI c), (nI L), ff, fs, fo, (nI (N + 1)), amk, atm, aco, apl, arl, aro, akn, akf, ard, awi, avo, ade, afa, adc, arc, aft, aor, apo, ast)) : wpX_addTime post ((nI c), (nI L), ff, fs, fo, (nI N), amk, atm, aco, apl, arl, aro, akn, akf, ard, awi, avo, ade, afa, adc, arc, aft, aor, apo, ast) t :=
  Exists.intro (N + 1) (zx_add_l hN hp N ast (zi_go ha))
end XA
section XB
variable {c L : Nat} {ff fs fo ft : Int32} {amk atm aco apl arl aro akn akf ard awi avo ade afa adc arc aft aor apo ast : Nat → Int32} {M P RL Ro kn kf R : Nat → Nat} {U W : Nat → Nat → Prop} {post : Int32 → Prop} {rc : Nat → Nat} {tf : Nat → Int32}
theorem zx_before {x y : Nat} (hx : x < 48) (hy : y < 48) (bx : rc x ≤ 48) (bY : rc y ≤ 48) (h1 : arc x = nI (rc x)) (h2 : arc y = nI (rc y)) (h3 : aft x = tf x) (h4 : aft y = tf y) (p1 : zo_B rc tf x y → post 1) (p0 : ¬ zo_B rc tf x y → post 0) : wpX_comesBefore post ((nI c), (nI L), ff, fs, fo, ft, amk, atm, aco, apl, arl, aro, akn, akf, ard, awi, avo, ade, afa, adc, arc, aft, aor, apo, ast) (nI x) (nI y) := by
  refine And.intro (zn_i hx) (And.intro (zn_i hy) ?_)
  rw [zn_c hx, zn_c hy, h1, h2, h3, h4]
  refine zn_if (nI_eq (by omega) (by omega)) (fun e => And.intro (zn_i hx) (And.intro (zn_i hy) (br_c (fun g => p0 (fun z => ?_)) (fun g => p1 (Or.inr ⟨e, Int32.not_le.mp g⟩))))) (fun e => And.intro (zn_i hx) (And.intro (zn_i hy) (zn_if (nI_leI (by omega) (by omega)) (fun g => p0 (fun z => ?_)) (fun g => p1 (Or.inl ⟨e, by omega⟩)))))
  · rcases z with z | z
    · exact z.1 e
    · exact Int32.not_le.mpr z.2 g
  · rcases z with z | z
    · omega
    · exact e z.1
end XB
section XC
variable {c L : Nat} {ff fs fo ft : Int32} {amk atm aco apl arl aro akn akf ard awi avo ade afa adc arc aft aor apo ast : Nat → Int32} {M P RL Ro kn kf R : Nat → Nat} {U W : Nat → Nat → Prop} {post : SX → Prop} {rc : Nat → Nat} {tf : Nat → Int32}
def zi_P (a : Nat → Nat) (N k : Nat) (b : Nat → Int32) : Prop := (∀ i, i < k → b (a i) = nI i) ∧ (∀ i, k ≤ i → i < N → b (a i) = nI (i + 1))
theorem zi_Ps {a : Nat → Nat} {N q : Nat} {b : Nat → Int32} (h : zi_P a N (q + 1) b) (hq : q < N) (hi : ∀ i j, i < N → j < N → a i = a j → i = j) : zi_P a N q (upd b (a q) (nI (q + 1))) := by
  refine ⟨fun i hl => ?_, fun i hl hN => ?_⟩
  · rw [pk_un (fun z => by have := hi i q (by omega) hq z; omega)]
    exact h.1 i (by omega)
  · by_cases e : i = q
    · subst e; rw [pk_us]
    · rw [pk_un (fun z => e (hi i q hN hq z))]
      exact h.2 i (by omega) hN
theorem zi_Pe {a : Nat → Nat} {N k x : Nat} {b : Nat → Int32} (h : zi_P a N k b) (hk : k ≤ N) (hx : ∀ i, i < N → a i ≠ x) : ∀ i, i < N + 1 → upd b x (nI k) (zi_a a k x i) = nI i := by
  intro i hi
  by_cases g1 : i < k
  · rw [zi_1 g1, pk_un (hx i (by omega))]
    exact h.1 i g1
  · by_cases g2 : i = k
    · subst g2
      rw [zi_2, pk_us]
    · rw [zi_3 (by omega), pk_un (hx (i - 1) (by omega)), h.2 (i - 1) (by omega) (by omega)]
      exact congrArg nI (by omega)
theorem zx_ins_57 {x k N : Nat} (hx : x < 48) (hk : k < 48) (h : post ((nI c), (nI L), ff, fs, (nI (N + 1)), ft, amk, atm, aco, apl, arl, aro, akn, akf, ard, awi, avo, ade, afa, adc, arc, aft, (upd aor k (nI x)), (upd apo x (nI k)), ast)) : wX_insert_57 post (nI x) (nI k) (nI c) (nI L) ff fs (nI N) ft amk atm aco apl arl aro akn akf ard awi avo ade afa adc arc aft aor apo ast :=
  And.intro (zn_i hk) (nm_r (e' := upd aor k (nI x)) (by rw [zn_c hk]) (And.intro (zn_i hx) (nm_r (e' := upd apo x (nI k)) (by rw [zn_c hx]) (nm_r (nI_1 N) h))))
theorem zx_ins_l {x N : Nat} {a : Nat → Nat} (hx : x < 48) (hN : N ≤ x) (hl : ∀ i, i < N → a i < x) (hi : ∀ i j, i < N → j < N → a i = a j → i = j) (hb : ∀ y, y ≤ x → rc y ≤ 48) (hr : arc x = nI (rc x)) (hra : ∀ i, i < N → arc (a i) = nI (rc (a i))) (ht : aft x = tf x) (hta : ∀ i, i < N → aft (a i) = tf (a i))
    (hp : ∀ aor apo : Nat → Int32, (∀ i, i < N + 1 → aor i = nI (zi_a a (zi_k (fun y => ¬ zo_B rc tf x y) a N) x i)) → (∀ i, i < N + 1 → apo (zi_a a (zi_k (fun y => ¬ zo_B rc tf x y) a N) x i) = nI i) → post ((nI c), (nI L), ff, fs, (nI (N + 1)), ft, amk, atm, aco, apl, arl, aro, akn, akf, ard, awi, avo, ade, afa, adc, arc, aft, aor, apo, ast)) :
    ∀ (k : Nat) (aor apo : Nat → Int32), zi_I nI (fun y => ¬ zo_B rc tf x y) a N k aor → zi_P a N k apo → wX_insert_5 post (nI x) (nI c) (nI L) ff fs (nI N) ft (k + 1) (nI k) amk atm aco apl arl aro akn akf ard awi avo ade afa adc arc aft aor apo ast := by
  have fin : ∀ (k : Nat) (aor apo : Nat → Int32), zi_I nI (fun y => ¬ zo_B rc tf x y) a N k aor → zi_P a N k apo → (k = 0 ∨ ¬ zo_B rc tf x (a (k - 1))) → wX_insert_57 post (nI x) (nI k) (nI c) (nI L) ff fs (nI N) ft amk atm aco apl arl aro akn akf ard awi avo ade afa adc arc aft aor apo ast := by
    intro k aor apo hI hP hs
    have kN := hI.1
    obtain ⟨e, g⟩ := zi_end (v := x) hI hs
    refine zx_ins_57 hx (by omega) (hp _ _ g ?_)
    rw [e]
    exact zi_Pe hP kN (fun i hi => by have := hl i hi; omega)
  intro k
  induction k with
  | zero =>
    intro aor apo hI hP
    exact br_t ((zn_le0 (by omega)).mpr rfl) (fin 0 aor apo hI hP (Or.inl rfl))
  | succ q ih =>
    intro aor apo hI hP
    have hq := hI.1
    have eq : aor q = nI (a q) := hI.2.1 q (by omega)
    have q48 : q < 48 := by omega
    have q148 : q + 1 < 48 := by omega
    have la := hl q (by omega)
    refine br_f (fun z => absurd ((zn_le0 (by omega)).mp z) (by omega)) ?_
    rw [nI_pred, zn_c q48, eq]
    refine And.intro (zn_i q48) (zx_before hx (by omega) (hb x (Nat.le_refl x)) (hb (a q) (by omega)) hr (hra q (by omega)) ht (hta q (by omega)) (fun g => br_f zo_10 ?_) (fun g => br_t rfl (fin (q + 1) aor apo hI hP (Or.inr g))))
    refine And.intro (zn_i q48) (And.intro (zn_i q148) ?_)
    rw [zn_c q148]
    refine nm_e (And.intro (zn_i q148) ?_)
    rw [pk_us, zn_c (show a q < 48 by omega)]
    refine And.intro (zn_i (by omega)) (nm_e (nm_r (pk_m1 q) (ih _ _ ?_ (zi_Ps hP (by omega) hi))))
    rw [← eq]
    exact zi_step hI (fun z => z g)
theorem zx_insert {x N : Nat} {a : Nat → Nat} (hx : x < 48) (hN : N ≤ x) (hl : ∀ i, i < N → a i < x) (hb : ∀ y, y ≤ x → rc y ≤ 48) (hr : arc x = nI (rc x)) (hra : ∀ i, i < N → arc (a i) = nI (rc (a i))) (ht : aft x = tf x) (hta : ∀ i, i < N → aft (a i) = tf (a i)) (ho : ∀ i, i < N → aor i = nI (a i)) (hpo : ∀ i, i < N → apo (a i) = nI i)
    (hp : ∀ aor apo : Nat → Int32, (∀ i, i < N + 1 → aor i = nI (zi_a a (zi_k (fun y => ¬ zo_B rc tf x y) a N) x i)) → (∀ i, i < N + 1 → apo (zi_a a (zi_k (fun y => ¬ zo_B rc tf x y) a N) x i) = nI i) → post ((nI c), (nI L), ff, fs, (nI (N + 1)), ft, amk, atm, aco, apl, arl, aro, akn, akf, ard, awi, avo, ade, afa, adc, arc, aft, aor, apo, ast)) : wpX_insert post ((nI c), (nI L), ff, fs, (nI N), ft, amk, atm, aco, apl, arl, aro, akn, akf, ard, awi, avo, ade, afa, adc, arc, aft, aor, apo, ast) (nI x) := by
  refine Exists.intro (N + 1) (zx_ins_l hx hN hl (fun i j h1 h2 e => ?_) hb hr hra ht hta hp N aor apo (zi_go ho) ⟨hpo, fun i h1 h2 => absurd h1 (by omega)⟩)
  have q1 := hpo i h1
  rw [e, hpo j h2] at q1
  exact ((nI_eq (by omega) (by omega)).mp q1).symm
end XC
section XE
variable {c L : Nat} {ff fs fo ft : Int32} {amk atm aco apl arl aro akn akf ard awi avo ade afa adc arc aft aor apo ast : Nat → Int32} {M P RL Ro kn kf R : Nat → Nat} {U W : Nat → Nat → Prop} {post : SX → Prop} {rc f : Nat → Nat} {tf : Nat → Int32}
def zq_I (c : Nat) (rc : Nat → Nat) (tf : Nat → Int32) (x : Nat) (fo : Int32) (arc aft aor apo : Nat → Int32) : Prop :=
  fo = nI (zc_ct (fun j => ¬ rc j = 0) x) ∧ (∀ j, j < x → arc j = nI (rc j)) ∧ (∀ j, x ≤ j → j < c → arc j = nI 0) ∧ (∀ j, j < x → ¬ rc j = 0 → aft j = tf j) ∧ (∀ i, i < zc_ct (fun j => ¬ rc j = 0) x → aor i = nI (zo_a rc tf x i) ∧ apo (zo_a rc tf x i) = nI i)
def zt_e (Ro kf : Nat → Nat) (x m : Nat) : Nat := Ro (48 * m + (kf (4 * x + m) - 1))
def zt_g (M Ro kf : Nat → Nat) (tm : Nat → Int32) (x w : Nat) : Int32 := tm (zt_e Ro kf x (M w))
theorem zx_rec_48 {x r : Nat} (hc : c ≤ 48) (hx : x < c) (hr : r ≤ 48) (hmk : ∀ j, amk j = nI (M j)) (hro : ∀ j, aro j = nI (Ro j)) (hkf : ∀ j, akf j = zp_I (kf j)) (hrd : ∀ j, ard j = nI (R j)) (hRb : ∀ j, j < c → R j ≤ 48) (hf : ∀ j, j < c → afa j = nI (f j) ∧ f j ≤ 2) (hU : zg_U c M U) (hR : zg_R c M P RL Ro) (hF : zg_F c M P RL U kf)
    (h4 : zc_ct (zt_p R awi f r) c ≤ 4) (h1 : 0 < zc_ct (zt_p R awi f r) c) (hT : zr_U c R awi f U x r)
    (hp : ∀ (N : Nat) (ast : Nat → Int32), N = zc_ct (zt_p R awi f r) c → wpX_insert (fun u => match u with | (u1, u2, u3, u4, u5, u6, u7, u8, u9, v1, v2, v3, v4, v5, v6, v7, v8, v9, w1, w2, w3, w4, w5, w6, w7) => post (u1, u2, u3, u4, u5, u6, u7, u8, u9, v1, v2, v3, v4, v5, v6, v7, v8, v9, w1, w2, w3, w4, w5, w6, w7)) ((nI c), (nI L), ff, fs, fo, (nI N), amk, atm, aco, apl, arl, aro, akn, akf, ard, awi, avo, ade, afa, adc, arc, (upd aft x (zt_a (zt_p R awi f r) (zt_g M Ro kf atm x) c (N / 2))), aor, apo, ast) (nI x)) :
    ∀ (d w : Nat) (ast : Nat → Int32), w + d = c → (∀ i, i < zc_ct (zt_p R awi f r) w → ast i = zt_a (zt_p R awi f r) (zt_g M Ro kf atm x) w i) → wX_receive_48 post (nI x) (nI r) (d + 1) (nI w) (nI c) (nI L) ff fs fo (nI (zc_ct (zt_p R awi f r) w)) amk atm aco apl arl aro akn akf ard awi avo ade afa adc arc aft aor apo ast := by
  have x48 : x < 48 := by omega
  intro d
  induction d with
  | zero =>
    intro w ast hw ha
    have e : w = c := by omega
    subst e
    have hd : nI (zc_ct (zt_p R awi f r) w) / 2 = nI (zc_ct (zt_p R awi f r) w / 2) := pk_div (d := 2) (by omega) (by decide) (by decide)
    refine br_t (nI_le (Nat.le_refl _) (by omega)) (And.intro (by decide) ?_)
    rw [hd]
    refine And.intro (vp_in_nI (by omega) (by decide)) (And.intro (zn_i x48) ?_)
    rw [zn_c x48, nI_clamp (by omega), ha _ (by omega)]
    exact nm_e (hp _ ast rfl)
  | succ d ih =>
    intro w ast hw ha
    have w48 : w < 48 := by omega
    have bj := hRb w (by omega)
    obtain ⟨fj, f2⟩ := hf w (by omega)
    have skip : ¬ zt_p R awi f r w → wX_receive_48 post (nI x) (nI r) (d + 1) (nI (w + 1)) (nI c) (nI L) ff fs fo (nI (zc_ct (zt_p R awi f r) w)) amk atm aco apl arl aro akn akf ard awi avo ade afa adc arc aft aor apo ast := by
      intro hn
      have g := ih (w + 1) ast (by omega)
      rw [zc_sf hn, zt_2 hn] at g
      exact g ha
    refine br_f (nI_ge (by omega) (by omega)) (And.intro (zn_i w48) ?_)
    rw [zn_c w48, hrd, fj, hmk]
    refine br_c (fun w0 => nm_r (nI_1 w) (skip (fun z => z.1 w0))) (fun w1 => And.intro (zn_i w48) (zn_if (nI_eq (by omega) (by omega)) (fun er => And.intro (zn_i w48) (zn_if (zn_eq2 (by omega)) (fun e2 => And.intro (zn_i w48) (And.intro (zn_i w48) ?_)) (fun e2 => nm_r (nI_1 w) (skip (fun z => e2 z.2.2))))) (fun er => nm_r (nI_1 w) (skip (fun z => er z.2.1)))))
    have hp' : zt_p R awi f r w := ⟨w1, er, e2⟩
    have m4 : M w < 4 := hU.1 w (by omega)
    have u := hT w (by omega) w1 er e2
    rw [hF.2 x w hx (by omega)] at u
    have b1 := hF.1 x (M w) hx m4
    have b2 := hR.1 (M w) m4
    obtain ⟨a1, a2, a3⟩ := hR.2.2.1 (M w) (kf (4 * x + M w) - 1) m4 (by omega)
    have kz : zp_I (kf (4 * x + M w)) = nI (kf (4 * x + M w) - 1) := zp_pos (by omega)
    have ct1 := zc_st hp'
    have ct2 := zc_mono (p := zt_p R awi f r) (a := w + 1) d
    rw [show w + 1 + d = c by omega] at ct2
    rw [zn_c4 x48 m4, hkf, kz]
    refine And.intro (zn_i4 x48 m4) ?_
    rw [zn_48, nI_clamp (by omega), hro]
    refine And.intro (vp_in_nI (by omega) (by decide)) (nm_e (And.intro (zn_i (by omega)) ?_))
    rw [zn_c (by omega)]
    refine zx_add (a := zt_a (zt_p R awi f r) (zt_g M Ro kf atm x) w) (by omega) ha (fun ast2 h2 => nm_r (nI_1 w) ?_)
    have g := ih (w + 1) ast2 (by omega)
    rw [ct1, zt_1 hp'] at g
    exact g h2
end XE
end
section
section XG
variable {c L : Nat} {ff fs fo ft : Int32} {amk atm aco apl arl aro akn akf ard awi avo ade afa adc arc aft aor apo ast : Nat → Int32} {M P RL Ro kn kf R : Nat → Nat} {U W : Nat → Nat → Prop} {post : SX → Prop} {rc f : Nat → Nat} {tf : Nat → Int32} {s : Nat}
theorem zx_rec_25 {x r : Nat} (hc : c ≤ 48) (hx : x < c) (hr1 : 1 ≤ r) (hrs : r ≤ s) (hs : s ≤ 48) (hmk : ∀ j, amk j = nI (M j)) (hro : ∀ j, aro j = nI (Ro j)) (hkf : ∀ j, akf j = zp_I (kf j)) (hrd : ∀ j, ard j = nI (R j)) (hRb : ∀ j, j < c → R j ≤ 48) (hf : ∀ j, j < c → afa j = nI (f j) ∧ f j ≤ 2) (hU : zg_U c M U) (hR : zg_R c M P RL Ro) (hF : zg_F c M P RL U kf)
    (h4 : zc_ct (zt_p R awi f r) c ≤ 4) (h1 : 0 < zc_ct (zt_p R awi f r) c) (hT : zr_U c R awi f U x r) (hrc : rc x = r) (hb : ∀ y, rc y ≤ 48) (htf : tf x = zt_a (zt_p R awi f r) (zt_g M Ro kf atm x) c (zc_ct (zt_p R awi f r) c / 2)) (hI : zq_I c rc tf x fo arc aft aor apo)
    (hp : ∀ (fo ft : Int32) (arc aft aor apo ast : Nat → Int32), zq_I c rc tf (x + 1) fo arc aft aor apo → post ((nI c), (nI L), ff, (nI s), fo, ft, amk, atm, aco, apl, arl, aro, akn, akf, ard, awi, avo, ade, afa, adc, arc, aft, aor, apo, ast)) : wX_receive_25 post (nI x) (nI r) (nI c) (nI L) ff (nI s) fo ft amk atm aco apl arl aro akn akf ard awi avo ade afa adc arc aft aor apo ast := by
  have x48 : x < 48 := by omega
  obtain ⟨i1, i2, i3, i4, i5⟩ := hI
  subst i1
  have hne : ¬ rc x = 0 := by omega
  have nle := zc_le (p := fun j => ¬ rc j = 0) x
  have olt := zo_lt (rc := rc) (ft := tf) x
  refine br_t (nI_le hrs (by omega)) (And.intro (zn_i x48) ?_)
  rw [zn_c x48]
  refine nm_e (Exists.intro (c + 1) ?_)
  refine zx_rec_48 (arc := upd arc x (nI r)) hc hx (by omega) hmk hro hkf hrd hRb hf hU hR hF h4 h1 hT (fun N ast2 hN => ?_) c 0 ast (by omega) (fun i hi => absurd hi (Nat.not_lt_zero i))
  subst hN
  rw [← htf]
  refine zx_insert (rc := rc) (tf := tf) (a := zo_a rc tf x) x48 nle (fun i hi => (olt i hi).1) (fun y _ => hb y) (by rw [pk_us, hrc]) ?_ pk_us ?_ (fun i hi => (i5 i hi).1) (fun i hi => (i5 i hi).2) (fun aor2 apo2 g1 g2 => ?_)
  · intro i hi
    have := (olt i hi).1
    rw [pk_un (by omega)]
    exact i2 _ this
  · intro i hi
    have := olt i hi
    rw [pk_un (by omega)]
    exact i4 _ this.1 this.2
  · refine hp _ _ _ _ _ _ _ ⟨by rw [zc_st hne], fun j hj => ?_, fun j hj hjc => ?_, fun j hj hjr => ?_, fun i hi => ?_⟩
    · by_cases e : j = x
      · subst e; rw [pk_us, hrc]
      · rw [pk_un e]; exact i2 j (by omega)
    · rw [pk_un (by omega)]; exact i3 j (by omega) hjc
    · by_cases e : j = x
      · subst e; rw [pk_us]
      · rw [pk_un e]; exact i4 j (by omega) hjr
    · rw [zc_st hne] at hi
      rw [zo_1 hne]
      exact ⟨g1 i hi, g2 i hi⟩
theorem zx_receive {x : Nat} (hc : c ≤ 48) (hx : x < c) (hs : s ≤ 48) (hmk : ∀ j, amk j = nI (M j)) (hpl : ∀ j, apl j = nI (P j)) (hro : ∀ j, aro j = nI (Ro j)) (hkn : ∀ j, akn j = zp_I (kn j)) (hkf : ∀ j, akf j = zp_I (kf j)) (hrd : ∀ j, ard j = nI (R j)) (hRb : ∀ j, j < c → R j ≤ 48) (hf : ∀ j, j < c → afa j = nI (f j) ∧ f j ≤ 2) (hU : zg_U c M U) (hR : zg_R c M P RL Ro) (hK : zg_K c M P RL U kn) (hF : zg_F c M P RL U kf)
    (h4 : ∀ r, zc_ct (zt_p R awi f r) c ≤ 4) (h1 : ∀ r, 1 ≤ r → r ≤ s → 0 < zc_ct (zt_p R awi f r) c) (hrc : ∀ y, rc y = zr_l (zr_U c R awi f U y) s) (htf : ∀ y, tf y = zt_a (zt_p R awi f (rc y)) (zt_g M Ro kf atm y) c (zc_ct (zt_p R awi f (rc y)) c / 2)) (hI : zq_I c rc tf x fo arc aft aor apo)
    (hp : ∀ (fo ft : Int32) (arc aft aor apo ast : Nat → Int32), zq_I c rc tf (x + 1) fo arc aft aor apo → post ((nI c), (nI L), ff, (nI s), fo, ft, amk, atm, aco, apl, arl, aro, akn, akf, ard, awi, avo, ade, afa, adc, arc, aft, aor, apo, ast)) : wpX_receive post ((nI c), (nI L), ff, (nI s), fo, ft, amk, atm, aco, apl, arl, aro, akn, akf, ard, awi, avo, ade, afa, adc, arc, aft, aor, apo, ast) (nI x) := by
  have hb : ∀ y, rc y ≤ 48 := fun y => by
    have := zr_le (T := zr_U c R awi f U y) s
    rw [← hrc] at this
    omega
  have hlp : ∀ d q, q + d = s → zr_l (zr_U c R awi f U x) q = 0 → wX_receive_2 post (nI x) (nI c) (nI L) ff (nI s) fo ft amk atm aco apl arl aro akn akf ard awi avo ade afa adc arc aft aor apo ast (d + 1) (nI (q + 1)) := by
    intro d
    induction d with
    | zero =>
      intro q hq h0
      have e : q = s := by omega
      subst e
      rw [← hrc] at h0
      refine br_t (nI_lt (by omega) (by omega)) (br_f (nI_ge (by omega) (by omega)) (hp _ _ _ _ _ _ _ ?_))
      obtain ⟨i1, i2, i3, i4, i5⟩ := hI
      refine ⟨by rw [zc_sf (fun z => z h0)]; exact i1, fun j hj => ?_, fun j hj hjc => i3 j (by omega) hjc, fun j hj hjr => ?_, fun i hi => ?_⟩
      · by_cases e : j = x
        · subst e; rw [h0]; exact i3 j (Nat.le_refl j) hx
        · exact i2 j (by omega)
      · by_cases e : j = x
        · subst e; exact absurd h0 hjr
        · exact i4 j (by omega) hjr
      · rw [zc_sf (fun z => z h0)] at hi
        rw [zo_2 h0]
        exact i5 i hi
    | succ d ih =>
      intro q hq h0
      refine br_f (nI_nlt (by omega) (by omega)) ?_
      refine zx_isUF (f := f) (U := U) hc (by omega) hrd hRb hf (fun p b hb' u1 u0 => zx_under hc hmk hpl hkn hU hR hK hx hb' u1 u0) (fun t1 => br_f zo_10 ?_) (fun t0 => br_t rfl (nm_r (nI_1 (q + 1)) (ih (q + 1) (by omega) (zr_2 h0 t0))))
      have e1 := zr_1 h0 t1
      have e2 : rc x = q + 1 := by
        have := zr_up (T := zr_U c R awi f U x) (r := q + 1) (by omega) d
        rw [show q + 1 + d = s by omega, e1] at this
        rw [hrc, this]
      refine zx_rec_25 (rc := rc) (tf := tf) (f := f) hc hx (by omega) (by omega) hs hmk hro hkf hrd hRb hf hU hR hF (h4 _) (h1 _ (by omega) (by omega)) t1 e2 hb ?_ hI hp
      rw [htf, e2]
  exact Exists.intro (s + 1) (hlp s 0 (by omega) rfl)
theorem zx_113 (hc : c ≤ 48) (hs : s ≤ 48) (hmk : ∀ j, amk j = nI (M j)) (hpl : ∀ j, apl j = nI (P j)) (hro : ∀ j, aro j = nI (Ro j)) (hkn : ∀ j, akn j = zp_I (kn j)) (hkf : ∀ j, akf j = zp_I (kf j)) (hrd : ∀ j, ard j = nI (R j)) (hRb : ∀ j, j < c → R j ≤ 48) (hf : ∀ j, j < c → afa j = nI (f j) ∧ f j ≤ 2) (hU : zg_U c M U) (hR : zg_R c M P RL Ro) (hK : zg_K c M P RL U kn) (hF : zg_F c M P RL U kf)
    (h4 : ∀ r, zc_ct (zt_p R awi f r) c ≤ 4) (h1 : ∀ r, 1 ≤ r → r ≤ s → 0 < zc_ct (zt_p R awi f r) c) (hrc : ∀ y, rc y = zr_l (zr_U c R awi f U y) s) (htf : ∀ y, tf y = zt_a (zt_p R awi f (rc y)) (zt_g M Ro kf atm y) c (zc_ct (zt_p R awi f (rc y)) c / 2))
    (hp : ∀ (fo ft : Int32) (arc aft aor apo ast : Nat → Int32), zq_I c rc tf c fo arc aft aor apo → post ((nI c), (nI L), ff, (nI s), fo, ft, amk, atm, aco, apl, arl, aro, akn, akf, ard, awi, avo, ade, afa, adc, arc, aft, aor, apo, ast)) :
    ∀ (d x : Nat) (fo ft : Int32) (arc aft aor apo ast : Nat → Int32), x + d = c → zq_I c rc tf x fo arc aft aor apo → wX_freshen_113 post (d + 1) (nI x) (nI c) (nI L) ff (nI s) fo ft amk atm aco apl arl aro akn akf ard awi avo ade afa adc arc aft aor apo ast := by
  intro d
  induction d with
  | zero =>
    intro x fo ft arc aft aor apo ast hx hI
    have e : x = c := by omega
    subst e
    exact br_t (nI_le (Nat.le_refl _) (by omega)) (hp _ _ _ _ _ _ _ hI)
  | succ d ih =>
    intro x fo ft arc aft aor apo ast hx hI
    refine br_f (nI_ge (by omega) (by omega)) ?_
    exact zx_receive (f := f) (U := U) hc (by omega) hs hmk hpl hro hkn hkf hrd hRb hf hU hR hK hF h4 h1 hrc htf hI (fun fo ft arc aft aor apo ast h => nm_r (nI_1 x) (ih (x + 1) fo ft arc aft aor apo ast (by omega) h))
theorem zx_69 (hc : c ≤ 48) (hL : L ≤ 48) (hmk : ∀ j, amk j = nI (M j)) (hpl : ∀ j, apl j = nI (P j)) (hro : ∀ j, aro j = nI (Ro j)) (hkn : ∀ j, akn j = zp_I (kn j)) (hkf : ∀ j, akf j = zp_I (kf j)) (hrd : ∀ j, ard j = nI (R j)) (hRb : ∀ j, j < c → R j ≤ 48) (hf : ∀ j, j < c → afa j = nI (f j) ∧ f j ≤ 2) (hU : zg_U c M U) (hR : zg_R c M P RL Ro) (hK : zg_K c M P RL U kn) (hF : zg_F c M P RL U kf)
    (h4 : ∀ r, zc_ct (zt_p R awi f r) c ≤ 4) (hse : s = zs_g (zs_S c L R awi f) L) (hrc : ∀ y, rc y = zr_l (zr_U c R awi f U y) s) (htf : ∀ y, tf y = zt_a (zt_p R awi f (rc y)) (zt_g M Ro kf atm y) c (zc_ct (zt_p R awi f (rc y)) c / 2)) (h0 : ∀ j, j < c → arc j = nI 0)
    (hp : ∀ (fo ft : Int32) (arc aft aor apo ast : Nat → Int32), zq_I c rc tf c fo arc aft aor apo → post ((nI c), (nI L), ff, (nI s), fo, ft, amk, atm, aco, apl, arl, aro, akn, akf, ard, awi, avo, ade, afa, adc, arc, aft, aor, apo, ast)) :
    ∀ (d k : Nat), k + d = L → zs_g (zs_S c L R awi f) k = k → wX_freshen_69 post (nI c) (nI L) ff fo ft amk atm aco apl arl aro akn akf ard awi avo ade afa adc arc aft aor apo ast (d + 1) (nI k) := by
  have sL : s ≤ L := by rw [hse]; exact zs_le L
  have fin : ∃ n : Nat, wX_freshen_113 post n 0 (nI c) (nI L) ff (nI s) 0 ft amk atm aco apl arl aro akn akf ard awi avo ade afa adc arc aft aor apo ast := by
    refine ⟨c + 1, zx_113 (f := f) (U := U) hc (by omega) hmk hpl hro hkn hkf hrd hRb hf hU hR hK hF h4 (fun r h1 h2 => ?_) hrc htf hp c 0 _ _ _ _ _ _ _ (by omega) ⟨rfl, fun j hj => absurd hj (Nat.not_lt_zero j), fun j _ hj => h0 j hj, fun j hj => absurd hj (Nat.not_lt_zero j), fun i hi => absurd hi (Nat.not_lt_zero i)⟩⟩
    rw [hse] at h2
    obtain ⟨x, hx, p⟩ := (zs_all L r h1 h2).2.1
    exact (zc_pos (p := zt_p R awi f r) c).mpr ⟨x, hx, p⟩
  intro d
  induction d with
  | zero =>
    intro k hk hg
    have e : k = L := by omega
    have e2 : s = k := by
      rw [e] at hg
      rw [hse, hg, e]
    rw [e2] at fin
    exact br_t (nI_le (by omega) (by omega)) fin
  | succ d ih =>
    intro k hk hg
    refine br_f (nI_ge (by omega) (by omega)) ?_
    rw [nI_1]
    refine zx_isSettled (f := f) hc hL (by omega) hrd hRb hf (fun t1 => br_f zo_10 (nm_e (ih (k + 1) (by omega) (zs_next hg t1)))) (fun t0 => br_t rfl ?_)
    have e2 : s = k := by
      have := zs_up hg t0 (d + 1)
      rw [show k + (d + 1) = L by omega] at this
      rw [hse, this]
    rw [e2] at fin
    exact fin
/-! what follows, together -/
def zf_d (c L : Nat) (R : Nat → Nat) (wi de : Nat → Int32) (j : Nat) : Nat := if wi j = 0 then 0 else zd_d c L R wi de j
def zf_f (c L : Nat) (R : Nat → Nat) (wi de vo : Nat → Int32) (j : Nat) : Nat := zd_m vo j (zf_d c L R wi de j)
noncomputable def zf_s (c L : Nat) (R : Nat → Nat) (wi de vo : Nat → Int32) : Nat := zs_g (zs_S c L R wi (zf_f c L R wi de vo)) L
noncomputable def zf_r (c L : Nat) (R : Nat → Nat) (wi de vo : Nat → Int32) (U : Nat → Nat → Prop) (x : Nat) : Nat := zr_l (zr_U c R wi (zf_f c L R wi de vo) U x) (zf_s c L R wi de vo)
noncomputable def zf_t (c L : Nat) (R : Nat → Nat) (wi de vo : Nat → Int32) (U : Nat → Nat → Prop) (M Ro kf : Nat → Nat) (tm : Nat → Int32) (x : Nat) : Int32 :=
  zt_a (zt_p R wi (zf_f c L R wi de vo) (zf_r c L R wi de vo U x)) (zt_g M Ro kf tm x) c (zc_ct (zt_p R wi (zf_f c L R wi de vo) (zf_r c L R wi de vo U x)) c / 2)
def zz_X (c L : Nat) (R : Nat → Nat) (wi de vo : Nat → Int32) (U : Nat → Nat → Prop) (M Ro kf : Nat → Nat) (tm : Nat → Int32) (fs fo : Int32) (afa adc arc aft aor apo : Nat → Int32) : Prop :=
  (∀ j, j < c → afa j = nI (zf_f c L R wi de vo j) ∧ adc j = zp_I (zf_d c L R wi de j)) ∧ fs = nI (zf_s c L R wi de vo) ∧ zq_I c (zf_r c L R wi de vo U) (zf_t c L R wi de vo U M Ro kf tm) c fo arc aft aor apo
theorem zx_15 (hE : zz_E amk apl arl aro akn akf ard M P RL Ro kn kf R) (hFF : zz_F c L M P RL Ro kn kf R awi aco avo ade U W)
    (hp : ∀ (fs fo ft : Int32) (afa adc arc aft aor apo ast : Nat → Int32), zz_X c L R awi ade avo U M Ro kf atm fs fo afa adc arc aft aor apo → post ((nI c), (nI L), ff, fs, fo, ft, amk, atm, aco, apl, arl, aro, akn, akf, ard, awi, avo, ade, afa, adc, arc, aft, aor, apo, ast)) :
    ∀ (d x : Nat) (fs fo ft : Int32) (afa adc arc aft aor apo ast : Nat → Int32), x + d = c → (∀ j, j < x → afa j = nI (zf_f c L R awi ade avo j) ∧ adc j = zp_I (zf_d c L R awi ade j) ∧ arc j = nI 0) → wX_freshen_15 post (d + 1) (nI x) (nI c) (nI L) ff fs fo ft amk atm aco apl arl aro akn akf ard awi avo ade afa adc arc aft aor apo ast := by
  obtain ⟨emk, epl, erl, ero, ekn, ekf, erd⟩ := hE
  obtain ⟨hc8, hU, hR, hK, hF, hW, hO, hV, hco, hM4⟩ := hFF
  have hL := hO.2.1
  have hRb : ∀ j, j < c → R j ≤ 48 := fun j hj => by have := (hO.1 j hj).2.1; omega
  intro d
  induction d with
  | zero =>
    intro x fs fo ft afa adc arc aft aor apo ast hx hI
    have e : x = c := by omega
    subst e
    refine br_t (nI_le (Nat.le_refl _) (by omega)) (Exists.intro (L + 1) ?_)
    refine zx_69 (f := zf_f x L R awi ade avo) (U := U) (s := zf_s x L R awi ade avo) (rc := zf_r x L R awi ade avo U) (tf := zf_t x L R awi ade avo U M Ro kf atm) hc8 (by omega) emk epl ero ekn ekf erd hRb (fun j hj => ⟨(hI j hj).1, zd_m2⟩) hU hR hK hF (fun r => zg_O_4 hU hO (fun x hx => ⟨hx.1, hx.2.1⟩)) rfl (fun _ => rfl) (fun _ => rfl) (fun j hj => (hI j hj).2.2) (fun fo ft arc aft aor apo ast h => hp _ _ _ _ _ _ _ _ _ _ ⟨fun j hj => ⟨(hI j hj).1, (hI j hj).2.1⟩, rfl, h⟩) L 0 (by omega) rfl
  | succ d ih =>
    intro x fs fo ft afa adc arc aft aor apo ast hx hI
    have x48 : x < 48 := by omega
    refine br_f (nI_ge (by omega) (by omega)) (And.intro (zn_i x48) ?_)
    rw [zn_c x48]
    refine nm_e (And.intro (zn_i x48) (nm_e (And.intro (zn_i x48) (nm_e (And.intro (zn_i x48) (br_c (fun w0 => nm_r (nI_1 x) (ih (x + 1) _ _ _ _ _ _ _ _ _ _ (by omega) ?_)) (fun w1 => ?_)))))))
    · intro j hj
      by_cases e : j = x
      · subst e
        have e1 : zf_d c L R awi ade j = 0 := if_pos w0
        have e2 : zf_f c L R awi ade avo j = 0 := by
          unfold zf_f; rw [e1]; rfl
        rw [pk_us, pk_us, pk_us, e1, e2, zp_0]
        exact ⟨rfl, rfl, rfl⟩
      · rw [pk_un e, pk_un e, pk_un e]
        exact hI j (by omega)
    · refine zx_decide (R := R) hc8 (by omega) (by omega) erd hRb ((hO.1 x (by omega)).2.2) (by rw [pk_us, zp_0]) (by rw [pk_us]; rfl) (fun afa2 adc2 h2 => nm_r (nI_1 x) (ih (x + 1) _ _ _ _ _ _ _ _ _ _ (by omega) (fun j hj => ?_)))
      obtain ⟨s1, s2, s3⟩ := h2
      by_cases e : j = x
      · subst e
        have e1 : zf_d c L R awi ade j = zd_d c L R awi ade j := if_neg w1
        have e2 : zf_f c L R awi ade avo j = zd_m avo j (zd_d c L R awi ade j) := by
          unfold zf_f; rw [e1]
        rw [e1, e2, s1, s2, pk_us]
        exact ⟨rfl, rfl, rfl⟩
      · obtain ⟨t1, t2⟩ := s3 j e
        rw [t1, t2, pk_un e, pk_un e, pk_un e]
        exact hI j (by omega)
theorem zx_freshen (hE : zz_E amk apl arl aro akn akf ard M P RL Ro kn kf R) (hFF : zz_F c L M P RL Ro kn kf R awi aco avo ade U W) (hX : ¬ ff = 0 → zz_X c L R awi ade avo U M Ro kf atm fs fo afa adc arc aft aor apo)
    (hp : ∀ (ff fs fo ft : Int32) (afa adc arc aft aor apo ast : Nat → Int32), zz_X c L R awi ade avo U M Ro kf atm fs fo afa adc arc aft aor apo → post ((nI c), (nI L), ff, fs, fo, ft, amk, atm, aco, apl, arl, aro, akn, akf, ard, awi, avo, ade, afa, adc, arc, aft, aor, apo, ast)) : wpX_freshen post ((nI c), (nI L), ff, fs, fo, ft, amk, atm, aco, apl, arl, aro, akn, akf, ard, awi, avo, ade, afa, adc, arc, aft, aor, apo, ast) :=
  br_c (fun _ => Exists.intro (c + 1) (zx_15 hE hFF (hp 1) c 0 _ _ _ _ _ _ _ _ _ _ (by omega) (fun j hj => absurd hj (Nat.not_lt_zero j)))) (fun h => hp _ _ _ _ _ _ _ _ _ _ _ (hX h))
end XG
end
section
section YA
variable {c L : Nat} {gs go gm : Int32} {amk atm aco ard awi bvo bfa bdc brc bfi bor bso : Nat → Int32} {bun bwe : Nat → Int64} {M P RL Ro kn kf R : Nat → Nat} {U W : Nat → Nat → Prop} {post : Int32 → Prop}
theorem zy_isWit {x : Nat} {v : Int32} (hx : x < 48) (h1 : ¬ awi x = 0 → ard x = v → post 1) (h0 : ¬ (¬ awi x = 0 ∧ ard x = v) → post 0) : wpY_isWitness post ((nI c), (nI L), gs, go, gm, amk, atm, aco, bun, bwe, ard, awi, bvo, bfa, bdc, brc, bfi, bor, bso) (nI x) v := by
  refine And.intro (zn_i hx) ?_
  rw [zn_c hx]
  exact br_c (fun w0 => h0 (fun z => z.1 w0)) (fun w1 => And.intro (zn_i hx) (br_c (fun e => h1 w1 e) (fun e => h0 (fun z => e z.2))))
theorem zy_isWitN {x r : Nat} (hx : x < 48) (hr : r ≤ 49) (hrd : ∀ j, ard j = nI (R j)) (bx : R x ≤ 48) (h1 : ¬ awi x = 0 → R x = r → post 1) (h0 : ¬ (¬ awi x = 0 ∧ R x = r) → post 0) : wpY_isWitness post ((nI c), (nI L), gs, go, gm, amk, atm, aco, bun, bwe, ard, awi, bvo, bfa, bdc, brc, bfi, bor, bso) (nI x) (nI r) :=
  zy_isWit hx (fun w e => h1 w (by rw [hrd] at e; exact (nI_eq (by omega) (by omega)).mp e)) (fun h => h0 (fun z => h ⟨z.1, by rw [hrd, z.2]⟩))
theorem zy_cv_l {y : Nat} {b : Int32} {q : Nat → Prop} (hc : c ≤ 48) (hy : y < c) (hrd : ∀ j, ard j = nI (R j)) (hRb : ∀ j, j < c → 1 ≤ R j ∧ R j ≤ 48) (hbw : ∀ x y, zb_l (bwe y) x = true ↔ W x y) (hq : ∀ w, w < c → ¬ awi w = 0 → R w = R y - 1 → W w y → (bvo w = b ↔ q w))
    (h : post (nI (zc_ct (fun w => ¬ awi w = 0 ∧ R w = R y - 1 ∧ W w y ∧ q w) c))) :
    ∀ d j, j + d = c → wY_countVotes_5 post (nI y) b (nI c) (nI L) gs go gm amk atm aco bun bwe ard awi bvo bfa bdc brc bfi bor bso (d + 1) (nI (zc_ct (fun w => ¬ awi w = 0 ∧ R w = R y - 1 ∧ W w y ∧ q w) j)) (nI j) := by
  intro d
  induction d with
  | zero =>
    intro j hj
    have e : j = c := by omega
    subst e
    exact br_t (nI_le (Nat.le_refl _) (by omega)) h
  | succ d ih =>
    intro j hj
    have j48 : j < 48 := by omega
    have y48 : y < 48 := by omega
    have g := ih (j + 1) (by omega)
    have bY := hRb y hy
    refine br_f (nI_ge (by omega) (by omega)) (And.intro (zn_i y48) ?_)
    rw [zn_c y48, hrd, zn_sub1 (by omega)]
    refine zy_isWitN j48 (by omega) hrd ((hRb j (by omega)).2) (fun w1 er => br_f zo_10 (And.intro (zn_i y48) ?_)) (fun hn => br_t rfl (nm_r (nI_1 j) ?_))
    · refine zy_has j48 (fun b1 => br_f zo_10 (And.intro (zn_i j48) ?_)) (fun b0 => br_t rfl (nm_r (nI_1 j) ?_))
      · have hW := (hbw j y).mp b1
        rw [zn_c j48]
        refine zn_if (hq j (by omega) w1 er hW) (fun k => ?_) (fun k => ?_)
        · rw [zc_st ⟨w1, er, hW, k⟩] at g
          exact nm_r (nI_1 _) (nm_r (nI_1 j) g)
        · rw [zc_sf (fun z => k z.2.2.2)] at g
          exact nm_r (nI_1 j) g
      · rw [zc_sf (fun z => b0 ((hbw j y).mpr z.2.2.1))] at g
        exact g
    · rw [zc_sf (fun z => hn ⟨z.1, z.2.1⟩)] at g
      exact g
theorem zy_cv {y : Nat} {b : Int32} {q : Nat → Prop} (hc : c ≤ 48) (hy : y < c) (hrd : ∀ j, ard j = nI (R j)) (hRb : ∀ j, j < c → 1 ≤ R j ∧ R j ≤ 48) (hbw : ∀ x y, zb_l (bwe y) x = true ↔ W x y) (hq : ∀ w, w < c → ¬ awi w = 0 → R w = R y - 1 → W w y → (bvo w = b ↔ q w))
    (h : post (nI (zc_ct (fun w => ¬ awi w = 0 ∧ R w = R y - 1 ∧ W w y ∧ q w) c))) : wpY_countVotes post ((nI c), (nI L), gs, go, gm, amk, atm, aco, bun, bwe, ard, awi, bvo, bfa, bdc, brc, bfi, bor, bso) (nI y) b :=
  Exists.intro (c + 1) (zy_cv_l hc hy hrd hRb hbw hq h c 0 (by omega))
end YA
section YB
variable {c L : Nat} {gs go gm : Int32} {amk atm aco ard awi bvo bfa bdc brc bfi bor bso : Nat → Int32} {bun bwe : Nat → Int64} {M P RL Ro kn kf R : Nat → Nat} {U W : Nat → Nat → Prop} {post : Int32 → SY → Prop}
theorem zy_v110 {y k n : Nat} {z : Int32} (hy : y < 48) (hk : k < 2 ^ 31) (hn : n < 2 ^ 31) (hz : z = 0 ∨ z = 1) (h : post (if k % 5 = 0 then 0 else if 3 ≤ n then 1 else 0) ((nI c), (nI L), gs, go, gm, amk, atm, aco, bun, bwe, ard, awi, (upd bvo y z), bfa, bdc, brc, bfi, bor, bso)) : wY_vote_110 post (nI k) (nI n) z (nI y) (nI c) (nI L) gs go gm amk atm aco bun bwe ard awi bvo bfa bdc brc bfi bor bso := by
  have er : nI k - nI k / 5 * 5 = nI (k % 5) := pk_rem (d := 5) hk (by decide) (by decide)
  refine And.intro (zn_i hy) (nm_r (e' := upd bvo y z) (by rw [zn_c hy, zo_n hz]) (And.intro (by decide) ?_))
  rw [er]
  refine zn_if (zn_eq0 (by omega)) (fun g => ?_) (fun g => zn_if (zn_lt3 hn) (fun g2 => ?_) (fun g2 => ?_))
  · rw [if_pos g] at h; exact h
  · rw [if_neg g, if_neg (show ¬ 3 ≤ n by omega)] at h; exact h
  · rw [if_neg g, if_pos (show 3 ≤ n by omega)] at h; exact h
theorem zy_v80 {y k n : Nat} {most : Int32} (hy : y < 48) (hk : k < 2 ^ 31) (hn : n < 2 ^ 31) (hm : most = 0 ∨ most = 1) (hco : aco y = 0 ∨ aco y = 1) (h : post (if k % 5 = 0 then 0 else if 3 ≤ n then 1 else 0) ((nI c), (nI L), gs, go, gm, amk, atm, aco, bun, bwe, ard, awi, (upd bvo y (if k % 5 = 0 then (if 3 ≤ n then most else aco y) else most)), bfa, bdc, brc, bfi, bor, bso)) : wY_vote_80 post (nI y) (nI k) most (nI n) (nI c) (nI L) gs go gm amk atm aco bun bwe ard awi bvo bfa bdc brc bfi bor bso := by
  have er : nI k - nI k / 5 * 5 = nI (k % 5) := pk_rem (d := 5) hk (by decide) (by decide)
  refine And.intro (by decide) ?_
  rw [er]
  refine zn_if (zn_eq0 (by omega)) (fun g => zn_if (zn_3le hn) (fun g2 => zy_v110 hy hk hn hm ?_) (fun g2 => And.intro (zn_i hy) ?_)) (fun g => zy_v110 hy hk hn hm ?_)
  · rw [if_pos g, if_pos g, if_pos g2] at h
    rw [if_pos g]
    exact h
  · rw [zn_c hy]
    refine zy_v110 hy hk hn hco ?_
    rw [if_pos g, if_pos g, if_neg g2] at h
    rw [if_pos g]
    exact h
  · rw [if_neg g, if_neg g] at h
    rw [if_neg g]
    exact h
theorem zy_vt {y k a b : Nat} (hy : y < 48) (hk : k < 2 ^ 31) (ha : a < 2 ^ 31) (hb : b < 2 ^ 31) (hco : aco y = 0 ∨ aco y = 1) (q : post (zv_r k a b (aco y)).2 ((nI c), (nI L), gs, go, gm, amk, atm, aco, bun, bwe, ard, awi, (upd bvo y (zv_r k a b (aco y)).1), bfa, bdc, brc, bfi, bor, bso)) : (nI a < nI b → wY_vote_66 post (nI y) (nI k) (nI a) (nI b) 0 (nI c) (nI L) gs go gm amk atm aco bun bwe ard awi bvo bfa bdc brc bfi bor bso) ∧ (¬ nI a < nI b → wY_vote_66 post (nI y) (nI k) (nI a) (nI b) 1 (nI c) (nI L) gs go gm amk atm aco bun bwe ard awi bvo bfa bdc brc bfi bor bso) := by
  rw [zv_r1, zv_r2] at q
  refine zn_if (nI_ltI ha hb) (fun g2 => br_t rfl (zy_v80 hy hk hb (Or.inl rfl) hco ?_)) (fun g2 => br_f zo_10 (zy_v80 hy hk ha (Or.inr rfl) hco ?_))
  · have e1 : zv_n a b = b := if_neg (by omega)
    have e2 : zv_m a b = 0 := if_neg (by omega)
    rw [e1, e2] at q
    exact q
  · have e1 : zv_n a b = a := if_pos (by omega)
    have e2 : zv_m a b = 1 := if_pos (by omega)
    rw [e1, e2] at q
    exact q
theorem zy_vote {x y : Nat} (hc : c ≤ 48) (hx : x < c) (hy : y < c) (hl : R x < R y) (hrd : ∀ j, ard j = nI (R j)) (hRb : ∀ j, j < c → 1 ≤ R j ∧ R j ≤ 48) (hco : aco y = 0 ∨ aco y = 1) (hbu : ∀ x y, zb_l (bun y) x = true ↔ U x y) (hbw : ∀ x y, zb_l (bwe y) x = true ↔ W x y) (hv : ¬ R y - R x = 1 → ∀ w, w < c → ¬ awi w = 0 → R w = R y - 1 → W w y → bvo w = 0 ∨ bvo w = 1)
    (h : ∀ s, s = zv_s c R awi aco U W bvo x y → post s.2 ((nI c), (nI L), gs, go, gm, amk, atm, aco, bun, bwe, ard, awi, (upd bvo y s.1), bfa, bdc, brc, bfi, bor, bso)) : wpY_vote post ((nI c), (nI L), gs, go, gm, amk, atm, aco, bun, bwe, ard, awi, bvo, bfa, bdc, brc, bfi, bor, bso) (nI x) (nI y) := by
  have bx := hRb x hx
  have bY := hRb y hy
  have x48 : x < 48 := by omega
  have y48 : y < 48 := by omega
  refine And.intro (zn_i y48) (And.intro (zn_i x48) ?_)
  rw [zn_c x48, zn_c y48, hrd, hrd, pk_sub (Nat.le_of_lt hl)]
  refine nm_e (zn_if (zn_eq1 (by omega)) (fun g => And.intro (zn_i y48) ?_) (fun g => ?_))
  · have es : ∀ b : Int32, b = zc_if (U x y) 1 0 → zv_s c R awi aco U W bvo x y = (b, 0) := by
      intro b hb
      unfold zv_s
      rw [if_pos g, hb]
    refine zy_has x48 (fun b1 => And.intro (zn_i y48) ?_) (fun b0 => And.intro (zn_i y48) ?_)
    · have q := h _ (es 1 (zc_t ((hbu x y).mp b1)).symm).symm
      exact nm_r (e' := upd bvo y 1) (by rw [zo_n1]) q
    · have q := h _ (es 0 (zc_f (fun z => b0 ((hbu x y).mpr z))).symm).symm
      exact nm_r (e' := upd bvo y 0) (by rw [zo_n0]) q
  · have es : zv_s c R awi aco U W bvo x y = zv_r (R y - R x) (zc_ct (zv_p R awi W bvo y) c) (zc_ct (zv_q R awi W bvo y) c) (aco y) := by
      unfold zv_s
      rw [if_neg g]
    have q := h _ es.symm
    have b1 := zc_le (p := zv_p R awi W bvo y) c
    have b2 := zc_le (p := zv_q R awi W bvo y) c
    refine zy_cv (q := fun w => ¬ bvo w = 0) hc hy hrd hRb hbw (fun w hw w1 w2 w3 => ?_) ?_
    · rcases hv g w hw w1 w2 w3 with e | e
      · rw [e]; exact ⟨fun z => absurd z (by decide), fun z => absurd rfl z⟩
      · rw [e]; exact ⟨fun _ => zo_10, fun _ => rfl⟩
    · refine zy_cv (q := fun w => bvo w = 0) hc hy hrd hRb hbw (fun w hw w1 w2 w3 => Iff.rfl) ?_
      exact zy_vt (a := zc_ct (zv_p R awi W bvo y) c) (b := zc_ct (zv_q R awi W bvo y) c) y48 (by omega) (by omega) (by omega) hco q
end YB
section YC
variable {c L : Nat} {gs go gm : Int32} {amk atm aco ard awi bvo bfa bdc brc bfi bor bso : Nat → Int32} {bun bwe : Nat → Int64} {M P RL Ro kn kf R : Nat → Nat} {U W : Nat → Nat → Prop} {post : SY → Prop} {avo ade : Nat → Int32}
def zy_K (c : Nat) (R : Nat → Nat) (awi avo bvo : Nat → Int32) (x r j d : Nat) : Prop := d = 0 → ∀ y, y < c → ¬ awi y = 0 → R x < R y → (R y < r ∨ (R y = r ∧ y < j)) → bvo y = avo (48 * x + y)
theorem zy_33 {J : Int32 → Int32 → Int32 → Int32 → Int32 → Int32 → (Nat → Int32) → (Nat → Int32) → (Nat → Int32) → (Nat → Int64) → (Nat → Int64) → (Nat → Int32) → (Nat → Int32) → (Nat → Int32) → (Nat → Int32) → (Nat → Int32) → (Nat → Int32) → (Nat → Int32) → (Nat → Int32) → (Nat → Int32) → Prop} {x r d0 : Nat} {bfa0 bdc0 : Nat → Int32} (hc : c ≤ 48) (hx : x < c) (hwx : ¬ awi x = 0) (hr : r ≤ 48) (hxr : R x < r) (hd0 : d0 ≤ c) (hrd : ∀ j, ard j = nI (R j)) (hRb : ∀ j, j < c → 1 ≤ R j ∧ R j ≤ 48) (hco : ∀ j, aco j = 0 ∨ aco j = 1) (hbu : ∀ x y, zb_l (bun y) x = true ↔ U x y) (hbw : ∀ x y, zb_l (bwe y) x = true ↔ W x y) (hV : zg_V c R awi aco U W avo ade)
    (hJ : ∀ bvo bfa bdc : Nat → Int32, zd_S avo x (zd_i R awi ade x r d0 c) bfa0 bdc0 bfa bdc → zy_K c R awi avo bvo x (r + 1) 0 (zd_i R awi ade x r d0 c) → J (nI (r + 1)) (nI c) (nI L) gs go gm amk atm aco bun bwe ard awi bvo bfa bdc brc bfi bor bso) :
    ∀ (d j : Nat) (bvo bfa bdc : Nat → Int32), j + d = c → zd_S avo x (zd_i R awi ade x r d0 j) bfa0 bdc0 bfa bdc → zy_K c R awi avo bvo x r j (zd_i R awi ade x r d0 j) → wY_ask_33 post J (nI x) (nI r) (d + 1) (nI j) (nI c) (nI L) gs go gm amk atm aco bun bwe ard awi bvo bfa bdc brc bfi bor bso := by
  have x48 : x < 48 := by omega
  intro d
  induction d with
  | zero =>
    intro j bvo bfa bdc hj hS hv
    have e : j = c := by omega
    subst e
    refine br_t (nI_le (Nat.le_refl _) (by omega)) (nm_r (nI_1 r) (hJ bvo bfa bdc hS (fun h0 y hy w1 hl hh => hv h0 y hy w1 hl (by omega))))
  | succ d ih =>
    intro j bvo bfa bdc hj hS hv
    have j48 : j < 48 := by omega
    have bd := zd_ile (R := R) (wi := awi) (de := ade) (x := x) (r := r) hd0 j (by omega)
    have skip : ¬ (zd_i R awi ade x r d0 j = 0 ∧ ¬ awi j = 0 ∧ R j = r) → wY_ask_33 post J (nI x) (nI r) (d + 1) (nI (j + 1)) (nI c) (nI L) gs go gm amk atm aco bun bwe ard awi bvo bfa bdc brc bfi bor bso := by
      intro hn
      have e := zd_if (R := R) (wi := awi) (de := ade) (x := x) (r := r) (d := d0) (j := j) (fun z => hn ⟨z.1, z.2.1, z.2.2.1⟩)
      refine ih (j + 1) bvo bfa bdc (by omega) (by rw [e]; exact hS) ?_
      rw [e]
      intro h0 y hy w1 hl hh
      refine hv h0 y hy w1 hl ?_
      by_cases ey : y = j
      · subst ey
        rcases hh with hh | hh
        · exact Or.inl hh
        · exact absurd ⟨h0, w1, hh.1⟩ hn
      · omega
    refine br_f (nI_ge (by omega) (by omega)) (And.intro (zn_i x48) ?_)
    rw [zn_c x48, zn_c j48, hS.1]
    refine zn_if (zp_0le (by omega)) (fun g => nm_r (nI_1 j) (skip (fun z => by omega))) (fun g => ?_)
    refine zy_isWitN (r := r) j48 (by omega) hrd ((hRb j (by omega)).2) (fun w1 er => br_f zo_10 ?_) (fun hn => br_t rfl (nm_r (nI_1 j) (skip (fun z => hn z.2))))
    have hd : zd_i R awi ade x r d0 j = 0 := by omega
    have hk := hV x j hx (by omega) hwx w1 (by omega)
    have es : zv_s c R awi aco U W (fun w => avo (48 * x + w)) x j = zv_s c R awi aco U W bvo x j :=
      zv_sc rfl rfl (fun _ => Iff.rfl) rfl (fun _ _ => Iff.rfl) (fun h1 w hw w1 w2 w3 => hv hd w hw w1 (by omega) (by omega)) (fun w h1 h2 => by omega) (Nat.le_refl _)
    refine zy_vote (U := U) (W := W) hc hx (by omega) (by omega) hrd hRb (hco j) hbu hbw (fun h1 w hw w1 w2 w3 => ?_) (fun s hs => ?_)
    · have bw := hRb w hw
      rw [hv hd w hw w1 (by omega) (by omega), (hV x w hx hw hwx w1 (by omega)).1]
      exact zv_s01 (hco w)
    · rw [← es] at hs
      rw [hs, ← hk.1, ← hk.2]
      refine br_c (fun e0 => nm_r (nI_1 j) ?_) (fun e1 => And.intro (zn_i x48) ?_)
      · have e := zd_if (R := R) (wi := awi) (de := ade) (x := x) (r := r) (d := d0) (j := j) (fun z => z.2.2.2 e0)
        refine ih (j + 1) _ bfa bdc (by omega) (by rw [e]; exact hS) ?_
        rw [e]
        intro h0 y hy w1 hl hh
        by_cases ey : y = j
        · subst ey; rw [pk_us]
        · rw [pk_un ey]
          exact hv h0 y hy w1 hl (by omega)
      · have et := zd_it (R := R) (wi := awi) (de := ade) (x := x) (r := r) (d := d0) (j := j) hd w1 er e1
        refine nm_e (And.intro (zn_i j48) ?_)
        rw [pk_us]
        refine br_c (fun v0 => And.intro (zn_i x48) (nm_e (nm_r (nI_1 j) (ih (j + 1) _ _ _ (by omega) ?_ ?_)))) (fun v1 => And.intro (zn_i x48) (nm_e (nm_r (nI_1 j) (ih (j + 1) _ _ _ (by omega) ?_ ?_))))
        · rw [et]; exact zd_Sp (k := 1) hS (zd_m1 v0).symm
        · rw [et]; intro h0; exact absurd h0 (by omega)
        · rw [et]; exact zd_Sp (k := 2) hS (zd_mm v1).symm
        · rw [et]; intro h0; exact absurd h0 (by omega)
theorem zy_23 {x : Nat} {bfa0 bdc0 : Nat → Int32} (hc : c ≤ 48) (hx : x < c) (hwx : ¬ awi x = 0) (hL : L ≤ 48) (hRL : R x ≤ L) (hrd : ∀ j, ard j = nI (R j)) (hRb : ∀ j, j < c → 1 ≤ R j ∧ R j ≤ 48) (hco : ∀ j, aco j = 0 ∨ aco j = 1) (hbu : ∀ x y, zb_l (bun y) x = true ↔ U x y) (hbw : ∀ x y, zb_l (bwe y) x = true ↔ W x y) (hV : zg_V c R awi aco U W avo ade)
    (hp : ∀ bvo bfa bdc : Nat → Int32, zd_S avo x (zd_d c L R awi ade x) bfa0 bdc0 bfa bdc → post ((nI c), (nI L), gs, go, gm, amk, atm, aco, bun, bwe, ard, awi, bvo, bfa, bdc, brc, bfi, bor, bso)) :
    ∀ (d k : Nat) (bvo bfa bdc : Nat → Int32), R x + k + d = L → zd_S avo x (zd_o c R awi ade x k) bfa0 bdc0 bfa bdc → zy_K c R awi avo bvo x (R x + 1 + k) 0 (zd_o c R awi ade x k) → wY_ask_23 post (nI x) (d + 1) (nI (R x + 1 + k)) (nI c) (nI L) gs go gm amk atm aco bun bwe ard awi bvo bfa bdc brc bfi bor bso := by
  intro d
  induction d with
  | zero =>
    intro k bvo bfa bdc hk hS hv
    have e : zd_d c L R awi ade x = zd_o c R awi ade x k := by
      unfold zd_d
      rw [show L - R x = k by omega]
    rw [← e] at hS
    exact br_t (nI_lt (by omega) (by omega)) (hp bvo bfa bdc hS)
  | succ d ih =>
    intro k bvo bfa bdc hk hS hv
    refine br_f (nI_nlt (by omega) (by omega)) (Exists.intro (c + 1) ?_)
    exact zy_33 (r := R x + 1 + k) (U := U) (W := W) hc hx hwx (by omega) (by omega) (zd_ole k) hrd hRb hco hbu hbw hV (fun bvo bfa bdc h1 h2 => ih (k + 1) bvo bfa bdc (by omega) h1 h2) c 0 bvo bfa bdc (by omega) hS hv
theorem zy_ask {x : Nat} (hc : c ≤ 48) (hx : x < c) (hwx : ¬ awi x = 0) (hL : L ≤ 48) (hRL : R x ≤ L) (hrd : ∀ j, ard j = nI (R j)) (hRb : ∀ j, j < c → 1 ≤ R j ∧ R j ≤ 48) (hco : ∀ j, aco j = 0 ∨ aco j = 1) (hbu : ∀ x y, zb_l (bun y) x = true ↔ U x y) (hbw : ∀ x y, zb_l (bwe y) x = true ↔ W x y) (hV : zg_V c R awi aco U W avo ade)
    (hp : ∀ bvo' bfa' bdc' : Nat → Int32, zd_S avo x (zd_d c L R awi ade x) bfa bdc bfa' bdc' → post ((nI c), (nI L), gs, go, gm, amk, atm, aco, bun, bwe, ard, awi, (bvo'), (bfa'), (bdc'), brc, bfi, bor, bso)) : wpY_ask post ((nI c), (nI L), gs, go, gm, amk, atm, aco, bun, bwe, ard, awi, bvo, bfa, bdc, brc, bfi, bor, bso) (nI x) := by
  have x48 : x < 48 := by omega
  refine And.intro (zn_i x48) ?_
  rw [zn_c x48, hrd, nI_1]
  refine nm_e (And.intro (zn_i x48) (nm_e (And.intro (zn_i x48) (nm_e (Exists.intro (L - R x + 1) ?_)))))
  refine zy_23 (U := U) (W := W) (bfa0 := bfa) (bdc0 := bdc) hc hx hwx hL hRL hrd hRb hco hbu hbw hV hp (L - R x) 0 bvo _ _ (by omega) ⟨by rw [pk_us]; exact zp_0.symm, by rw [pk_us]; rfl, fun j hj => ⟨pk_un hj, pk_un hj⟩⟩ (fun _ y hy w1 hl hh => absurd hh (by omega))
end YC
end
section
section YD
variable {c L : Nat} {gs go gm : Int32} {amk atm aco ard awi bvo bfa bdc brc bfi bor bso : Nat → Int32} {bun bwe : Nat → Int64} {M P RL Ro kn kf R : Nat → Nat} {U W : Nat → Nat → Prop} {post : Int32 → Prop} {f : Nat → Nat}
theorem zy_set_l {r : Nat} (hc : c ≤ 48) (hL : L ≤ 48) (hr : r ≤ 49) (hrd : ∀ j, ard j = nI (R j)) (hRb : ∀ j, j < c → R j ≤ 48) (hf : ∀ j, j < c → ¬ awi j = 0 → bfa j = nI (f j) ∧ f j ≤ 2) (h1 : zs_S c L R awi f r → post 1) (h0 : ¬ zs_S c L R awi f r → post 0) :
    ∀ (d j : Nat), j + d = c → (∀ x, x < j → ¬ awi x = 0 → R x = r → ¬ f x = 0) → ((¬ ∃ w, w < j ∧ zt_p R awi f r w) → wY_isSettled_4 post (nI r) (nI c) (nI L) gs go gm amk atm aco bun bwe ard awi bvo bfa bdc brc bfi bor bso (d + 1) 0 (nI j)) ∧ ((∃ w, w < j ∧ zt_p R awi f r w) → wY_isSettled_4 post (nI r) (nI c) (nI L) gs go gm amk atm aco bun bwe ard awi bvo bfa bdc brc bfi bor bso (d + 1) 1 (nI j)) := by
  intro d
  induction d with
  | zero =>
    intro j hj ha
    have e : j = c := by omega
    subst e
    refine ⟨fun g => br_t (nI_le (Nat.le_refl _) (by omega)) (br_t rfl (h0 (fun z => g z.2.1))), fun g => br_t (nI_le (Nat.le_refl _) (by omega)) (br_f zo_10 (zn_if (nI_leI (by omega) (by omega)) (fun k => h0 (fun z => ?_)) (fun k => h1 ⟨ha, g, by omega⟩)))⟩
    have := z.2.2; omega
  | succ d ih =>
    intro j hj ha
    have j48 : j < 48 := by omega
    have bj := hRb j (by omega)
    have g := ih (j + 1) (by omega)
    have ext : (¬ awi j = 0 → R j = r → ¬ f j = 0) → ∀ x, x < j + 1 → ¬ awi x = 0 → R x = r → ¬ f x = 0 := by
      intro hh x hx
      by_cases e : x = j
      · subst e; exact hh
      · exact ha x (by omega)
    have no : (¬ ∃ w, w < j ∧ zt_p R awi f r w) → ¬ zt_p R awi f r j → ¬ ∃ w, w < j + 1 ∧ zt_p R awi f r w := by
      intro n1 n2 ⟨w, hw, p⟩
      by_cases e : w = j
      · subst e; exact n2 p
      · exact n1 ⟨w, by omega, p⟩
    have yes : (∃ w, w < j ∧ zt_p R awi f r w) → ∃ w, w < j + 1 ∧ zt_p R awi f r w := fun ⟨w, hw, p⟩ => ⟨w, by omega, p⟩
    refine ⟨fun k => br_f (nI_ge (by omega) (by omega)) ?_, fun k => br_f (nI_ge (by omega) (by omega)) ?_⟩
    · refine zy_isWitN j48 hr hrd bj (fun w1 er => br_f zo_10 (And.intro (zn_i j48) ?_)) (fun hn => br_t rfl (nm_r (nI_1 j) ((g (ext (fun a b => absurd ⟨a, b⟩ hn))).1 (no k (fun z => hn ⟨z.1, z.2.1⟩)))))
      obtain ⟨fj, f2⟩ := hf j (by omega) w1
      rw [zn_c j48, fj]
      refine zn_if (zn_eq0 (by omega)) (fun g0 => h0 (fun z => z.1 j (by omega) w1 er g0)) (fun g0 => br_t rfl (And.intro (zn_i j48) (zn_if (zn_eq2 (by omega)) (fun e2 => nm_r (nI_1 j) ((g (ext (fun _ _ => g0))).2 ⟨j, by omega, w1, er, e2⟩)) (fun e2 => nm_r (nI_1 j) ((g (ext (fun _ _ => g0))).1 (no k (fun z => e2 z.2.2)))))))
    · refine zy_isWitN j48 hr hrd bj (fun w1 er => br_f zo_10 (And.intro (zn_i j48) ?_)) (fun hn => br_t rfl (nm_r (nI_1 j) ((g (ext (fun a b => absurd ⟨a, b⟩ hn))).2 (yes k))))
      obtain ⟨fj, f2⟩ := hf j (by omega) w1
      rw [zn_c j48, fj]
      exact zn_if (zn_eq0 (by omega)) (fun g0 => h0 (fun z => z.1 j (by omega) w1 er g0)) (fun g0 => br_f zo_10 (nm_r (nI_1 j) ((g (ext (fun _ _ => g0))).2 (yes k))))
theorem zy_isSettled {r : Nat} (hc : c ≤ 48) (hL : L ≤ 48) (hr : r ≤ 49) (hrd : ∀ j, ard j = nI (R j)) (hRb : ∀ j, j < c → R j ≤ 48) (hf : ∀ j, j < c → ¬ awi j = 0 → bfa j = nI (f j) ∧ f j ≤ 2) (h1 : zs_S c L R awi f r → post 1) (h0 : ¬ zs_S c L R awi f r → post 0) : wpY_isSettled post ((nI c), (nI L), gs, go, gm, amk, atm, aco, bun, bwe, ard, awi, bvo, bfa, bdc, brc, bfi, bor, bso) (nI r) :=
  Exists.intro (c + 1) ((zy_set_l hc hL hr hrd hRb hf h1 h0 c 0 (by omega) (fun x hx => absurd hx (Nat.not_lt_zero x))).1 (fun ⟨w, hw, _⟩ => absurd hw (Nat.not_lt_zero w)))
theorem zy_rec_l {x r : Nat} (hc : c ≤ 48) (hx : x < c) (hr : r ≤ 48) (hrd : ∀ j, ard j = nI (R j)) (hRb : ∀ j, j < c → R j ≤ 48) (hf : ∀ j, j < c → ¬ awi j = 0 → bfa j = nI (f j) ∧ f j ≤ 2) (hbu : ∀ x y, zb_l (bun y) x = true ↔ U x y) (h1 : zr_U c R awi f U x r → post 1) (h0 : ¬ zr_U c R awi f U x r → post 0) :
    ∀ (d j : Nat), j + d = c → (∀ w, w < j → ¬ awi w = 0 → R w = r → f w = 2 → U x w) → wY_isReceived_2 post (nI x) (nI r) (nI c) (nI L) gs go gm amk atm aco bun bwe ard awi bvo bfa bdc brc bfi bor bso (d + 1) (nI j) := by
  intro d
  induction d with
  | zero =>
    intro j hj ha
    have e : j = c := by omega
    subst e
    exact br_t (nI_le (Nat.le_refl _) (by omega)) (h1 ha)
  | succ d ih =>
    intro j hj ha
    have j48 : j < 48 := by omega
    have bj := hRb j (by omega)
    have g := ih (j + 1) (by omega)
    have ext : (¬ awi j = 0 → R j = r → f j = 2 → U x j) → ∀ w, w < j + 1 → ¬ awi w = 0 → R w = r → f w = 2 → U x w := by
      intro hh w hw
      by_cases e : w = j
      · subst e; exact hh
      · exact ha w (by omega)
    refine br_f (nI_ge (by omega) (by omega)) ?_
    refine zy_isWitN j48 (by omega) hrd bj (fun w1 er => br_f zo_10 (And.intro (zn_i j48) ?_)) (fun hn => br_t rfl (nm_r (nI_1 j) (g (ext (fun a b => absurd ⟨a, b⟩ hn)))))
    obtain ⟨fj, f2⟩ := hf j (by omega) w1
    rw [zn_c j48, fj]
    refine zn_if (zn_eq2 (by omega)) (fun e2 => And.intro (zn_i j48) ?_) (fun e2 => nm_r (nI_1 j) (g (ext (fun _ _ z => absurd z e2))))
    exact zy_has (by omega) (fun b1 => br_f zo_10 (nm_r (nI_1 j) (g (ext (fun _ _ _ => (hbu x j).mp b1))))) (fun b0 => br_t rfl (h0 (fun z => b0 ((hbu x j).mpr (z j (by omega) w1 er e2)))))
theorem zy_isReceived {x r : Nat} (hc : c ≤ 48) (hx : x < c) (hr : r ≤ 48) (hrd : ∀ j, ard j = nI (R j)) (hRb : ∀ j, j < c → R j ≤ 48) (hf : ∀ j, j < c → ¬ awi j = 0 → bfa j = nI (f j) ∧ f j ≤ 2) (hbu : ∀ x y, zb_l (bun y) x = true ↔ U x y) (h1 : zr_U c R awi f U x r → post 1) (h0 : ¬ zr_U c R awi f U x r → post 0) : wpY_isReceived post ((nI c), (nI L), gs, go, gm, amk, atm, aco, bun, bwe, ard, awi, bvo, bfa, bdc, brc, bfi, bor, bso) (nI x) (nI r) :=
  Exists.intro (c + 1) (zy_rec_l hc hx hr hrd hRb hf hbu h1 h0 c 0 (by omega) (fun w hw => absurd hw (Nat.not_lt_zero w)))
theorem zy_first_l {x w e : Nat} (hc : c ≤ 48) (hx : x < c) (hw : w < c) (he : e < c) (hmk : ∀ j, amk j = nI (M j)) (hM : ∀ j, M j < 4) (hbu : ∀ x y, zb_l (bun y) x = true ↔ U x y) (e1 : M e = M w) (e2 : U e w) (e3 : U x e) (hn : ∀ z, z < e → M z = M w → U x z → False) (h : post (atm e)) :
    ∀ (d j n : Nat), j + d = e → d < n → wY_firstTime_2 post (nI x) (nI w) (nI c) (nI L) gs go gm amk atm aco bun bwe ard awi bvo bfa bdc brc bfi bor bso n (nI j) := by
  have w48 : w < 48 := by omega
  have x48 : x < 48 := by omega
  intro d
  induction d with
  | zero =>
    intro j n hj hl
    obtain ⟨n, rfl⟩ : ∃ k, n = k + 1 := ⟨n - 1, by omega⟩
    have ej : j = e := by omega
    subst ej
    have j48 : j < 48 := by omega
    refine br_f (nI_ge (by omega) (by omega)) (And.intro (zn_i j48) (And.intro (zn_i w48) ?_))
    rw [zn_c j48, zn_c w48, hmk, hmk, e1]
    refine br_t rfl (And.intro (zn_i w48) (zy_has j48 (fun _ => br_f zo_10 (And.intro (zn_i j48) ?_)) (fun b0 => absurd ((hbu j w).mpr e2) b0)))
    exact zy_has x48 (fun _ => br_f zo_10 (And.intro (zn_i j48) h)) (fun b0 => absurd ((hbu x j).mpr e3) b0)
  | succ d ih =>
    intro j n hj hl
    obtain ⟨n, rfl⟩ : ∃ k, n = k + 1 := ⟨n - 1, by omega⟩
    have j48 : j < 48 := by omega
    have g := ih (j + 1) n (by omega) (by omega)
    have m1 := hM j
    have m2 := hM w
    refine br_f (nI_ge (by omega) (by omega)) (And.intro (zn_i j48) (And.intro (zn_i w48) ?_))
    rw [zn_c j48, zn_c w48, hmk, hmk]
    refine zn_if (nI_eq (by omega) (by omega)) (fun em => And.intro (zn_i w48) (zy_has j48 (fun _ => br_f zo_10 (And.intro (zn_i j48) ?_)) (fun _ => br_t rfl (nm_r (nI_1 j) g)))) (fun _ => nm_r (nI_1 j) g)
    exact zy_has x48 (fun b1 => absurd (hn j (by omega) em ((hbu x j).mp b1)) (fun z => z)) (fun _ => br_t rfl (nm_r (nI_1 j) g))
theorem zy_first {x w : Nat} (hc : c ≤ 48) (hx : x < c) (hw : w < c) (hmk : ∀ j, amk j = nI (M j)) (hM : ∀ j, M j < 4) (hbu : ∀ x y, zb_l (bun y) x = true ↔ U x y) (hU : zg_U c M U) (hR : zg_R c M P RL Ro) (hF : zg_F c M P RL U kf) (hxw : U x w) (h : post (zt_g M Ro kf atm x w)) : wpY_firstTime post ((nI c), (nI L), gs, go, gm, amk, atm, aco, bun, bwe, ard, awi, bvo, bfa, bdc, brc, bfi, bor, bso) (nI x) (nI w) := by
  have m4 := hM w
  have u := hxw
  rw [hF.2 x w hx hw] at u
  have b1 := hF.1 x (M w) hx m4
  obtain ⟨a1, a2, a3⟩ := hR.2.2.1 (M w) (kf (4 * x + M w) - 1) m4 (by omega)
  have r4 := hR.2.2.2
  refine Exists.intro (Ro (48 * M w + (kf (4 * x + M w) - 1)) + 1) (zy_first_l (e := Ro (48 * M w + (kf (4 * x + M w) - 1))) hc hx hw a1 hmk hM hbu a2 ?_ ?_ ?_ h (Ro (48 * M w + (kf (4 * x + M w) - 1))) 0 _ (Nat.zero_add _) (Nat.lt_succ_self _))
  · refine hU.2.2.2.2 _ w hw ?_ a2
    have q := r4 w _ hw a1 a2.symm
    rw [a3] at q
    have : ¬ w < Ro (48 * M w + (kf (4 * x + M w) - 1)) := fun z => by have := q.mp z; omega
    omega
  · rw [hF.2 x _ hx a1, a2, a3]; omega
  · intro z hz em uz
    rw [hF.2 x z hx (by omega), em] at uz
    have q := r4 z _ (by omega) a1 (by rw [em, a2])
    rw [a3] at q
    have := q.mp hz
    omega
end YD
section YE
variable {c L : Nat} {gs go gm : Int32} {amk atm aco ard awi bvo bfa bdc brc bfi bor bso : Nat → Int32} {bun bwe : Nat → Int64} {M P RL Ro kn kf R : Nat → Nat} {U W : Nat → Nat → Prop} {post : SY → Prop} {f : Nat → Nat}
theorem zy_sort_41 {t : Int32} {k N : Nat} (hk : k < 48) (h : post ((nI c), (nI L), gs, go, (nI (N + 1)), amk, atm, aco, bun, bwe, ard, awi, bvo, bfa, bdc, brc, bfi, bor, (upd bso k t))) : wY_sort_41 post t (nI k) (nI c) (nI L) gs go (nI N) amk atm aco bun bwe ard awi bvo bfa bdc brc bfi bor bso :=
  And.intro (zn_i hk) (nm_r (e' := upd bso k t) (by rw [zn_c hk]) (nm_r (nI_1 N) h))
theorem zy_sort_l {t : Int32} {N : Nat} {a : Nat → Int32} (hN : N < 48) (hp : ∀ bso : Nat → Int32, (∀ i, i < N + 1 → bso i = zi_a a (zi_k (fun v => v ≤ t) a N) t i) → post ((nI c), (nI L), gs, go, (nI (N + 1)), amk, atm, aco, bun, bwe, ard, awi, bvo, bfa, bdc, brc, bfi, bor, bso)) :
    ∀ (k : Nat) (bso : Nat → Int32), zi_I (fun v => v) (fun v => v ≤ t) a N k bso → wY_sort_5 post t (nI c) (nI L) gs go (nI N) (k + 1) (nI k) amk atm aco bun bwe ard awi bvo bfa bdc brc bfi bor bso := by
  intro k
  induction k with
  | zero =>
    intro bso hI
    exact br_t ((zn_le0 (by omega)).mpr rfl) (zy_sort_41 (by omega) (hp _ (zi_end (v := t) hI (Or.inl rfl)).2))
  | succ q ih =>
    intro bso hI
    have hq := hI.1
    have eq : bso q = a q := hI.2.1 q (by omega)
    have iq : vp_in (nI q) 48 := zn_i (by omega)
    have cq : (nI q).toNatClampNeg = q := zn_c (by omega)
    refine br_f (fun z => absurd ((zn_le0 (by omega)).mp z) (by omega)) ?_
    rw [nI_pred, cq]
    refine And.intro iq (br_c (fun g => ?_) (fun g => ?_))
    · exact zy_sort_41 (by omega) (hp _ (zi_end (v := t) hI (Or.inr (by rw [Nat.add_sub_cancel, ← eq]; exact g))).2)
    · refine And.intro iq (And.intro (zn_i (by omega)) (nm_r (e' := upd bso (q + 1) (bso q)) (by rw [nI_clamp (by omega)]) (nm_r (pk_m1 q) (ih _ (zi_step hI (by rw [← eq]; exact g))))))
theorem zy_sort {t : Int32} {N : Nat} {a : Nat → Int32} (hN : N < 48) (ha : ∀ i, i < N → bso i = a i) (hp : ∀ bso : Nat → Int32, (∀ i, i < N + 1 → bso i = zi_a a (zi_k (fun v => v ≤ t) a N) t i) → post ((nI c), (nI L), gs, go, (nI (N + 1)), amk, atm, aco, bun, bwe, ard, awi, bvo, bfa, bdc, brc, bfi, bor, bso)) : wpY_sort post ((nI c), (nI L), gs, go, (nI N), amk, atm, aco, bun, bwe, ard, awi, bvo, bfa, bdc, brc, bfi, bor, bso) t :=
  Exists.intro (N + 1) (zy_sort_l hN hp N bso (zi_go ha))
end YE
section YF
variable {c L : Nat} {gs go gm : Int32} {amk atm aco ard awi bvo bfa bdc brc bfi bor bso : Nat → Int32} {bun bwe : Nat → Int64} {M P RL Ro kn kf R : Nat → Nat} {U W : Nat → Nat → Prop} {post : Int32 → SY → Prop} {f : Nat → Nat}
theorem zy_final_l {x r : Nat} (hc : c ≤ 48) (hx : x < c) (hr : r ≤ 48) (hmk : ∀ j, amk j = nI (M j)) (hM : ∀ j, M j < 4) (hrd : ∀ j, ard j = nI (R j)) (hRb : ∀ j, j < c → R j ≤ 48) (hf : ∀ j, j < c → ¬ awi j = 0 → bfa j = nI (f j) ∧ f j ≤ 2) (hbu : ∀ x y, zb_l (bun y) x = true ↔ U x y) (hU : zg_U c M U) (hR : zg_R c M P RL Ro) (hF : zg_F c M P RL U kf)
    (h1 : 0 < zc_ct (zt_p R awi f r) c) (hT : zr_U c R awi f U x r)
    (hp : ∀ (gm : Int32) (bso : Nat → Int32), post (zt_a (zt_p R awi f r) (zt_g M Ro kf atm x) c (zc_ct (zt_p R awi f r) c / 2)) ((nI c), (nI L), gs, go, gm, amk, atm, aco, bun, bwe, ard, awi, bvo, bfa, bdc, brc, bfi, bor, bso)) :
    ∀ (d w : Nat) (bso : Nat → Int32), w + d = c → (∀ i, i < zc_ct (zt_p R awi f r) w → bso i = zt_a (zt_p R awi f r) (zt_g M Ro kf atm x) w i) → wY_finalOf_7 post (nI x) (nI r) (d + 1) (nI w) (nI c) (nI L) gs go (nI (zc_ct (zt_p R awi f r) w)) amk atm aco bun bwe ard awi bvo bfa bdc brc bfi bor bso := by
  have x48 : x < 48 := by omega
  intro d
  induction d with
  | zero =>
    intro w bso hw ha
    have e : w = c := by omega
    subst e
    have hle := zc_le (p := zt_p R awi f r) w
    have hd : nI (zc_ct (zt_p R awi f r) w) / 2 = nI (zc_ct (zt_p R awi f r) w / 2) := pk_div (d := 2) (by omega) (by decide) (by decide)
    refine br_t (nI_le (Nat.le_refl _) (by omega)) (And.intro (by decide) ?_)
    rw [hd]
    refine And.intro (zn_i (by omega)) ?_
    rw [nI_clamp (by omega), ha _ (by omega)]
    exact hp _ bso
  | succ d ih =>
    intro w bso hw ha
    have w48 : w < 48 := by omega
    have bj := hRb w (by omega)
    have skip : ¬ zt_p R awi f r w → wY_finalOf_7 post (nI x) (nI r) (d + 1) (nI (w + 1)) (nI c) (nI L) gs go (nI (zc_ct (zt_p R awi f r) w)) amk atm aco bun bwe ard awi bvo bfa bdc brc bfi bor bso := by
      intro hn
      have g := ih (w + 1) bso (by omega)
      rw [zc_sf hn, zt_2 hn] at g
      exact g ha
    refine br_f (nI_ge (by omega) (by omega)) ?_
    refine zy_isWitN w48 (by omega) hrd bj (fun w1 er => br_f zo_10 (And.intro (zn_i w48) ?_)) (fun hn => br_t rfl (nm_r (nI_1 w) (skip (fun z => hn ⟨z.1, z.2.1⟩))))
    obtain ⟨fj, f2⟩ := hf w (by omega) w1
    rw [zn_c w48, fj]
    refine zn_if (zn_eq2 (by omega)) (fun e2 => ?_) (fun e2 => nm_r (nI_1 w) (skip (fun z => e2 z.2.2)))
    have hp' : zt_p R awi f r w := ⟨w1, er, e2⟩
    have hle := zc_le (p := zt_p R awi f r) w
    refine zy_first hc hx (by omega) hmk hM hbu hU hR hF (hT w (by omega) w1 er e2) ?_
    refine zy_sort (a := zt_a (zt_p R awi f r) (zt_g M Ro kf atm x) w) (by omega) ha (fun bso2 h2 => nm_r (nI_1 w) ?_)
    have g := ih (w + 1) bso2 (by omega)
    rw [zc_st hp', zt_1 hp'] at g
    exact g h2
theorem zy_finalOf {x r : Nat} (hc : c ≤ 48) (hx : x < c) (hr : r ≤ 48) (hmk : ∀ j, amk j = nI (M j)) (hM : ∀ j, M j < 4) (hrd : ∀ j, ard j = nI (R j)) (hRb : ∀ j, j < c → R j ≤ 48) (hf : ∀ j, j < c → ¬ awi j = 0 → bfa j = nI (f j) ∧ f j ≤ 2) (hbu : ∀ x y, zb_l (bun y) x = true ↔ U x y) (hU : zg_U c M U) (hR : zg_R c M P RL Ro) (hF : zg_F c M P RL U kf)
    (h1 : 0 < zc_ct (zt_p R awi f r) c) (hT : zr_U c R awi f U x r)
    (hp : ∀ (gm : Int32) (bso : Nat → Int32), post (zt_a (zt_p R awi f r) (zt_g M Ro kf atm x) c (zc_ct (zt_p R awi f r) c / 2)) ((nI c), (nI L), gs, go, gm, amk, atm, aco, bun, bwe, ard, awi, bvo, bfa, bdc, brc, bfi, bor, bso)) : wpY_finalOf post ((nI c), (nI L), gs, go, gm, amk, atm, aco, bun, bwe, ard, awi, bvo, bfa, bdc, brc, bfi, bor, bso) (nI x) (nI r) :=
  Exists.intro (c + 1) (zy_final_l hc hx hr hmk hM hrd hRb hf hbu hU hR hF h1 hT hp c 0 bso (by omega) (fun i hi => absurd hi (Nat.not_lt_zero i)))
end YF
section YG
variable {c L : Nat} {gs go gm : Int32} {amk atm aco ard awi bvo bfa bdc brc bfi bor bso : Nat → Int32} {bun bwe : Nat → Int64} {M P RL Ro kn kf R : Nat → Nat} {U W : Nat → Nat → Prop} {post : Int32 → Prop} {rc : Nat → Nat} {tf : Nat → Int32}
theorem zy_before {x y : Nat} (hx : x < 48) (hy : y < x) (bx : rc x ≤ 48) (bY : rc y ≤ 48) (h1 : brc x = nI (rc x)) (h2 : brc y = nI (rc y)) (h3 : bfi x = tf x) (h4 : bfi y = tf y) (p1 : zo_B rc tf x y → post 1) (p0 : ¬ zo_B rc tf x y → post 0) : wpY_isBefore post ((nI c), (nI L), gs, go, gm, amk, atm, aco, bun, bwe, ard, awi, bvo, bfa, bdc, brc, bfi, bor, bso) (nI x) (nI y) := by
  have y48 : y < 48 := by omega
  refine And.intro (zn_i hx) (And.intro (zn_i y48) ?_)
  rw [zn_c hx, zn_c y48, h1, h2, h3, h4]
  refine zn_if (nI_eq (by omega) (by omega)) (fun e => And.intro (zn_i hx) (And.intro (zn_i y48) (br_c (fun g => br_t (nI_le (by omega) (by omega)) (p0 (fun z => ?_))) (fun g => And.intro (zn_i hx) (And.intro (zn_i y48) (br_c (fun g2 => p0 (fun z => ?_)) (fun g2 => p1 (Or.inr ⟨e, Int32.not_le.mp g2⟩)))))))) (fun e => And.intro (zn_i hx) (And.intro (zn_i y48) (zn_if (nI_leI (by omega) (by omega)) (fun g => p0 (fun z => ?_)) (fun g => p1 (Or.inl ⟨e, by omega⟩)))))
  · rcases z with z | z
    · exact z.1 e
    · rw [g] at z
      exact Int32.lt_irrefl z.2
  · rcases z with z | z
    · exact z.1 e
    · exact Int32.not_le.mpr z.2 g2
  · rcases z with z | z
    · omega
    · exact e z.1
end YG
section YH
variable {c L : Nat} {gs go gm : Int32} {amk atm aco ard awi bvo bfa bdc brc bfi bor bso : Nat → Int32} {bun bwe : Nat → Int64} {M P RL Ro kn kf R : Nat → Nat} {U W : Nat → Nat → Prop} {post : SY → Prop} {rc : Nat → Nat} {tf : Nat → Int32}
theorem zy_put_45 {x k N : Nat} (hk : k < 48) (h : post ((nI c), (nI L), gs, (nI (N + 1)), gm, amk, atm, aco, bun, bwe, ard, awi, bvo, bfa, bdc, brc, bfi, (upd bor k (nI x)), bso)) : wY_putInOrder_45 post (nI x) (nI k) (nI c) (nI L) gs (nI N) gm amk atm aco bun bwe ard awi bvo bfa bdc brc bfi bor bso :=
  And.intro (zn_i hk) (nm_r (e' := upd bor k (nI x)) (by rw [zn_c hk]) (nm_r (nI_1 N) h))
theorem zy_put_l {x N : Nat} {a : Nat → Nat} (hx : x < 48) (hN : N ≤ x) (hl : ∀ i, i < N → a i < x) (hb : ∀ y, y ≤ x → rc y ≤ 48) (hr : brc x = nI (rc x)) (hra : ∀ i, i < N → brc (a i) = nI (rc (a i))) (ht : bfi x = tf x) (hta : ∀ i, i < N → bfi (a i) = tf (a i))
    (hp : ∀ bor : Nat → Int32, (∀ i, i < N + 1 → bor i = nI (zi_a a (zi_k (fun y => ¬ zo_B rc tf x y) a N) x i)) → post ((nI c), (nI L), gs, (nI (N + 1)), gm, amk, atm, aco, bun, bwe, ard, awi, bvo, bfa, bdc, brc, bfi, bor, bso)) :
    ∀ (k : Nat) (bor : Nat → Int32), zi_I nI (fun y => ¬ zo_B rc tf x y) a N k bor → wY_putInOrder_5 post (nI x) (nI c) (nI L) gs (nI N) gm (k + 1) (nI k) amk atm aco bun bwe ard awi bvo bfa bdc brc bfi bor bso := by
  have fin : ∀ (k : Nat) (bor : Nat → Int32), zi_I nI (fun y => ¬ zo_B rc tf x y) a N k bor → (k = 0 ∨ ¬ zo_B rc tf x (a (k - 1))) → wY_putInOrder_45 post (nI x) (nI k) (nI c) (nI L) gs (nI N) gm amk atm aco bun bwe ard awi bvo bfa bdc brc bfi bor bso := by
    intro k bor hI hs
    have kN := hI.1
    exact zy_put_45 (by omega) (hp _ (zi_end (v := x) hI hs).2)
  intro k
  induction k with
  | zero =>
    intro bor hI
    exact br_t ((zn_le0 (by omega)).mpr rfl) (fin 0 bor hI (Or.inl rfl))
  | succ q ih =>
    intro bor hI
    have hq := hI.1
    have eq : bor q = nI (a q) := hI.2.1 q (by omega)
    have q48 : q < 48 := by omega
    have q148 : q + 1 < 48 := by omega
    have la := hl q (by omega)
    refine br_f (fun z => absurd ((zn_le0 (by omega)).mp z) (by omega)) ?_
    rw [nI_pred, zn_c q48, eq]
    refine And.intro (zn_i q48) (zy_before hx la (hb x (Nat.le_refl x)) (hb (a q) (by omega)) hr (hra q (by omega)) ht (hta q (by omega)) (fun g => br_f zo_10 ?_) (fun g => br_t rfl (fin (q + 1) bor hI (Or.inr g))))
    refine And.intro (zn_i q48) (And.intro (zn_i q148) ?_)
    rw [zn_c q148]
    refine nm_e (nm_r (pk_m1 q) (ih _ ?_))
    rw [← eq]
    exact zi_step hI (fun z => z g)
theorem zy_put {x N : Nat} {a : Nat → Nat} (hx : x < 48) (hN : N ≤ x) (hl : ∀ i, i < N → a i < x) (hb : ∀ y, y ≤ x → rc y ≤ 48) (hr : brc x = nI (rc x)) (hra : ∀ i, i < N → brc (a i) = nI (rc (a i))) (ht : bfi x = tf x) (hta : ∀ i, i < N → bfi (a i) = tf (a i)) (ho : ∀ i, i < N → bor i = nI (a i))
    (hp : ∀ bor : Nat → Int32, (∀ i, i < N + 1 → bor i = nI (zi_a a (zi_k (fun y => ¬ zo_B rc tf x y) a N) x i)) → post ((nI c), (nI L), gs, (nI (N + 1)), gm, amk, atm, aco, bun, bwe, ard, awi, bvo, bfa, bdc, brc, bfi, bor, bso)) : wpY_putInOrder post ((nI c), (nI L), gs, (nI N), gm, amk, atm, aco, bun, bwe, ard, awi, bvo, bfa, bdc, brc, bfi, bor, bso) (nI x) :=
  Exists.intro (N + 1) (zy_put_l hx hN hl hb hr hra ht hta hp N bor (zi_go ho))
end YH
end
section
section YI
variable {c L : Nat} {gs go gm : Int32} {amk atm aco ard awi bvo bfa bdc brc bfi bor bso : Nat → Int32} {bun bwe : Nat → Int64} {M P RL Ro kn kf R : Nat → Nat} {U W : Nat → Nat → Prop} {post : SY → Prop} {rc f : Nat → Nat} {tf : Nat → Int32} {s : Nat} {avo ade : Nat → Int32}
def zq_J (rc : Nat → Nat) (tf : Nat → Int32) (x : Nat) (go : Int32) (brc bfi bor : Nat → Int32) : Prop :=
  go = nI (zc_ct (fun j => ¬ rc j = 0) x) ∧ (∀ j, j < x → brc j = nI (rc j) ∧ bfi j = (if rc j = 0 then 0 else tf j)) ∧ (∀ i, i < zc_ct (fun j => ¬ rc j = 0) x → bor i = nI (zo_a rc tf x i))
theorem zy_95 {J : Int32 → Int32 → Int32 → Int32 → Int32 → Int32 → (Nat → Int32) → (Nat → Int32) → (Nat → Int32) → (Nat → Int64) → (Nat → Int64) → (Nat → Int32) → (Nat → Int32) → (Nat → Int32) → (Nat → Int32) → (Nat → Int32) → (Nat → Int32) → (Nat → Int32) → (Nat → Int32) → (Nat → Int32) → Prop} {x : Nat} (hc : c ≤ 48) (hx : x < c) (hs : s ≤ 48) (hmk : ∀ j, amk j = nI (M j)) (hM : ∀ j, M j < 4) (hrd : ∀ j, ard j = nI (R j)) (hRb : ∀ j, j < c → R j ≤ 48) (hf : ∀ j, j < c → ¬ awi j = 0 → bfa j = nI (f j) ∧ f j ≤ 2) (hbu : ∀ x y, zb_l (bun y) x = true ↔ U x y) (hU : zg_U c M U) (hR : zg_R c M P RL Ro) (hF : zg_F c M P RL U kf)
    (h1 : ∀ r, 1 ≤ r → r ≤ s → 0 < zc_ct (zt_p R awi f r) c) (hrc : ∀ y, rc y = zr_l (zr_U c R awi f U y) s) (htf : ∀ y, tf y = zt_a (zt_p R awi f (rc y)) (zt_g M Ro kf atm y) c (zc_ct (zt_p R awi f (rc y)) c / 2)) (hI : ∀ brc2 : Nat → Int32, (∀ j, j ≠ x → brc2 j = brc j) → zq_J rc tf x go brc2 bfi bor) (h0 : bfi x = 0)
    (hJ : ∀ (go gm : Int32) (brc bfi bor bso : Nat → Int32), zq_J rc tf (x + 1) go brc bfi bor → J (nI (x + 1)) (nI c) (nI L) (nI s) go gm amk atm aco bun bwe ard awi bvo bfa bdc brc bfi bor bso) :
    ∀ (r : Nat) (brc2 : Nat → Int32) (v : Nat), r ≤ s → (∀ j, j ≠ x → brc2 j = brc j) → brc2 x = nI v → rc x = (if zr_l (zr_U c R awi f U x) r = 0 then v else zr_l (zr_U c R awi f U x) r) → wY_workOut_95 post J (nI x) (nI c) (nI L) (nI s) go gm (r + 1) (nI r) amk atm aco bun bwe ard awi bvo bfa bdc brc2 bfi bor bso := by
  have x48 : x < 48 := by omega
  have hb : ∀ y, rc y ≤ s := fun y => by
    have := zr_le (T := zr_U c R awi f U y) s
    rw [← hrc] at this
    omega
  intro r
  induction r with
  | zero =>
    intro brc2 v hr ho hv hz
    have ev : rc x = v := hz
    have bv := hb x
    obtain ⟨i1, i2, i3⟩ := hI brc2 ho
    subst i1
    have olt := zo_lt (rc := rc) (ft := tf) x
    refine br_t ((zn_le0 (by omega)).mpr rfl) (And.intro (zn_i x48) ?_)
    rw [zn_c x48, hv]
    refine zn_if (zn_le0 (by omega)) (fun g => nm_r (nI_1 x) (hJ _ _ _ _ _ _ ⟨?_, fun j hj => ?_, fun i hi => ?_⟩)) (fun g => And.intro (zn_i x48) ?_)
    · rw [zc_sf (fun z => z (by omega))]
    · by_cases e : j = x
      · subst e
        rw [hv, h0, ev, if_pos g]
        exact ⟨rfl, rfl⟩
      · exact i2 j (by omega)
    · rw [zc_sf (fun z => z (by omega))] at hi
      rw [zo_2 (by omega)]
      exact i3 i hi
    · have hne : ¬ rc x = 0 := by omega
      have hT : zr_U c R awi f U x (rc x) := by
        have := zr_T (T := zr_U c R awi f U x) s (by rw [← hrc]; exact hne)
        rw [← hrc] at this
        exact this
      rw [← ev]
      refine zy_finalOf hc hx (by omega) hmk hM hrd hRb hf hbu hU hR hF (h1 _ (by omega) (hb x)) hT (fun gm bso => And.intro (zn_i x48) ?_)
      rw [← htf]
      refine nm_e ?_
      refine zy_put (rc := rc) (tf := tf) (a := zo_a rc tf x) x48 (zc_le x) (fun i hi => (olt i hi).1) (fun y _ => by have := hb y; omega) (by rw [hv, ev]) (fun i hi => (i2 _ (olt i hi).1).1) pk_us (fun i hi => ?_) i3 (fun bor2 g2 => nm_r (nI_1 x) (hJ _ _ _ _ _ _ ⟨?_, fun j hj => ?_, fun i hi => ?_⟩))
      · have q := olt i hi
        rw [pk_un (by omega), (i2 _ q.1).2, if_neg q.2]
      · rw [zc_st hne]
      · by_cases e : j = x
        · subst e
          rw [hv, ev, pk_us, if_neg (by omega)]
          exact ⟨rfl, rfl⟩
        · rw [pk_un e]
          exact i2 j (by omega)
      · rw [zc_st hne] at hi
        rw [zo_1 hne]
        exact g2 i hi
  | succ r ih =>
    intro brc2 v hr ho hv hz
    refine br_f (fun z => absurd ((zn_le0 (by omega)).mp z) (by omega)) ?_
    refine zy_isReceived (f := f) hc hx (by omega) hrd hRb hf hbu (fun t1 => br_f zo_10 (And.intro (zn_i x48) ?_)) (fun t0 => br_t rfl (nm_r (pk_m1 r) (ih brc2 v (by omega) ho hv ?_)))
    · rw [zn_c x48]
      refine nm_e (nm_r (pk_m1 r) (ih _ (r + 1) (by omega) (fun j hj => by rw [pk_un hj]; exact ho j hj) pk_us ?_))
      rw [hz]
      by_cases e : zr_l (zr_U c R awi f U x) r = 0
      · rw [if_pos e, zr_1 e t1, if_neg (by omega)]
      · rw [if_neg e, zr_3 e, if_neg e]
    · rw [hz]
      by_cases e : zr_l (zr_U c R awi f U x) r = 0
      · rw [if_pos e, zr_2 e t0, if_pos rfl]
      · rw [if_neg e, zr_3 e, if_neg e]
theorem zy_68 (hc : c ≤ 48) (hs : s ≤ 48) (hmk : ∀ j, amk j = nI (M j)) (hM : ∀ j, M j < 4) (hrd : ∀ j, ard j = nI (R j)) (hRb : ∀ j, j < c → R j ≤ 48) (hf : ∀ j, j < c → ¬ awi j = 0 → bfa j = nI (f j) ∧ f j ≤ 2) (hbu : ∀ x y, zb_l (bun y) x = true ↔ U x y) (hU : zg_U c M U) (hR : zg_R c M P RL Ro) (hF : zg_F c M P RL U kf)
    (h1 : ∀ r, 1 ≤ r → r ≤ s → 0 < zc_ct (zt_p R awi f r) c) (hrc : ∀ y, rc y = zr_l (zr_U c R awi f U y) s) (htf : ∀ y, tf y = zt_a (zt_p R awi f (rc y)) (zt_g M Ro kf atm y) c (zc_ct (zt_p R awi f (rc y)) c / 2))
    (hp : ∀ (go gm : Int32) (brc bfi bor bso : Nat → Int32), zq_J rc tf c go brc bfi bor → post ((nI c), (nI L), (nI s), go, gm, amk, atm, aco, bun, bwe, ard, awi, bvo, bfa, bdc, brc, bfi, bor, bso)) :
    ∀ (d x : Nat) (go gm : Int32) (brc bfi bor bso : Nat → Int32), x + d = c → zq_J rc tf x go brc bfi bor → wY_workOut_68 post (d + 1) (nI x) (nI c) (nI L) (nI s) go gm amk atm aco bun bwe ard awi bvo bfa bdc brc bfi bor bso := by
  intro d
  induction d with
  | zero =>
    intro x go gm brc bfi bor bso hx hI
    have e : x = c := by omega
    subst e
    exact br_t (nI_le (Nat.le_refl _) (by omega)) (hp _ _ _ _ _ _ hI)
  | succ d ih =>
    intro x go gm brc bfi bor bso hx hI
    have x48 : x < 48 := by omega
    refine br_f (nI_ge (by omega) (by omega)) (And.intro (zn_i x48) ?_)
    rw [zn_c x48]
    refine nm_e (And.intro (zn_i x48) (nm_e (Exists.intro (s + 1) ?_)))
    refine zy_95 (f := f) (U := U) (brc := upd brc x 0) hc (by omega) hs hmk hM hrd hRb hf hbu hU hR hF h1 hrc htf ?_ pk_us (fun go gm brc bfi bor bso h => ih (x + 1) go gm brc bfi bor bso (by omega) h) s (upd brc x 0) 0 (Nat.le_refl s) (fun _ _ => rfl) pk_us ?_
    · intro brc2 ho
      obtain ⟨i1, i2, i3⟩ := hI
      refine ⟨i1, fun j hj => ?_, i3⟩
      rw [ho j (by omega), pk_un (by omega), pk_un (by omega)]
      exact i2 j hj
    · rw [hrc]
      by_cases e : zr_l (zr_U c R awi f U x) s = 0
      · rw [if_pos e, e]
      · rw [if_neg e]
theorem zy_35 (hc : c ≤ 48) (hL : L ≤ 48) (hmk : ∀ j, amk j = nI (M j)) (hM : ∀ j, M j < 4) (hrd : ∀ j, ard j = nI (R j)) (hRb : ∀ j, j < c → R j ≤ 48) (hf : ∀ j, j < c → ¬ awi j = 0 → bfa j = nI (f j) ∧ f j ≤ 2) (hbu : ∀ x y, zb_l (bun y) x = true ↔ U x y) (hU : zg_U c M U) (hR : zg_R c M P RL Ro) (hF : zg_F c M P RL U kf)
    (hse : s = zs_g (zs_S c L R awi f) L) (hrc : ∀ y, rc y = zr_l (zr_U c R awi f U y) s) (htf : ∀ y, tf y = zt_a (zt_p R awi f (rc y)) (zt_g M Ro kf atm y) c (zc_ct (zt_p R awi f (rc y)) c / 2))
    (hp : ∀ (go gm : Int32) (brc bfi bor bso : Nat → Int32), zq_J rc tf c go brc bfi bor → post ((nI c), (nI L), (nI s), go, gm, amk, atm, aco, bun, bwe, ard, awi, bvo, bfa, bdc, brc, bfi, bor, bso)) :
    ∀ (d k : Nat), k + d = L → zs_g (zs_S c L R awi f) k = k → wY_workOut_35 post (nI c) (nI L) go gm amk atm aco bun bwe ard awi bvo bfa bdc brc bfi bor bso (d + 1) (nI k) := by
  have sL : s ≤ L := by rw [hse]; exact zs_le L
  have fin : ∃ n : Nat, wY_workOut_68 post n 0 (nI c) (nI L) (nI s) 0 gm amk atm aco bun bwe ard awi bvo bfa bdc brc bfi bor bso := by
    refine ⟨c + 1, zy_68 (f := f) (U := U) hc (by omega) hmk hM hrd hRb hf hbu hU hR hF (fun r h1 h2 => ?_) hrc htf hp c 0 _ _ _ _ _ _ (by omega) ⟨rfl, fun j hj => absurd hj (Nat.not_lt_zero j), fun i hi => absurd hi (Nat.not_lt_zero i)⟩⟩
    rw [hse] at h2
    obtain ⟨x, hx, p⟩ := (zs_all L r h1 h2).2.1
    exact (zc_pos (p := zt_p R awi f r) c).mpr ⟨x, hx, p⟩
  intro d
  induction d with
  | zero =>
    intro k hk hg
    have e : k = L := by omega
    have e2 : s = k := by
      rw [e] at hg
      rw [hse, hg, e]
    rw [e2] at fin
    unfold wY_workOut_35
    rw [nI_1]
    refine zy_isSettled (f := f) hc hL (by omega) hrd hRb hf (fun t1 => ?_) (fun t0 => br_t rfl fin)
    have := t1.2.2
    omega
  | succ d ih =>
    intro k hk hg
    unfold wY_workOut_35
    rw [nI_1]
    refine zy_isSettled (f := f) hc hL (by omega) hrd hRb hf (fun t1 => br_f zo_10 (nm_e (ih (k + 1) (by omega) (zs_next hg t1)))) (fun t0 => br_t rfl ?_)
    have e2 : s = k := by
      have := zs_up hg t0 (d + 1)
      rw [show k + (d + 1) = L by omega] at this
      rw [hse, this]
    rw [e2] at fin
    exact fin
def zz_Y (c L : Nat) (R : Nat → Nat) (wi de vo : Nat → Int32) (U : Nat → Nat → Prop) (M Ro kf : Nat → Nat) (tm : Nat → Int32) (gs go : Int32) (brc bfi bor : Nat → Int32) : Prop :=
  gs = nI (zf_s c L R wi de vo) ∧ zq_J (zf_r c L R wi de vo U) (zf_t c L R wi de vo U M Ro kf tm) c go brc bfi bor
theorem zy_2 (emk : ∀ j, amk j = nI (M j)) (erd : ∀ j, ard j = nI (R j)) (hFF : zz_F c L M P RL Ro kn kf R awi aco avo ade U W) (hbu : ∀ x y, zb_l (bun y) x = true ↔ U x y) (hbw : ∀ x y, zb_l (bwe y) x = true ↔ W x y)
    (hp : ∀ (gs go gm : Int32) (bvo bfa bdc brc bfi bor bso : Nat → Int32), zz_Y c L R awi ade avo U M Ro kf atm gs go brc bfi bor → post ((nI c), (nI L), gs, go, gm, amk, atm, aco, bun, bwe, ard, awi, bvo, bfa, bdc, brc, bfi, bor, bso)) :
    ∀ (d x : Nat) (gs go gm : Int32) (bvo bfa bdc brc bfi bor bso : Nat → Int32), x + d = c → (∀ j, j < x → ¬ awi j = 0 → bfa j = nI (zf_f c L R awi ade avo j)) → wY_workOut_2 post (d + 1) (nI x) (nI c) (nI L) gs go gm amk atm aco bun bwe ard awi bvo bfa bdc brc bfi bor bso := by
  obtain ⟨hc8, hU, hR, hK, hF, hW, hO, hV, hco, hM4⟩ := hFF
  have hL := hO.2.1
  have hRb : ∀ j, j < c → 1 ≤ R j ∧ R j ≤ 48 := fun j hj => by have := hO.1 j hj; omega
  intro d
  induction d with
  | zero =>
    intro x gs go gm bvo bfa bdc brc bfi bor bso hx hI
    have e : x = c := by omega
    subst e
    refine br_t (nI_le (Nat.le_refl _) (by omega)) (Exists.intro (L + 1) ?_)
    exact zy_35 (f := zf_f x L R awi ade avo) (U := U) (s := zf_s x L R awi ade avo) (rc := zf_r x L R awi ade avo U) (tf := zf_t x L R awi ade avo U M Ro kf atm) hc8 (by omega) emk hM4 erd (fun j hj => (hRb j hj).2) (fun j hj w1 => ⟨hI j hj w1, zd_m2⟩) hbu hU hR hF rfl (fun _ => rfl) (fun _ => rfl) (fun go gm brc bfi bor bso h => hp _ _ _ _ _ _ _ _ _ _ ⟨rfl, h⟩) L 0 (by omega) rfl
  | succ d ih =>
    intro x gs go gm bvo bfa bdc brc bfi bor bso hx hI
    have x48 : x < 48 := by omega
    refine br_f (nI_ge (by omega) (by omega)) (And.intro (zn_i x48) ?_)
    rw [zn_c x48]
    refine br_c (fun w0 => nm_r (nI_1 x) (ih (x + 1) _ _ _ _ _ _ _ _ _ _ (by omega) (fun j hj w1 => ?_))) (fun w1 => ?_)
    · exact hI j (by by_cases e : j = x; subst e; exact absurd w0 w1; omega) w1
    · refine zy_ask (U := U) (W := W) hc8 (by omega) w1 (by omega) ((hO.1 x (by omega)).2.2) erd hRb hco hbu hbw hV (fun bvo2 bfa2 bdc2 h2 => nm_r (nI_1 x) (ih (x + 1) _ _ _ _ _ _ _ _ _ _ (by omega) (fun j hj wj => ?_)))
      by_cases e : j = x
      · subst e
        have e1 : zf_d c L R awi ade j = zd_d c L R awi ade j := if_neg w1
        unfold zf_f
        rw [e1, h2.2.1]
      · rw [(h2.2.2 j e).2]
        exact hI j (by omega) wj
theorem zy_workOut (emk : ∀ j, amk j = nI (M j)) (erd : ∀ j, ard j = nI (R j)) (hFF : zz_F c L M P RL Ro kn kf R awi aco avo ade U W) (hbu : ∀ x y, zb_l (bun y) x = true ↔ U x y) (hbw : ∀ x y, zb_l (bwe y) x = true ↔ W x y)
    (hp : ∀ (gs go gm : Int32) (bvo bfa bdc brc bfi bor bso : Nat → Int32), zz_Y c L R awi ade avo U M Ro kf atm gs go brc bfi bor → post ((nI c), (nI L), gs, go, gm, amk, atm, aco, bun, bwe, ard, awi, bvo, bfa, bdc, brc, bfi, bor, bso)) : wpY_workOut post ((nI c), (nI L), gs, go, gm, amk, atm, aco, bun, bwe, ard, awi, bvo, bfa, bdc, brc, bfi, bor, bso) :=
  Exists.intro (c + 1) (zy_2 emk erd hFF hbu hbw hp c 0 _ _ _ _ _ _ _ _ _ _ (by omega) (fun j hj => absurd hj (Nat.not_lt_zero j)))
end YI
end
section
/-- the two objects hold the same events -/
def i_Rel (_ : Nat) (u : SX) (v : SY) : Prop := ∃ (c L : Nat) (ff fs fo ft : Int32) (amk atm aco apl arl aro akn akf ard awi avo ade afa adc arc aft aor apo ast : Nat → Int32) (gs go gm : Int32) (bvo bfa bdc brc bfi bor bso : Nat → Int32) (bun bwe : Nat → Int64) (M P RL Ro kn kf R : Nat → Nat) (U W : Nat → Nat → Prop), u = ((nI c), (nI L), ff, fs, fo, ft, amk, atm, aco, apl, arl, aro, akn, akf, ard, awi, avo, ade, afa, adc, arc, aft, aor, apo, ast) ∧ v = ((nI c), (nI L), gs, go, gm, amk, atm, aco, bun, bwe, ard, awi, bvo, bfa, bdc, brc, bfi, bor, bso) ∧ zz_E amk apl arl aro akn akf ard M P RL Ro kn kf R ∧ zz_F c L M P RL Ro kn kf R awi aco avo ade U W ∧ (∀ x y, zb_l (bun y) x = true ↔ U x y) ∧ (∀ x y, zb_l (bwe y) x = true ↔ W x y) ∧ (¬ ff = 0 → zz_X c L R awi ade avo U M Ro kf atm fs fo afa adc arc aft aor apo)
theorem zz_el {k : Nat} {u : SX} {v : SY} {Q : SX → SY → Prop} (h : ∀ (c L : Nat) (ff fs fo ft : Int32) (amk atm aco apl arl aro akn akf ard awi avo ade afa adc arc aft aor apo ast : Nat → Int32) (gs go gm : Int32) (bvo bfa bdc brc bfi bor bso : Nat → Int32) (bun bwe : Nat → Int64) (M P RL Ro kn kf R : Nat → Nat) (U W : Nat → Nat → Prop), zz_E amk apl arl aro akn akf ard M P RL Ro kn kf R ∧ zz_F c L M P RL Ro kn kf R awi aco avo ade U W ∧ (∀ x y, zb_l (bun y) x = true ↔ U x y) ∧ (∀ x y, zb_l (bwe y) x = true ↔ W x y) ∧ (¬ ff = 0 → zz_X c L R awi ade avo U M Ro kf atm fs fo afa adc arc aft aor apo) → Q ((nI c), (nI L), ff, fs, fo, ft, amk, atm, aco, apl, arl, aro, akn, akf, ard, awi, avo, ade, afa, adc, arc, aft, aor, apo, ast) ((nI c), (nI L), gs, go, gm, amk, atm, aco, bun, bwe, ard, awi, bvo, bfa, bdc, brc, bfi, bor, bso)) (I : i_Rel k u v) : Q u v :=
  Exists.elim I (fun c I => Exists.elim I (fun L I => Exists.elim I (fun ff I => Exists.elim I (fun fs I => Exists.elim I (fun fo I => Exists.elim I (fun ft I => Exists.elim I (fun amk I => Exists.elim I (fun atm I => Exists.elim I (fun aco I => Exists.elim I (fun apl I => Exists.elim I (fun arl I => Exists.elim I (fun aro I => Exists.elim I (fun akn I => Exists.elim I (fun akf I => Exists.elim I (fun ard I => Exists.elim I (fun awi I => Exists.elim I (fun avo I => Exists.elim I (fun ade I => Exists.elim I (fun afa I => Exists.elim I (fun adc I => Exists.elim I (fun arc I => Exists.elim I (fun aft I => Exists.elim I (fun aor I => Exists.elim I (fun apo I => Exists.elim I (fun ast I => Exists.elim I (fun gs I => Exists.elim I (fun go I => Exists.elim I (fun gm I => Exists.elim I (fun bvo I => Exists.elim I (fun bfa I => Exists.elim I (fun bdc I => Exists.elim I (fun brc I => Exists.elim I (fun bfi I => Exists.elim I (fun bor I => Exists.elim I (fun bso I => Exists.elim I (fun bun I => Exists.elim I (fun bwe I => Exists.elim I (fun M I => Exists.elim I (fun P I => Exists.elim I (fun RL I => Exists.elim I (fun Ro I => Exists.elim I (fun kn I => Exists.elim I (fun kf I => Exists.elim I (fun R I => Exists.elim I (fun U I => Exists.elim I (fun W I =>  Eq.subst (motive := fun u => Q u v) I.1.symm (Eq.subst (motive := fun v => Q ((nI c), (nI L), ff, fs, fo, ft, amk, atm, aco, apl, arl, aro, akn, akf, ard, awi, avo, ade, afa, adc, arc, aft, aor, apo, ast) v) I.2.1.symm (h c L ff fs fo ft amk atm aco apl arl aro akn akf ard awi avo ade afa adc arc aft aor apo ast gs go gm bvo bfa bdc brc bfi bor bso bun bwe M P RL Ro kn kf R U W I.2.2)) ))))))))))))))))))))))))))))))))))))))))))))))
section RE
variable {c L : Nat} {ff fs fo ft : Int32} {amk atm aco apl arl aro akn akf ard awi avo ade afa adc arc aft aor apo ast : Nat → Int32} {gs go gm : Int32} {bvo bfa bdc brc bfi bor bso : Nat → Int32} {bun bwe : Nat → Int64} {M P RL Ro kn kf R : Nat → Nat} {U W : Nat → Nat → Prop} {k : Nat}
theorem zz_in (hE : zz_E amk apl arl aro akn akf ard M P RL Ro kn kf R) (hFF : zz_F c L M P RL Ro kn kf R awi aco avo ade U W) (hbu : ∀ x y, zb_l (bun y) x = true ↔ U x y) (hbw : ∀ x y, zb_l (bwe y) x = true ↔ W x y) (hX : ¬ ff = 0 → zz_X c L R awi ade avo U M Ro kf atm fs fo afa adc arc aft aor apo) : i_Rel k ((nI c), (nI L), ff, fs, fo, ft, amk, atm, aco, apl, arl, aro, akn, akf, ard, awi, avo, ade, afa, adc, arc, aft, aor, apo, ast) ((nI c), (nI L), gs, go, gm, amk, atm, aco, bun, bwe, ard, awi, bvo, bfa, bdc, brc, bfi, bor, bso) :=
  ⟨c, L, ff, fs, fo, ft, amk, atm, aco, apl, arl, aro, akn, akf, ard, awi, avo, ade, afa, adc, arc, aft, aor, apo, ast, gs, go, gm, bvo, bfa, bdc, brc, bfi, bor, bso, bun, bwe, M, P, RL, Ro, kn, kf, R, U, W, rfl, rfl, hE, hFF, hbu, hbw, hX⟩
end RE
theorem i_up {k : Nat} {u : SX} {v : SY} (h : i_Rel k u v) : i_Rel (k + 5) u v := h
theorem i_vc0 : wpX_init (fun u => wpY_init (fun v => i_Rel 0 u v)) := by
  refine zz_in (k := 0) (c := 0) (L := 0) (M := fun _ => 0) (P := fun _ => 0) (RL := fun _ => 0) (Ro := fun _ => 0) (kn := fun _ => 1) (kf := fun _ => 1) (R := fun _ => 0) (U := fun _ _ => False) (W := fun _ _ => False) ⟨fun _ => rfl, fun _ => rfl, fun _ => rfl, fun _ => rfl, fun _ => zp_1.symm, fun _ => zp_1.symm, fun _ => rfl⟩ ?_ ?_ ?_ (fun h => absurd rfl h)
  · refine ⟨by omega, ⟨fun x hx => absurd hx (Nat.not_lt_zero x), fun x hx => absurd hx (Nat.not_lt_zero x), fun x y hy => absurd hy (Nat.not_lt_zero y), fun x y z hz => absurd hz (Nat.not_lt_zero z), fun x y hy => absurd hy (Nat.not_lt_zero y)⟩, ⟨fun m hm => Nat.le_refl 0, fun x hx => absurd hx (Nat.not_lt_zero x), fun m p hm hp => absurd hp (Nat.not_lt_zero p), fun x y hx => absurd hx (Nat.not_lt_zero x)⟩, ⟨fun y m hy => absurd hy (Nat.not_lt_zero y), fun x y hx => absurd hx (Nat.not_lt_zero x)⟩, ⟨fun y m hy => absurd hy (Nat.not_lt_zero y), fun x y hx => absurd hx (Nat.not_lt_zero x)⟩, ⟨fun x y hy => absurd hy (Nat.not_lt_zero y), fun x y hx => absurd hx (Nat.not_lt_zero x)⟩, ⟨fun x hx => absurd hx (Nat.not_lt_zero x), Nat.le_refl 0, fun x y hl hy => absurd hy (Nat.not_lt_zero y)⟩, fun x y hx => absurd hx (Nat.not_lt_zero x), fun j => Or.inl rfl, fun j => show 0 < 4 by decide⟩
  · intro x y
    rw [zb_0]
    exact ⟨fun h => absurd h Bool.false_ne_true, fun h => h.elim⟩
  · intro x y
    rw [zb_0]
    exact ⟨fun h => absurd h Bool.false_ne_true, fun h => h.elim⟩
end
section
section QA
variable {c L : Nat} {ff fs fo ft : Int32} {amk atm aco apl arl aro akn akf ard awi avo ade afa adc arc aft aor apo ast : Nat → Int32} {gs go gm : Int32} {bvo bfa bdc brc bfi bor bso : Nat → Int32} {bun bwe : Nat → Int64} {M P RL Ro kn kf R : Nat → Nat} {U W : Nat → Nat → Prop} {post : Int32 → Prop}
/-! counting witnesses -/
theorem zx_wits {v : Int32} (hc : c ≤ 48) (h : post (nI (zc_ct (fun w => ¬ awi w = 0 ∧ ard w = v) c))) : wpX_witnesses post ((nI c), (nI L), ff, fs, fo, ft, amk, atm, aco, apl, arl, aro, akn, akf, ard, awi, avo, ade, afa, adc, arc, aft, aor, apo, ast) v := by
  have lp : ∀ d j, j + d = c → wX_witnesses_4 post v (nI c) (nI L) ff fs fo ft amk atm aco apl arl aro akn akf ard awi avo ade afa adc arc aft aor apo ast (d + 1) (nI (zc_ct (fun w => ¬ awi w = 0 ∧ ard w = v) j)) (nI j) := by
    intro d
    induction d with
    | zero =>
      intro j hj
      have e : j = c := by omega
      subst e
      exact br_t (nI_le (Nat.le_refl _) (by omega)) h
    | succ d ih =>
      intro j hj
      have j48 : j < 48 := by omega
      have g := ih (j + 1) (by omega)
      refine br_f (nI_ge (by omega) (by omega)) (And.intro (zn_i j48) ?_)
      rw [zn_c j48]
      refine br_c (fun w0 => ?_) (fun w1 => And.intro (zn_i j48) (br_c (fun e => ?_) (fun e => ?_)))
      · rw [zc_sf (fun z => z.1 w0)] at g
        exact nm_r (zn_add0 _) (nm_r (nI_1 j) g)
      · rw [zc_st ⟨w1, e⟩] at g
        exact nm_r (nI_1 _) (nm_r (nI_1 j) g)
      · rw [zc_sf (fun z => e z.2)] at g
        exact nm_r (zn_add0 _) (nm_r (nI_1 j) g)
  exact Exists.intro (c + 1) (lp c 0 (by omega))
theorem zy_wits {v : Int32} (hc : c ≤ 48) (h : post (nI (zc_ct (fun w => ¬ awi w = 0 ∧ ard w = v) c))) : wpY_witnesses post ((nI c), (nI L), gs, go, gm, amk, atm, aco, bun, bwe, ard, awi, bvo, bfa, bdc, brc, bfi, bor, bso) v := by
  have lp : ∀ d j, j + d = c → wY_witnesses_4 post v (nI c) (nI L) gs go gm amk atm aco bun bwe ard awi bvo bfa bdc brc bfi bor bso (d + 1) (nI (zc_ct (fun w => ¬ awi w = 0 ∧ ard w = v) j)) (nI j) := by
    intro d
    induction d with
    | zero =>
      intro j hj
      have e : j = c := by omega
      subst e
      exact br_t (nI_le (Nat.le_refl _) (by omega)) h
    | succ d ih =>
      intro j hj
      have j48 : j < 48 := by omega
      have g := ih (j + 1) (by omega)
      refine br_f (nI_ge (by omega) (by omega)) (zy_isWit j48 (fun w1 e => br_f zo_10 ?_) (fun hn => br_t rfl ?_))
      · rw [zc_st ⟨w1, e⟩] at g
        exact nm_r (nI_1 _) (nm_r (nI_1 j) g)
      · rw [zc_sf hn] at g
        exact nm_r (nI_1 j) g
  exact Exists.intro (c + 1) (lp c 0 (by omega))
end QA
section QB
variable {c L : Nat} {ff fs fo ft : Int32} {amk atm aco apl arl aro akn akf ard awi avo ade afa adc arc aft aor apo ast : Nat → Int32} {gs go gm : Int32} {bvo bfa bdc brc bfi bor bso : Nat → Int32} {bun bwe : Nat → Int64} {M P RL Ro kn kf R : Nat → Nat} {U W : Nat → Nat → Prop} {N : Nat}
/-! the digest -/
def zq_s (a : Nat → Nat) : Nat → Int32
  | 0 => 0
  | k + 1 => zq_s a k + (nI (k + 1)) * (nI (a k) + 1)
theorem zx_dig {post : Int32 → SX → Prop} {a : Nat → Nat} (hN : N ≤ 48) (ha : ∀ i, i < N → aor i = nI (a i)) (h : post (zq_s a N) ((nI c), (nI L), ff, fs, (nI N), ft, amk, atm, aco, apl, arl, aro, akn, akf, ard, awi, avo, ade, afa, adc, arc, aft, aor, apo, ast)) : ∃ n : Nat, wX_digest_8 post (nI c) (nI L) ff fs (nI N) ft amk atm aco apl arl aro akn akf ard awi avo ade afa adc arc aft aor apo ast n 0 0 := by
  have lp : ∀ d j, j + d = N → wX_digest_8 post (nI c) (nI L) ff fs (nI N) ft amk atm aco apl arl aro akn akf ard awi avo ade afa adc arc aft aor apo ast (d + 1) (zq_s a j) (nI j) := by
    intro d
    induction d with
    | zero =>
      intro j hj
      have e : j = N := by omega
      subst e
      exact br_t (nI_le (Nat.le_refl _) (by omega)) h
    | succ d ih =>
      intro j hj
      have j48 : j < 48 := by omega
      refine br_f (nI_ge (by omega) (by omega)) (And.intro (zn_i j48) ?_)
      rw [zn_c j48, ha j (by omega), nI_1]
      exact nm_e (nm_e (ih (j + 1) (by omega)))
  exact ⟨N + 1, lp N 0 (by omega)⟩
theorem zy_dig {post : Int32 → SY → Prop} {a : Nat → Nat} (hN : N ≤ 48) (ha : ∀ i, i < N → bor i = nI (a i)) (h : post (zq_s a N) ((nI c), (nI L), gs, (nI N), gm, amk, atm, aco, bun, bwe, ard, awi, bvo, bfa, bdc, brc, bfi, bor, bso)) : ∃ n : Nat, wY_digest_8 post (nI c) (nI L) gs (nI N) gm amk atm aco bun bwe ard awi bvo bfa bdc brc bfi bor bso n 0 0 := by
  have lp : ∀ d j, j + d = N → wY_digest_8 post (nI c) (nI L) gs (nI N) gm amk atm aco bun bwe ard awi bvo bfa bdc brc bfi bor bso (d + 1) (zq_s a j) (nI j) := by
    intro d
    induction d with
    | zero =>
      intro j hj
      have e : j = N := by omega
      subst e
      exact br_t (nI_le (Nat.le_refl _) (by omega)) h
    | succ d ih =>
      intro j hj
      have j48 : j < 48 := by omega
      refine br_f (nI_ge (by omega) (by omega)) (And.intro (zn_i j48) ?_)
      rw [zn_c j48, ha j (by omega), nI_1]
      exact nm_e (nm_e (ih (j + 1) (by omega)))
  exact ⟨N + 1, lp N 0 (by omega)⟩
/-! the place in the order: the reference's search -/
theorem zy_place {post : Int32 → SY → Prop} {a : Nat → Nat} {x p : Nat} (hx : x < 48) (hN : N ≤ 48) (hl : ∀ i, i < N → a i < 48) (ha : ∀ i, i < N → bor i = nI (a i)) (hp : p < N) (e : a p = x) (hn : ∀ i, i < p → a i ≠ x) (h : post (nI p) ((nI c), (nI L), gs, (nI N), gm, amk, atm, aco, bun, bwe, ard, awi, bvo, bfa, bdc, brc, bfi, bor, bso)) : ∃ n : Nat, wY_placeOf_16 post (nI x) (nI c) (nI L) gs (nI N) gm amk atm aco bun bwe ard awi bvo bfa bdc brc bfi bor bso n 0 := by
  have lp : ∀ d j, j + d = p → ∀ n, d < n → wY_placeOf_16 post (nI x) (nI c) (nI L) gs (nI N) gm amk atm aco bun bwe ard awi bvo bfa bdc brc bfi bor bso n (nI j) := by
    intro d
    induction d with
    | zero =>
      intro j hj n hl
      obtain ⟨n, rfl⟩ : ∃ k, n = k + 1 := ⟨n - 1, by omega⟩
      have ej : j = p := by omega
      subst ej
      have j48 : j < 48 := by omega
      refine br_f (nI_ge (by omega) (by omega)) (And.intro (zn_i j48) ?_)
      rw [zn_c j48, ha j hp, e]
      exact br_t rfl h
    | succ d ih =>
      intro j hj n hln
      obtain ⟨n, rfl⟩ : ∃ k, n = k + 1 := ⟨n - 1, by omega⟩
      have j48 : j < 48 := by omega
      have b := hl j (by omega)
      refine br_f (nI_ge (by omega) (by omega)) (And.intro (zn_i j48) ?_)
      rw [zn_c j48, ha j (by omega)]
      exact br_f (fun z => hn j (by omega) ((nI_eq (by omega) (by omega)).mp z)) (nm_r (nI_1 j) (ih (j + 1) (by omega) n (by omega)))
  exact ⟨p + 1, lp p 0 (by omega) (p + 1) (by omega)⟩
theorem zy_place0 {post : Int32 → SY → Prop} {a : Nat → Nat} {x : Nat} (hx : x < 48) (hN : N ≤ 48) (hl : ∀ i, i < N → a i < 48) (ha : ∀ i, i < N → bor i = nI (a i)) (hn : ∀ i, i < N → a i ≠ x) (h : post (-2) ((nI c), (nI L), gs, (nI N), gm, amk, atm, aco, bun, bwe, ard, awi, bvo, bfa, bdc, brc, bfi, bor, bso)) : ∃ n : Nat, wY_placeOf_16 post (nI x) (nI c) (nI L) gs (nI N) gm amk atm aco bun bwe ard awi bvo bfa bdc brc bfi bor bso n 0 := by
  have lp : ∀ d j, j + d = N → wY_placeOf_16 post (nI x) (nI c) (nI L) gs (nI N) gm amk atm aco bun bwe ard awi bvo bfa bdc brc bfi bor bso (d + 1) (nI j) := by
    intro d
    induction d with
    | zero =>
      intro j hj
      have e : j = N := by omega
      subst e
      exact br_t (nI_le (Nat.le_refl _) (by omega)) h
    | succ d ih =>
      intro j hj
      have j48 : j < 48 := by omega
      have b := hl j (by omega)
      refine br_f (nI_ge (by omega) (by omega)) (And.intro (zn_i j48) ?_)
      rw [zn_c j48, ha j (by omega)]
      exact br_f (fun z => hn j (by omega) ((nI_eq (by omega) (by omega)).mp z)) (nm_r (nI_1 j) (ih (j + 1) (by omega)))
  exact ⟨N + 1, lp N 0 (by omega)⟩
theorem zq_b {rc : Nat → Nat} (hc : c ≤ 48) : zc_ct (fun j => ¬ rc j = 0) c ≤ 48 := Nat.le_trans (zc_le c) hc
theorem zf_rb {x : Nat} (hFF : zz_F c L M P RL Ro kn kf R awi aco avo ade U W) : zf_r c L R awi ade avo U x ≤ 48 := by
  have h1 := zr_le (T := zr_U c R awi (zf_f c L R awi ade avo) U x) (zf_s c L R awi ade avo)
  have h2 := zs_le (S := zs_S c L R awi (zf_f c L R awi ade avo)) L
  have h3 := hFF.2.2.2.2.2.2.1.2.1
  have h4 := hFF.1
  unfold zf_r
  unfold zf_s at h1 ⊢
  omega
end QB
end
section
section XQ
variable {c L : Nat} {ff fs fo ft : Int32} {amk atm aco apl arl aro akn akf ard awi avo ade afa adc arc aft aor apo ast : Nat → Int32} {gs go gm : Int32} {bvo bfa bdc brc bfi bor bso : Nat → Int32} {bun bwe : Nat → Int64} {M P RL Ro kn kf R : Nat → Nat} {U W : Nat → Nat → Prop} {post : Int32 → SX → Prop} {x : Nat} {v : Int32}
theorem zx_fame_f (hv : v < 0 ∨ nI c ≤ v) (h : post (-1) ((nI c), (nI L), ff, fs, fo, ft, amk, atm, aco, apl, arl, aro, akn, akf, ard, awi, avo, ade, afa, adc, arc, aft, aor, apo, ast)) : wpX_fame post ((nI c), (nI L), ff, fs, fo, ft, amk, atm, aco, apl, arl, aro, akn, akf, ard, awi, avo, ade, afa, adc, arc, aft, aor, apo, ast) v := by
  unfold wpX_fame
  exact zx_ev_f hv (br_t rfl h)
theorem zx_fame_t (hE : zz_E amk apl arl aro akn akf ard M P RL Ro kn kf R) (hFF : zz_F c L M P RL Ro kn kf R awi aco avo ade U W) (hX : ¬ ff = 0 → zz_X c L R awi ade avo U M Ro kf atm fs fo afa adc arc aft aor apo) (hx : x < c) (h : ∀ (ff fs fo ft : Int32) (afa adc arc aft aor apo ast : Nat → Int32), zz_X c L R awi ade avo U M Ro kf atm fs fo afa adc arc aft aor apo → post (if awi x = 0 then -2 else nI (zf_f c L R awi ade avo x)) ((nI c), (nI L), ff, fs, fo, ft, amk, atm, aco, apl, arl, aro, akn, akf, ard, awi, avo, ade, afa, adc, arc, aft, aor, apo, ast)) : wpX_fame post ((nI c), (nI L), ff, fs, fo, ft, amk, atm, aco, apl, arl, aro, akn, akf, ard, awi, avo, ade, afa, adc, arc, aft, aor, apo, ast) (nI x) := by
  have hc := hFF.1
  have x48 : x < 48 := by omega
  unfold wpX_fame
  refine zx_ev_t hc hx (br_f zo_10 (zx_freshen hE hFF hX (fun ff fs fo ft afa adc arc aft aor apo ast hX2 => And.intro (zn_i x48) ?_)))
  have q := h ff fs fo ft afa adc arc aft aor apo ast hX2
  rw [zn_c x48]
  refine br_c (fun w0 => ?_) (fun w1 => And.intro (zn_i x48) ?_)
  · rw [if_pos w0] at q; exact q
  · rw [if_neg w1] at q
    rw [(hX2.1 x hx).1]; exact q
theorem zx_dec_f (hv : v < 0 ∨ nI c ≤ v) (h : post (-1) ((nI c), (nI L), ff, fs, fo, ft, amk, atm, aco, apl, arl, aro, akn, akf, ard, awi, avo, ade, afa, adc, arc, aft, aor, apo, ast)) : wpX_decider post ((nI c), (nI L), ff, fs, fo, ft, amk, atm, aco, apl, arl, aro, akn, akf, ard, awi, avo, ade, afa, adc, arc, aft, aor, apo, ast) v := by
  unfold wpX_decider
  exact zx_ev_f hv (br_t rfl h)
theorem zf_db (hc : c ≤ 48) : zf_d c L R awi ade x ≤ 48 := by
  unfold zf_d
  split
  · omega
  · exact Nat.le_trans (zd_ole _) hc
theorem zx_dec_t (hE : zz_E amk apl arl aro akn akf ard M P RL Ro kn kf R) (hFF : zz_F c L M P RL Ro kn kf R awi aco avo ade U W) (hX : ¬ ff = 0 → zz_X c L R awi ade avo U M Ro kf atm fs fo afa adc arc aft aor apo) (hx : x < c) (h : ∀ (ff fs fo ft : Int32) (afa adc arc aft aor apo ast : Nat → Int32), zz_X c L R awi ade avo U M Ro kf atm fs fo afa adc arc aft aor apo → post (if awi x = 0 then -2 else if (zf_d c L R awi ade x) = 0 then -2 else zp_I (zf_d c L R awi ade x)) ((nI c), (nI L), ff, fs, fo, ft, amk, atm, aco, apl, arl, aro, akn, akf, ard, awi, avo, ade, afa, adc, arc, aft, aor, apo, ast)) : wpX_decider post ((nI c), (nI L), ff, fs, fo, ft, amk, atm, aco, apl, arl, aro, akn, akf, ard, awi, avo, ade, afa, adc, arc, aft, aor, apo, ast) (nI x) := by
  have hc := hFF.1
  have x48 : x < 48 := by omega
  have bd : zf_d c L R awi ade x ≤ 48 := zf_db hc
  unfold wpX_decider
  refine zx_ev_t hc hx (br_f zo_10 (zx_freshen hE hFF hX (fun ff fs fo ft afa adc arc aft aor apo ast hX2 => And.intro (zn_i x48) ?_)))
  have q := h ff fs fo ft afa adc arc aft aor apo ast hX2
  rw [zn_c x48, (hX2.1 x hx).2]
  refine br_c (fun w0 => ?_) (fun w1 => And.intro (zn_i x48) (zn_if (zp_neg (by omega)) (fun d0 => ?_) (fun d1 => And.intro (zn_i x48) ?_)))
  · rw [if_pos w0] at q; exact q
  · rw [if_neg w1, if_pos d0] at q; exact q
  · rw [if_neg w1, if_neg d1] at q; exact q
theorem zx_settled (hE : zz_E amk apl arl aro akn akf ard M P RL Ro kn kf R) (hFF : zz_F c L M P RL Ro kn kf R awi aco avo ade U W) (hX : ¬ ff = 0 → zz_X c L R awi ade avo U M Ro kf atm fs fo afa adc arc aft aor apo) (h : ∀ (ff fs fo ft : Int32) (afa adc arc aft aor apo ast : Nat → Int32), zz_X c L R awi ade avo U M Ro kf atm fs fo afa adc arc aft aor apo → post (nI (zf_s c L R awi ade avo)) ((nI c), (nI L), ff, fs, fo, ft, amk, atm, aco, apl, arl, aro, akn, akf, ard, awi, avo, ade, afa, adc, arc, aft, aor, apo, ast)) : wpX_settled post ((nI c), (nI L), ff, fs, fo, ft, amk, atm, aco, apl, arl, aro, akn, akf, ard, awi, avo, ade, afa, adc, arc, aft, aor, apo, ast) := by
  unfold wpX_settled
  refine zx_freshen hE hFF hX (fun ff fs fo ft afa adc arc aft aor apo ast hX2 => ?_)
  have q := h ff fs fo ft afa adc arc aft aor apo ast hX2
  rw [← hX2.2.1] at q
  exact q
theorem zx_rec_f (hv : v < 0 ∨ nI c ≤ v) (h : post (-1) ((nI c), (nI L), ff, fs, fo, ft, amk, atm, aco, apl, arl, aro, akn, akf, ard, awi, avo, ade, afa, adc, arc, aft, aor, apo, ast)) : wpX_received post ((nI c), (nI L), ff, fs, fo, ft, amk, atm, aco, apl, arl, aro, akn, akf, ard, awi, avo, ade, afa, adc, arc, aft, aor, apo, ast) v := by
  unfold wpX_received
  exact zx_ev_f hv (br_t rfl h)
theorem zx_rec_t (hE : zz_E amk apl arl aro akn akf ard M P RL Ro kn kf R) (hFF : zz_F c L M P RL Ro kn kf R awi aco avo ade U W) (hX : ¬ ff = 0 → zz_X c L R awi ade avo U M Ro kf atm fs fo afa adc arc aft aor apo) (hx : x < c) (h : ∀ (ff fs fo ft : Int32) (afa adc arc aft aor apo ast : Nat → Int32), zz_X c L R awi ade avo U M Ro kf atm fs fo afa adc arc aft aor apo → post (if (zf_r c L R awi ade avo U x) = 0 then -2 else nI (zf_r c L R awi ade avo U x)) ((nI c), (nI L), ff, fs, fo, ft, amk, atm, aco, apl, arl, aro, akn, akf, ard, awi, avo, ade, afa, adc, arc, aft, aor, apo, ast)) : wpX_received post ((nI c), (nI L), ff, fs, fo, ft, amk, atm, aco, apl, arl, aro, akn, akf, ard, awi, avo, ade, afa, adc, arc, aft, aor, apo, ast) (nI x) := by
  have hc := hFF.1
  have x48 : x < 48 := by omega
  have br : zf_r c L R awi ade avo U x ≤ 48 := zf_rb hFF
  unfold wpX_received
  refine zx_ev_t hc hx (br_f zo_10 (zx_freshen hE hFF hX (fun ff fs fo ft afa adc arc aft aor apo ast hX2 => And.intro (zn_i x48) ?_)))
  have q := h ff fs fo ft afa adc arc aft aor apo ast hX2
  rw [zn_c x48, hX2.2.2.2.1 x hx]
  refine zn_if (zn_eq0 (by omega)) (fun g => ?_) (fun g => And.intro (zn_i x48) ?_)
  · rw [if_pos g] at q; exact q
  · rw [if_neg g] at q; exact q
theorem zx_fin_f (hE : zz_E amk apl arl aro akn akf ard M P RL Ro kn kf R) (hFF : zz_F c L M P RL Ro kn kf R awi aco avo ade U W) (hX : ¬ ff = 0 → zz_X c L R awi ade avo U M Ro kf atm fs fo afa adc arc aft aor apo) (hv : v < 0 ∨ nI c ≤ v) (h : ∀ (ff fs fo ft : Int32) (afa adc arc aft aor apo ast : Nat → Int32), zz_X c L R awi ade avo U M Ro kf atm fs fo afa adc arc aft aor apo → post 0 ((nI c), (nI L), ff, fs, fo, ft, amk, atm, aco, apl, arl, aro, akn, akf, ard, awi, avo, ade, afa, adc, arc, aft, aor, apo, ast)) : wpX_finalTime post ((nI c), (nI L), ff, fs, fo, ft, amk, atm, aco, apl, arl, aro, akn, akf, ard, awi, avo, ade, afa, adc, arc, aft, aor, apo, ast) v := by
  unfold wpX_finalTime
  exact zx_freshen hE hFF hX (fun ff fs fo ft afa adc arc aft aor apo ast hX2 => zx_ev_f hv (br_t rfl (h ff fs fo ft afa adc arc aft aor apo ast hX2)))
theorem zx_fin_t (hE : zz_E amk apl arl aro akn akf ard M P RL Ro kn kf R) (hFF : zz_F c L M P RL Ro kn kf R awi aco avo ade U W) (hX : ¬ ff = 0 → zz_X c L R awi ade avo U M Ro kf atm fs fo afa adc arc aft aor apo) (hx : x < c) (h : ∀ (ff fs fo ft : Int32) (afa adc arc aft aor apo ast : Nat → Int32), zz_X c L R awi ade avo U M Ro kf atm fs fo afa adc arc aft aor apo → post (if (zf_r c L R awi ade avo U x) = 0 then 0 else (zf_t c L R awi ade avo U M Ro kf atm x)) ((nI c), (nI L), ff, fs, fo, ft, amk, atm, aco, apl, arl, aro, akn, akf, ard, awi, avo, ade, afa, adc, arc, aft, aor, apo, ast)) : wpX_finalTime post ((nI c), (nI L), ff, fs, fo, ft, amk, atm, aco, apl, arl, aro, akn, akf, ard, awi, avo, ade, afa, adc, arc, aft, aor, apo, ast) (nI x) := by
  have hc := hFF.1
  have x48 : x < 48 := by omega
  have br : zf_r c L R awi ade avo U x ≤ 48 := zf_rb hFF
  unfold wpX_finalTime
  refine zx_freshen hE hFF hX (fun ff fs fo ft afa adc arc aft aor apo ast hX2 => zx_ev_t hc hx (br_f zo_10 (And.intro (zn_i x48) ?_)))
  have q := h ff fs fo ft afa adc arc aft aor apo ast hX2
  rw [zn_c x48, hX2.2.2.2.1 x hx]
  refine zn_if (zn_le0 (by omega)) (fun g => ?_) (fun g => And.intro (zn_i x48) ?_)
  · rw [if_pos g] at q; exact q
  · rw [if_neg g] at q
    rw [hX2.2.2.2.2.2.1 x hx g]; exact q
theorem zx_ordered (hE : zz_E amk apl arl aro akn akf ard M P RL Ro kn kf R) (hFF : zz_F c L M P RL Ro kn kf R awi aco avo ade U W) (hX : ¬ ff = 0 → zz_X c L R awi ade avo U M Ro kf atm fs fo afa adc arc aft aor apo) (h : ∀ (ff fs fo ft : Int32) (afa adc arc aft aor apo ast : Nat → Int32), zz_X c L R awi ade avo U M Ro kf atm fs fo afa adc arc aft aor apo → post (nI (zc_ct (fun j => ¬ zf_r c L R awi ade avo U j = 0) c)) ((nI c), (nI L), ff, fs, fo, ft, amk, atm, aco, apl, arl, aro, akn, akf, ard, awi, avo, ade, afa, adc, arc, aft, aor, apo, ast)) : wpX_ordered post ((nI c), (nI L), ff, fs, fo, ft, amk, atm, aco, apl, arl, aro, akn, akf, ard, awi, avo, ade, afa, adc, arc, aft, aor, apo, ast) := by
  unfold wpX_ordered
  refine zx_freshen hE hFF hX (fun ff fs fo ft afa adc arc aft aor apo ast hX2 => ?_)
  have q := h ff fs fo ft afa adc arc aft aor apo ast hX2
  rw [← hX2.2.2.1] at q
  exact q
theorem zx_ordAt_f (hE : zz_E amk apl arl aro akn akf ard M P RL Ro kn kf R) (hFF : zz_F c L M P RL Ro kn kf R awi aco avo ade U W) (hX : ¬ ff = 0 → zz_X c L R awi ade avo U M Ro kf atm fs fo afa adc arc aft aor apo) (hv : v < 0 ∨ nI (zc_ct (fun j => ¬ zf_r c L R awi ade avo U j = 0) c) ≤ v) (h : ∀ (ff fs fo ft : Int32) (afa adc arc aft aor apo ast : Nat → Int32), zz_X c L R awi ade avo U M Ro kf atm fs fo afa adc arc aft aor apo → post (-2) ((nI c), (nI L), ff, fs, fo, ft, amk, atm, aco, apl, arl, aro, akn, akf, ard, awi, avo, ade, afa, adc, arc, aft, aor, apo, ast)) : wpX_orderAt post ((nI c), (nI L), ff, fs, fo, ft, amk, atm, aco, apl, arl, aro, akn, akf, ard, awi, avo, ade, afa, adc, arc, aft, aor, apo, ast) v := by
  unfold wpX_orderAt
  refine zx_freshen hE hFF hX (fun ff fs fo ft afa adc arc aft aor apo ast hX2 => ?_)
  have q := h ff fs fo ft afa adc arc aft aor apo ast hX2
  refine br_c (fun _ => q) (fun n => br_f (fun z => ?_) q)
  rw [hX2.2.2.1] at z
  exact Int32.lt_irrefl (Int32.lt_of_lt_of_le z (hv.resolve_left n))
theorem zx_ordAt_t (hE : zz_E amk apl arl aro akn akf ard M P RL Ro kn kf R) (hFF : zz_F c L M P RL Ro kn kf R awi aco avo ade U W) (hX : ¬ ff = 0 → zz_X c L R awi ade avo U M Ro kf atm fs fo afa adc arc aft aor apo) (hx : x < (zc_ct (fun j => ¬ zf_r c L R awi ade avo U j = 0) c)) (h : ∀ (ff fs fo ft : Int32) (afa adc arc aft aor apo ast : Nat → Int32), zz_X c L R awi ade avo U M Ro kf atm fs fo afa adc arc aft aor apo → post (nI ((zo_a (zf_r c L R awi ade avo U) (zf_t c L R awi ade avo U M Ro kf atm) c) x)) ((nI c), (nI L), ff, fs, fo, ft, amk, atm, aco, apl, arl, aro, akn, akf, ard, awi, avo, ade, afa, adc, arc, aft, aor, apo, ast)) : wpX_orderAt post ((nI c), (nI L), ff, fs, fo, ft, amk, atm, aco, apl, arl, aro, akn, akf, ard, awi, avo, ade, afa, adc, arc, aft, aor, apo, ast) (nI x) := by
  have hc := hFF.1
  have b := zq_b (rc := zf_r c L R awi ade avo U) hc
  have x48 : x < 48 := by omega
  unfold wpX_orderAt
  refine zx_freshen hE hFF hX (fun ff fs fo ft afa adc arc aft aor apo ast hX2 => ?_)
  have q := h ff fs fo ft afa adc arc aft aor apo ast hX2
  refine br_f (nI_pos (by omega)) (br_t ?_ (And.intro (zn_i x48) ?_))
  · rw [hX2.2.2.1]; exact nI_lt hx (by omega)
  · rw [zn_c x48, (hX2.2.2.2.2.2.2 x hx).1]; exact q
theorem zx_plc_f (hv : v < 0 ∨ nI c ≤ v) (h : post (-1) ((nI c), (nI L), ff, fs, fo, ft, amk, atm, aco, apl, arl, aro, akn, akf, ard, awi, avo, ade, afa, adc, arc, aft, aor, apo, ast)) : wpX_placeOf post ((nI c), (nI L), ff, fs, fo, ft, amk, atm, aco, apl, arl, aro, akn, akf, ard, awi, avo, ade, afa, adc, arc, aft, aor, apo, ast) v := by
  unfold wpX_placeOf
  exact zx_ev_f hv (br_t rfl h)
theorem zx_plc_t (hE : zz_E amk apl arl aro akn akf ard M P RL Ro kn kf R) (hFF : zz_F c L M P RL Ro kn kf R awi aco avo ade U W) (hX : ¬ ff = 0 → zz_X c L R awi ade avo U M Ro kf atm fs fo afa adc arc aft aor apo) (hx : x < c) (h : ∀ (ff fs fo ft : Int32) (afa adc arc aft aor apo ast : Nat → Int32), zz_X c L R awi ade avo U M Ro kf atm fs fo afa adc arc aft aor apo → ∀ r : Int32, (((zf_r c L R awi ade avo U x) = 0 ∧ r = -2) ∨ (¬ (zf_r c L R awi ade avo U x) = 0 ∧ ∃ p, p < (zc_ct (fun j => ¬ zf_r c L R awi ade avo U j = 0) c) ∧ (zo_a (zf_r c L R awi ade avo U) (zf_t c L R awi ade avo U M Ro kf atm) c) p = x ∧ r = nI p ∧ ∀ i, i < p → (zo_a (zf_r c L R awi ade avo U) (zf_t c L R awi ade avo U M Ro kf atm) c) i ≠ x)) → post r ((nI c), (nI L), ff, fs, fo, ft, amk, atm, aco, apl, arl, aro, akn, akf, ard, awi, avo, ade, afa, adc, arc, aft, aor, apo, ast)) : wpX_placeOf post ((nI c), (nI L), ff, fs, fo, ft, amk, atm, aco, apl, arl, aro, akn, akf, ard, awi, avo, ade, afa, adc, arc, aft, aor, apo, ast) (nI x) := by
  have hc := hFF.1
  have x48 : x < 48 := by omega
  have br : zf_r c L R awi ade avo U x ≤ 48 := zf_rb hFF
  have b := zq_b (rc := zf_r c L R awi ade avo U) hc
  unfold wpX_placeOf
  refine zx_ev_t hc hx (br_f zo_10 (zx_freshen hE hFF hX (fun ff fs fo ft afa adc arc aft aor apo ast hX2 => And.intro (zn_i x48) ?_)))
  have q := h ff fs fo ft afa adc arc aft aor apo ast hX2
  rw [zn_c x48, hX2.2.2.2.1 x hx]
  refine zn_if (zn_eq0 (by omega)) (fun g => q _ (Or.inl ⟨g, rfl⟩)) (fun g => And.intro (zn_i x48) ?_)
  obtain ⟨p, hp, e⟩ := zo_in (rc := zf_r c L R awi ade avo U) (ft := zf_t c L R awi ade avo U M Ro kf atm) c x hx g
  have ap := (hX2.2.2.2.2.2.2 p hp).2
  rw [e] at ap
  rw [ap]
  refine q _ (Or.inr ⟨g, p, hp, e, rfl, fun i hi ei => ?_⟩)
  have ai := (hX2.2.2.2.2.2.2 i (by omega)).2
  rw [ei, ap] at ai
  have := (nI_eq (by omega) (by omega)).mp ai
  omega
theorem zx_digest (hE : zz_E amk apl arl aro akn akf ard M P RL Ro kn kf R) (hFF : zz_F c L M P RL Ro kn kf R awi aco avo ade U W) (hX : ¬ ff = 0 → zz_X c L R awi ade avo U M Ro kf atm fs fo afa adc arc aft aor apo) (h : ∀ (ff fs fo ft : Int32) (afa adc arc aft aor apo ast : Nat → Int32), zz_X c L R awi ade avo U M Ro kf atm fs fo afa adc arc aft aor apo → post (zq_s (zo_a (zf_r c L R awi ade avo U) (zf_t c L R awi ade avo U M Ro kf atm) c) (zc_ct (fun j => ¬ zf_r c L R awi ade avo U j = 0) c)) ((nI c), (nI L), ff, fs, fo, ft, amk, atm, aco, apl, arl, aro, akn, akf, ard, awi, avo, ade, afa, adc, arc, aft, aor, apo, ast)) : wpX_digest post ((nI c), (nI L), ff, fs, fo, ft, amk, atm, aco, apl, arl, aro, akn, akf, ard, awi, avo, ade, afa, adc, arc, aft, aor, apo, ast) := by
  have hc := hFF.1
  have b := zq_b (rc := zf_r c L R awi ade avo U) hc
  unfold wpX_digest
  refine zx_freshen hE hFF hX (fun ff fs fo ft afa adc arc aft aor apo ast hX2 => ?_)
  have q := h ff fs fo ft afa adc arc aft aor apo ast hX2
  have e := hX2.2.2.1
  rw [e] at q ⊢
  exact zx_dig b (fun i hi => (hX2.2.2.2.2.2.2 i hi).1) q
end XQ
end
section
section YQ
variable {c L : Nat} {ff fs fo ft : Int32} {amk atm aco apl arl aro akn akf ard awi avo ade afa adc arc aft aor apo ast : Nat → Int32} {gs go gm : Int32} {bvo bfa bdc brc bfi bor bso : Nat → Int32} {bun bwe : Nat → Int64} {M P RL Ro kn kf R : Nat → Nat} {U W : Nat → Nat → Prop} {post : Int32 → SY → Prop} {x : Nat} {v : Int32}
theorem zy_fame_f (hv : v < 0 ∨ nI c ≤ v) (h : post (-1) ((nI c), (nI L), gs, go, gm, amk, atm, aco, bun, bwe, ard, awi, bvo, bfa, bdc, brc, bfi, bor, bso)) : wpY_fame post ((nI c), (nI L), gs, go, gm, amk, atm, aco, bun, bwe, ard, awi, bvo, bfa, bdc, brc, bfi, bor, bso) v := by
  unfold wpY_fame
  exact zy_bad_t hv (br_f zo_10 h)
theorem zy_fame_t (emk : ∀ j, amk j = nI (M j)) (erd : ∀ j, ard j = nI (R j)) (hFF : zz_F c L M P RL Ro kn kf R awi aco avo ade U W) (hbu : ∀ x y, zb_l (bun y) x = true ↔ U x y) (hbw : ∀ x y, zb_l (bwe y) x = true ↔ W x y) (hx : x < c) (h : ∀ (gs go gm : Int32) (bvo bfa bdc brc bfi bor bso : Nat → Int32), post (if awi x = 0 then -2 else nI (zf_f c L R awi ade avo x)) ((nI c), (nI L), gs, go, gm, amk, atm, aco, bun, bwe, ard, awi, bvo, bfa, bdc, brc, bfi, bor, bso)) : wpY_fame post ((nI c), (nI L), gs, go, gm, amk, atm, aco, bun, bwe, ard, awi, bvo, bfa, bdc, brc, bfi, bor, bso) (nI x) := by
  obtain ⟨hc, hU, hR, hK, hF, hW, hO, hV, hco, hM4⟩ := hFF
  have hL := hO.2.1
  have x48 : x < 48 := by omega
  unfold wpY_fame
  refine zy_bad_f hc hx (br_t rfl (And.intro (zn_i x48) ?_))
  rw [zn_c x48]
  refine br_c (fun w0 => ?_) (fun w1 => ?_)
  · have q := h gs go gm bvo bfa bdc brc bfi bor bso
    rw [if_pos w0] at q; exact q
  · refine zy_ask (U := U) (W := W) hc hx w1 (by omega) ((hO.1 x hx).2.2) erd (fun j hj => by have := hO.1 j hj; omega) hco hbu hbw hV (fun bvo2 bfa2 bdc2 h2 => And.intro (zn_i x48) ?_)
    have q := h gs go gm bvo2 bfa2 bdc2 brc bfi bor bso
    rw [if_neg w1] at q
    rw [h2.2.1]
    have e1 : zf_d c L R awi ade x = zd_d c L R awi ade x := if_neg w1
    unfold zf_f at q
    rw [e1] at q
    exact q
theorem zy_dec_f (hv : v < 0 ∨ nI c ≤ v) (h : post (-1) ((nI c), (nI L), gs, go, gm, amk, atm, aco, bun, bwe, ard, awi, bvo, bfa, bdc, brc, bfi, bor, bso)) : wpY_decider post ((nI c), (nI L), gs, go, gm, amk, atm, aco, bun, bwe, ard, awi, bvo, bfa, bdc, brc, bfi, bor, bso) v := by
  unfold wpY_decider
  exact zy_bad_t hv (br_f zo_10 h)
theorem zy_dec_t (emk : ∀ j, amk j = nI (M j)) (erd : ∀ j, ard j = nI (R j)) (hFF : zz_F c L M P RL Ro kn kf R awi aco avo ade U W) (hbu : ∀ x y, zb_l (bun y) x = true ↔ U x y) (hbw : ∀ x y, zb_l (bwe y) x = true ↔ W x y) (hx : x < c) (h : ∀ (gs go gm : Int32) (bvo bfa bdc brc bfi bor bso : Nat → Int32), post (if awi x = 0 then -2 else if (zf_d c L R awi ade x) = 0 then -2 else zp_I (zf_d c L R awi ade x)) ((nI c), (nI L), gs, go, gm, amk, atm, aco, bun, bwe, ard, awi, bvo, bfa, bdc, brc, bfi, bor, bso)) : wpY_decider post ((nI c), (nI L), gs, go, gm, amk, atm, aco, bun, bwe, ard, awi, bvo, bfa, bdc, brc, bfi, bor, bso) (nI x) := by
  obtain ⟨hc, hU, hR, hK, hF, hW, hO, hV, hco, hM4⟩ := hFF
  have hL := hO.2.1
  have x48 : x < 48 := by omega
  have bd : zf_d c L R awi ade x ≤ 48 := zf_db hc
  unfold wpY_decider
  refine zy_bad_f hc hx (br_t rfl (And.intro (zn_i x48) ?_))
  rw [zn_c x48]
  refine br_c (fun w0 => ?_) (fun w1 => ?_)
  · have q := h gs go gm bvo bfa bdc brc bfi bor bso
    rw [if_pos w0] at q; exact q
  · refine zy_ask (U := U) (W := W) hc hx w1 (by omega) ((hO.1 x hx).2.2) erd (fun j hj => by have := hO.1 j hj; omega) hco hbu hbw hV (fun bvo2 bfa2 bdc2 h2 => And.intro (zn_i x48) ?_)
    have q := h gs go gm bvo2 bfa2 bdc2 brc bfi bor bso
    rw [if_neg w1] at q
    have e1 : zf_d c L R awi ade x = zd_d c L R awi ade x := if_neg w1
    rw [h2.1, ← e1]
    refine zn_if (zp_0le (by omega)) (fun g => And.intro (zn_i x48) ?_) (fun g => ?_)
    · rw [if_neg (by omega)] at q; exact q
    · rw [if_pos (by omega)] at q; exact q
theorem zy_settled (emk : ∀ j, amk j = nI (M j)) (erd : ∀ j, ard j = nI (R j)) (hFF : zz_F c L M P RL Ro kn kf R awi aco avo ade U W) (hbu : ∀ x y, zb_l (bun y) x = true ↔ U x y) (hbw : ∀ x y, zb_l (bwe y) x = true ↔ W x y) (h : ∀ (gs go gm : Int32) (bvo bfa bdc brc bfi bor bso : Nat → Int32), post (nI (zf_s c L R awi ade avo)) ((nI c), (nI L), gs, go, gm, amk, atm, aco, bun, bwe, ard, awi, bvo, bfa, bdc, brc, bfi, bor, bso)) : wpY_settled post ((nI c), (nI L), gs, go, gm, amk, atm, aco, bun, bwe, ard, awi, bvo, bfa, bdc, brc, bfi, bor, bso) := by
  unfold wpY_settled
  refine zy_workOut emk erd hFF hbu hbw (fun gs go gm bvo bfa bdc brc bfi bor bso hY2 => ?_)
  have q := h gs go gm bvo bfa bdc brc bfi bor bso
  rw [← hY2.1] at q
  exact q
theorem zy_rec_f (hv : v < 0 ∨ nI c ≤ v) (h : post (-1) ((nI c), (nI L), gs, go, gm, amk, atm, aco, bun, bwe, ard, awi, bvo, bfa, bdc, brc, bfi, bor, bso)) : wpY_received post ((nI c), (nI L), gs, go, gm, amk, atm, aco, bun, bwe, ard, awi, bvo, bfa, bdc, brc, bfi, bor, bso) v := by
  unfold wpY_received
  exact zy_bad_t hv (br_f zo_10 h)
theorem zy_rec_t (emk : ∀ j, amk j = nI (M j)) (erd : ∀ j, ard j = nI (R j)) (hFF : zz_F c L M P RL Ro kn kf R awi aco avo ade U W) (hbu : ∀ x y, zb_l (bun y) x = true ↔ U x y) (hbw : ∀ x y, zb_l (bwe y) x = true ↔ W x y) (hx : x < c) (h : ∀ (gs go gm : Int32) (bvo bfa bdc brc bfi bor bso : Nat → Int32), post (if (zf_r c L R awi ade avo U x) = 0 then -2 else nI (zf_r c L R awi ade avo U x)) ((nI c), (nI L), gs, go, gm, amk, atm, aco, bun, bwe, ard, awi, bvo, bfa, bdc, brc, bfi, bor, bso)) : wpY_received post ((nI c), (nI L), gs, go, gm, amk, atm, aco, bun, bwe, ard, awi, bvo, bfa, bdc, brc, bfi, bor, bso) (nI x) := by
  have hc := hFF.1
  have x48 : x < 48 := by omega
  have br : zf_r c L R awi ade avo U x ≤ 48 := zf_rb hFF
  unfold wpY_received
  refine zy_bad_f hc hx (br_t rfl (zy_workOut emk erd hFF hbu hbw (fun gs go gm bvo bfa bdc brc bfi bor bso hY2 => And.intro (zn_i x48) ?_)))
  have q := h gs go gm bvo bfa bdc brc bfi bor bso
  rw [zn_c x48, (hY2.2.2.1 x hx).1]
  refine zn_if (zn_eq0 (by omega)) (fun g => ?_) (fun g => And.intro (zn_i x48) ?_)
  · rw [if_pos g] at q; exact q
  · rw [if_neg g] at q; exact q
theorem zy_fin_f (hv : v < 0 ∨ nI c ≤ v) (h : post 0 ((nI c), (nI L), gs, go, gm, amk, atm, aco, bun, bwe, ard, awi, bvo, bfa, bdc, brc, bfi, bor, bso)) : wpY_finalTime post ((nI c), (nI L), gs, go, gm, amk, atm, aco, bun, bwe, ard, awi, bvo, bfa, bdc, brc, bfi, bor, bso) v := by
  unfold wpY_finalTime
  exact zy_bad_t hv (br_f zo_10 h)
theorem zy_fin_t (emk : ∀ j, amk j = nI (M j)) (erd : ∀ j, ard j = nI (R j)) (hFF : zz_F c L M P RL Ro kn kf R awi aco avo ade U W) (hbu : ∀ x y, zb_l (bun y) x = true ↔ U x y) (hbw : ∀ x y, zb_l (bwe y) x = true ↔ W x y) (hx : x < c) (h : ∀ (gs go gm : Int32) (bvo bfa bdc brc bfi bor bso : Nat → Int32), post (if (zf_r c L R awi ade avo U x) = 0 then 0 else (zf_t c L R awi ade avo U M Ro kf atm x)) ((nI c), (nI L), gs, go, gm, amk, atm, aco, bun, bwe, ard, awi, bvo, bfa, bdc, brc, bfi, bor, bso)) : wpY_finalTime post ((nI c), (nI L), gs, go, gm, amk, atm, aco, bun, bwe, ard, awi, bvo, bfa, bdc, brc, bfi, bor, bso) (nI x) := by
  have hc := hFF.1
  have x48 : x < 48 := by omega
  unfold wpY_finalTime
  refine zy_bad_f hc hx (br_t rfl (zy_workOut emk erd hFF hbu hbw (fun gs go gm bvo bfa bdc brc bfi bor bso hY2 => And.intro (zn_i x48) ?_)))
  have q := h gs go gm bvo bfa bdc brc bfi bor bso
  rw [zn_c x48, (hY2.2.2.1 x hx).2]
  exact q
theorem zy_ordered (emk : ∀ j, amk j = nI (M j)) (erd : ∀ j, ard j = nI (R j)) (hFF : zz_F c L M P RL Ro kn kf R awi aco avo ade U W) (hbu : ∀ x y, zb_l (bun y) x = true ↔ U x y) (hbw : ∀ x y, zb_l (bwe y) x = true ↔ W x y) (h : ∀ (gs go gm : Int32) (bvo bfa bdc brc bfi bor bso : Nat → Int32), post (nI (zc_ct (fun j => ¬ zf_r c L R awi ade avo U j = 0) c)) ((nI c), (nI L), gs, go, gm, amk, atm, aco, bun, bwe, ard, awi, bvo, bfa, bdc, brc, bfi, bor, bso)) : wpY_ordered post ((nI c), (nI L), gs, go, gm, amk, atm, aco, bun, bwe, ard, awi, bvo, bfa, bdc, brc, bfi, bor, bso) := by
  unfold wpY_ordered
  refine zy_workOut emk erd hFF hbu hbw (fun gs go gm bvo bfa bdc brc bfi bor bso hY2 => ?_)
  have q := h gs go gm bvo bfa bdc brc bfi bor bso
  rw [← hY2.2.1] at q
  exact q
theorem zy_ordAt_f (emk : ∀ j, amk j = nI (M j)) (erd : ∀ j, ard j = nI (R j)) (hFF : zz_F c L M P RL Ro kn kf R awi aco avo ade U W) (hbu : ∀ x y, zb_l (bun y) x = true ↔ U x y) (hbw : ∀ x y, zb_l (bwe y) x = true ↔ W x y) (hv : v < 0 ∨ nI (zc_ct (fun j => ¬ zf_r c L R awi ade avo U j = 0) c) ≤ v) (h : ∀ (gs go gm : Int32) (bvo bfa bdc brc bfi bor bso : Nat → Int32), post (-2) ((nI c), (nI L), gs, go, gm, amk, atm, aco, bun, bwe, ard, awi, bvo, bfa, bdc, brc, bfi, bor, bso)) : wpY_orderAt post ((nI c), (nI L), gs, go, gm, amk, atm, aco, bun, bwe, ard, awi, bvo, bfa, bdc, brc, bfi, bor, bso) v := by
  unfold wpY_orderAt
  refine zy_workOut emk erd hFF hbu hbw (fun gs go gm bvo bfa bdc brc bfi bor bso hY2 => ?_)
  have q := h gs go gm bvo bfa bdc brc bfi bor bso
  refine br_c (fun _ => q) (fun n => br_f (fun z => ?_) q)
  rw [hY2.2.1] at z
  exact Int32.lt_irrefl (Int32.lt_of_lt_of_le z (hv.resolve_left n))
theorem zy_ordAt_t (emk : ∀ j, amk j = nI (M j)) (erd : ∀ j, ard j = nI (R j)) (hFF : zz_F c L M P RL Ro kn kf R awi aco avo ade U W) (hbu : ∀ x y, zb_l (bun y) x = true ↔ U x y) (hbw : ∀ x y, zb_l (bwe y) x = true ↔ W x y) (hx : x < (zc_ct (fun j => ¬ zf_r c L R awi ade avo U j = 0) c)) (h : ∀ (gs go gm : Int32) (bvo bfa bdc brc bfi bor bso : Nat → Int32), post (nI ((zo_a (zf_r c L R awi ade avo U) (zf_t c L R awi ade avo U M Ro kf atm) c) x)) ((nI c), (nI L), gs, go, gm, amk, atm, aco, bun, bwe, ard, awi, bvo, bfa, bdc, brc, bfi, bor, bso)) : wpY_orderAt post ((nI c), (nI L), gs, go, gm, amk, atm, aco, bun, bwe, ard, awi, bvo, bfa, bdc, brc, bfi, bor, bso) (nI x) := by
  have hc := hFF.1
  have b := zq_b (rc := zf_r c L R awi ade avo U) hc
  have x48 : x < 48 := by omega
  unfold wpY_orderAt
  refine zy_workOut emk erd hFF hbu hbw (fun gs go gm bvo bfa bdc brc bfi bor bso hY2 => ?_)
  have q := h gs go gm bvo bfa bdc brc bfi bor bso
  refine br_f (nI_pos (by omega)) (br_t ?_ (And.intro (zn_i x48) ?_))
  · rw [hY2.2.1]; exact nI_lt hx (by omega)
  · rw [zn_c x48, hY2.2.2.2 x hx]; exact q
theorem zy_plc_f (hv : v < 0 ∨ nI c ≤ v) (h : post (-1) ((nI c), (nI L), gs, go, gm, amk, atm, aco, bun, bwe, ard, awi, bvo, bfa, bdc, brc, bfi, bor, bso)) : wpY_placeOf post ((nI c), (nI L), gs, go, gm, amk, atm, aco, bun, bwe, ard, awi, bvo, bfa, bdc, brc, bfi, bor, bso) v := by
  unfold wpY_placeOf
  exact zy_bad_t hv (br_f zo_10 h)
theorem zy_plc_t (emk : ∀ j, amk j = nI (M j)) (erd : ∀ j, ard j = nI (R j)) (hFF : zz_F c L M P RL Ro kn kf R awi aco avo ade U W) (hbu : ∀ x y, zb_l (bun y) x = true ↔ U x y) (hbw : ∀ x y, zb_l (bwe y) x = true ↔ W x y) (hx : x < c) {r : Int32} (hr : ((zf_r c L R awi ade avo U x) = 0 ∧ r = -2) ∨ (¬ (zf_r c L R awi ade avo U x) = 0 ∧ ∃ p, p < (zc_ct (fun j => ¬ zf_r c L R awi ade avo U j = 0) c) ∧ (zo_a (zf_r c L R awi ade avo U) (zf_t c L R awi ade avo U M Ro kf atm) c) p = x ∧ r = nI p ∧ ∀ i, i < p → (zo_a (zf_r c L R awi ade avo U) (zf_t c L R awi ade avo U M Ro kf atm) c) i ≠ x)) (h : ∀ (gs go gm : Int32) (bvo bfa bdc brc bfi bor bso : Nat → Int32), post r ((nI c), (nI L), gs, go, gm, amk, atm, aco, bun, bwe, ard, awi, bvo, bfa, bdc, brc, bfi, bor, bso)) : wpY_placeOf post ((nI c), (nI L), gs, go, gm, amk, atm, aco, bun, bwe, ard, awi, bvo, bfa, bdc, brc, bfi, bor, bso) (nI x) := by
  have hc := hFF.1
  have x48 : x < 48 := by omega
  have b := zq_b (rc := zf_r c L R awi ade avo U) hc
  have olt := zo_lt (rc := zf_r c L R awi ade avo U) (ft := zf_t c L R awi ade avo U M Ro kf atm) c
  unfold wpY_placeOf
  refine zy_bad_f hc hx (br_t rfl (zy_workOut emk erd hFF hbu hbw (fun gs go gm bvo bfa bdc brc bfi bor bso hY2 => ?_)))
  have q := h gs go gm bvo bfa bdc brc bfi bor bso
  have e := hY2.2.1
  rw [e] at q ⊢
  rcases hr with ⟨g, er⟩ | ⟨g, p, hp, ep, er, hn⟩
  · rw [er] at q
    exact zy_place0 x48 b (fun i hi => by have := (olt i hi).1; omega) hY2.2.2.2 (fun i hi ei => by have := (olt i hi).2; rw [ei] at this; exact this g) q
  · rw [er] at q
    exact zy_place x48 b (fun i hi => by have := (olt i hi).1; omega) hY2.2.2.2 hp ep hn q
theorem zy_digest (emk : ∀ j, amk j = nI (M j)) (erd : ∀ j, ard j = nI (R j)) (hFF : zz_F c L M P RL Ro kn kf R awi aco avo ade U W) (hbu : ∀ x y, zb_l (bun y) x = true ↔ U x y) (hbw : ∀ x y, zb_l (bwe y) x = true ↔ W x y) (h : ∀ (gs go gm : Int32) (bvo bfa bdc brc bfi bor bso : Nat → Int32), post (zq_s (zo_a (zf_r c L R awi ade avo U) (zf_t c L R awi ade avo U M Ro kf atm) c) (zc_ct (fun j => ¬ zf_r c L R awi ade avo U j = 0) c)) ((nI c), (nI L), gs, go, gm, amk, atm, aco, bun, bwe, ard, awi, bvo, bfa, bdc, brc, bfi, bor, bso)) : wpY_digest post ((nI c), (nI L), gs, go, gm, amk, atm, aco, bun, bwe, ard, awi, bvo, bfa, bdc, brc, bfi, bor, bso) := by
  have hc := hFF.1
  have b := zq_b (rc := zf_r c L R awi ade avo U) hc
  unfold wpY_digest
  refine zy_workOut emk erd hFF hbu hbw (fun gs go gm bvo bfa bdc brc bfi bor bso hY2 => ?_)
  have q := h gs go gm bvo bfa bdc brc bfi bor bso
  have e := hY2.2.1
  rw [e] at q ⊢
  exact zy_dig b hY2.2.2.2 q
end YQ
end
section
theorem zq_4 {v : Int32} (h : nI 4 ≤ v) : ¬ v < 0 ∧ ¬ v ≤ 3 ∧ 3 < v := by
  have e3 : (3 : Int32).toInt = 3 := by decide
  rw [Int32.le_iff_toInt_le, nI_toInt (by decide)] at h
  rw [Int32.lt_iff_toInt_lt, Int32.le_iff_toInt_le, Int32.lt_iff_toInt_lt, zn_t0, e3]
  omega
section QM
variable {c L : Nat} {ff fs fo ft : Int32} {amk atm aco apl arl aro akn akf ard awi avo ade afa adc arc aft aor apo ast : Nat → Int32} {gs go gm : Int32} {bvo bfa bdc brc bfi bor bso : Nat → Int32} {bun bwe : Nat → Int64} {M P RL Ro kn kf R : Nat → Nat} {U W : Nat → Nat → Prop} {m ow ot : Nat} {tt cn o w : Int32}
theorem zx_makeO {post : Int32 → SX → Prop} (ho : o = zp_I ot) (hE : zz_E amk apl arl aro akn akf ard M P RL Ro kn kf R) (hFF : zz_F c L M P RL Ro kn kf R awi aco avo ade U W) (hc : c < 48) (hm : m < 4) (hw : zg_own c M m ow) (hot : ot ≤ c) (hcn : cn = 0 ∨ cn = 1)
    (hp : ∀ (akn' akf' avo' ade' : Nat → Int32) (kn' kf' : Nat → Nat) (r r' : Nat) (b : Int32), r = zg_mx (zg_ro R ow) (zg_ro R ot) → r' = zx_r r (zc_ct (fun w => ¬ awi w = 0 ∧ R w = r ∧ 3 ≤ zc_ct (zg_B (c + 1) (zu_N M c m) (zm_U c ow ot U) w c) 4) c) → b = (if r' ≤ zg_ro R ow then 0 else 1) →
      zz_E (upd amk c (nI m)) (upd apl c (nI (RL m))) (upd arl m (nI (RL m + 1))) (upd aro (48 * m + RL m) (nI c)) akn' akf' (upd ard c (nI r')) (zu_N M c m) (zu_N P c (RL m)) (zu_N RL m (RL m + 1)) (zu_N Ro (48 * m + RL m) c) kn' kf' (zu_N R c r') →
      zz_F (c + 1) (zg_mx r' L) (zu_N M c m) (zu_N P c (RL m)) (zu_N RL m (RL m + 1)) (zu_N Ro (48 * m + RL m) c) kn' kf' (zu_N R c r') (upd awi c b) (upd aco c cn) avo' ade' (zm_U c ow ot U) (zm_W c m ow ot M U W) →
      post (nI c) ((nI (c + 1)), (nI (zg_mx r' L)), 0, fs, fo, ft, (upd amk c (nI m)), (upd atm c tt), (upd aco c cn), (upd apl c (nI (RL m))), (upd arl m (nI (RL m + 1))), (upd aro (48 * m + RL m) (nI c)), (akn'), (akf'), (upd ard c (nI r')), (upd awi c b), (avo'), (ade'), afa, adc, arc, aft, aor, apo, ast)) :
    wpX_make post ((nI c), (nI L), ff, fs, fo, ft, amk, atm, aco, apl, arl, aro, akn, akf, ard, awi, avo, ade, afa, adc, arc, aft, aor, apo, ast) (nI m) o tt cn := by
  subst ho
  exact zx_make hE hFF hc hm hw hot hcn hp
theorem zy_makeO {post : Int32 → SY → Prop} (ho : o = zp_I ot) (emk : ∀ j, amk j = nI (M j)) (erd : ∀ j, ard j = nI (R j)) (hFF : zz_F c L M P RL Ro kn kf R awi aco avo ade U W) (hbu : ∀ x y, zb_l (bun y) x = true ↔ U x y) (hbw : ∀ x y, zb_l (bwe y) x = true ↔ W x y) (hc : c < 48) (hm : m < 4) (hw : zg_own c M m ow) (hot : ot ≤ c) (how0 : ow = 0 → ot = 0) (hcn : cn = 0 ∨ cn = 1)
    (hp : ∀ (bun' bwe' : Nat → Int64) (r r' : Nat) (b : Int32), r = zg_mx (zg_ro R ow) (zg_ro R ot) → r' = zx_r r (zc_ct (fun w => ¬ awi w = 0 ∧ R w = r ∧ 3 ≤ zc_ct (zg_B (c + 1) (zu_N M c m) (zm_U c ow ot U) w c) 4) c) → b = (if r' ≤ zg_ro R ow then 0 else 1) →
      (∀ x y, zb_l (bun' y) x = true ↔ zm_U c ow ot U x y) → (∀ x y, zb_l (bwe' y) x = true ↔ zm_W c m ow ot M U W x y) →
      post (nI c) ((nI (c + 1)), (nI (zg_mx r' L)), gs, go, gm, (upd amk c (nI m)), (upd atm c tt), (upd aco c cn), (bun'), (bwe'), (upd ard c (nI r')), (upd awi c b), bvo, bfa, bdc, brc, bfi, bor, bso)) :
    wpY_make post ((nI c), (nI L), gs, go, gm, amk, atm, aco, bun, bwe, ard, awi, bvo, bfa, bdc, brc, bfi, bor, bso) (nI m) (zp_I ow) o tt cn := by
  subst ho
  exact zy_make emk erd hFF hbu hbw hc hm hw hot how0 hcn hp
theorem zy_latestU {post : Int32 → Prop} (hc : c ≤ 48) (hm : m < 4) (hmk : ∀ j, amk j = nI (M j)) (hM : ∀ x, x < c → M x < 4) (hw : zg_own c M m ow) (hp : post (zp_I ow)) : wpY_latestOf post ((nI c), (nI L), gs, go, gm, amk, atm, aco, bun, bwe, ard, awi, bvo, bfa, bdc, brc, bfi, bor, bso) (nI m) :=
  zy_latest hc hm hmk hM (fun ow2 h2 => by rw [← zg_own_u hw h2]; exact hp)
/-! alone and gossip -/
theorem zx_alone_f {post : Int32 → SX → Prop} {v : Int32} (hv : v < 0 ∨ 4 ≤ v) (h : post (-1) ((nI c), (nI L), ff, fs, fo, ft, amk, atm, aco, apl, arl, aro, akn, akf, ard, awi, avo, ade, afa, adc, arc, aft, aor, apo, ast)) : wpX_alone post ((nI c), (nI L), ff, fs, fo, ft, amk, atm, aco, apl, arl, aro, akn, akf, ard, awi, avo, ade, afa, adc, arc, aft, aor, apo, ast) v tt cn := by
  unfold wpX_alone
  exact zx_mb_f hv (br_t rfl h)
theorem zx_alone_t {post : Int32 → SX → Prop} (hE : zz_E amk apl arl aro akn akf ard M P RL Ro kn kf R) (hFF : zz_F c L M P RL Ro kn kf R awi aco avo ade U W) (hm : m < 4) (hw : zg_own c M m ow) (hcn : cn = 0 ∨ cn = 1) (h0 : ¬ c < 48 → post (-3) ((nI c), (nI L), ff, fs, fo, ft, amk, atm, aco, apl, arl, aro, akn, akf, ard, awi, avo, ade, afa, adc, arc, aft, aor, apo, ast))
    (hp : c < 48 → ∀ (akn' akf' avo' ade' : Nat → Int32) (kn' kf' : Nat → Nat) (r r' : Nat) (b : Int32), r = zg_mx (zg_ro R ow) (zg_ro R 0) → r' = zx_r r (zc_ct (fun w => ¬ awi w = 0 ∧ R w = r ∧ 3 ≤ zc_ct (zg_B (c + 1) (zu_N M c m) (zm_U c ow 0 U) w c) 4) c) → b = (if r' ≤ zg_ro R ow then 0 else 1) →
      zz_E (upd amk c (nI m)) (upd apl c (nI (RL m))) (upd arl m (nI (RL m + 1))) (upd aro (48 * m + RL m) (nI c)) akn' akf' (upd ard c (nI r')) (zu_N M c m) (zu_N P c (RL m)) (zu_N RL m (RL m + 1)) (zu_N Ro (48 * m + RL m) c) kn' kf' (zu_N R c r') →
      zz_F (c + 1) (zg_mx r' L) (zu_N M c m) (zu_N P c (RL m)) (zu_N RL m (RL m + 1)) (zu_N Ro (48 * m + RL m) c) kn' kf' (zu_N R c r') (upd awi c b) (upd aco c cn) avo' ade' (zm_U c ow 0 U) (zm_W c m ow 0 M U W) →
      post (nI c) ((nI (c + 1)), (nI (zg_mx r' L)), 0, fs, fo, ft, (upd amk c (nI m)), (upd atm c tt), (upd aco c cn), (upd apl c (nI (RL m))), (upd arl m (nI (RL m + 1))), (upd aro (48 * m + RL m) (nI c)), (akn'), (akf'), (upd ard c (nI r')), (upd awi c b), (avo'), (ade'), afa, adc, arc, aft, aor, apo, ast)) :
    wpX_alone post ((nI c), (nI L), ff, fs, fo, ft, amk, atm, aco, apl, arl, aro, akn, akf, ard, awi, avo, ade, afa, adc, arc, aft, aor, apo, ast) (nI m) tt cn := by
  have hc := hFF.1
  unfold wpX_alone
  refine zx_mb_t hm (br_f zo_10 (zn_if (zn_lt48 (by omega)) (fun l => ?_) (fun l => h0 l)))
  exact zx_makeO zp_0.symm hE hFF l hm hw (Nat.zero_le c) hcn (hp l)
theorem zy_alone_f {post : Int32 → SY → Prop} {v : Int32} (hv : v < 0 ∨ nI 4 ≤ v) (h : post (-1) ((nI c), (nI L), gs, go, gm, amk, atm, aco, bun, bwe, ard, awi, bvo, bfa, bdc, brc, bfi, bor, bso)) : wpY_alone post ((nI c), (nI L), gs, go, gm, amk, atm, aco, bun, bwe, ard, awi, bvo, bfa, bdc, brc, bfi, bor, bso) v tt cn :=
  br_c (fun _ => h) (fun n => br_f (zq_4 (hv.resolve_left n)).2.1 h)
theorem zy_alone_0 {post : Int32 → SY → Prop} (hm : m < 4) (hc : c = 48) (h : post (-3) ((nI c), (nI L), gs, go, gm, amk, atm, aco, bun, bwe, ard, awi, bvo, bfa, bdc, brc, bfi, bor, bso)) : wpY_alone post ((nI c), (nI L), gs, go, gm, amk, atm, aco, bun, bwe, ard, awi, bvo, bfa, bdc, brc, bfi, bor, bso) (nI m) tt cn :=
  br_f (nI_pos (by omega)) (br_t ((zn_le3 (by omega)).mpr (by omega)) (br_t ((zn_eq48 (by omega)).mpr hc) h))
theorem zy_alone_t {post : Int32 → SY → Prop} (emk : ∀ j, amk j = nI (M j)) (erd : ∀ j, ard j = nI (R j)) (hFF : zz_F c L M P RL Ro kn kf R awi aco avo ade U W) (hbu : ∀ x y, zb_l (bun y) x = true ↔ U x y) (hbw : ∀ x y, zb_l (bwe y) x = true ↔ W x y) (hc : c < 48) (hm : m < 4) (hw : zg_own c M m ow) (hcn : cn = 0 ∨ cn = 1)
    (hp : ∀ (bun' bwe' : Nat → Int64) (r r' : Nat) (b : Int32), r = zg_mx (zg_ro R ow) (zg_ro R 0) → r' = zx_r r (zc_ct (fun w => ¬ awi w = 0 ∧ R w = r ∧ 3 ≤ zc_ct (zg_B (c + 1) (zu_N M c m) (zm_U c ow 0 U) w c) 4) c) → b = (if r' ≤ zg_ro R ow then 0 else 1) →
      (∀ x y, zb_l (bun' y) x = true ↔ zm_U c ow 0 U x y) → (∀ x y, zb_l (bwe' y) x = true ↔ zm_W c m ow 0 M U W x y) →
      post (nI c) ((nI (c + 1)), (nI (zg_mx r' L)), gs, go, gm, (upd amk c (nI m)), (upd atm c tt), (upd aco c cn), (bun'), (bwe'), (upd ard c (nI r')), (upd awi c b), bvo, bfa, bdc, brc, bfi, bor, bso)) :
    wpY_alone post ((nI c), (nI L), gs, go, gm, amk, atm, aco, bun, bwe, ard, awi, bvo, bfa, bdc, brc, bfi, bor, bso) (nI m) tt cn := by
  refine br_f (nI_pos (by omega)) (br_t ((zn_le3 (by omega)).mpr (by omega)) (br_f (fun z => absurd ((zn_eq48 (by omega)).mp z) (by omega)) ?_))
  refine zy_latestU hFF.1 hm emk hFF.2.1.1 hw ?_
  exact zy_makeO zp_0.symm emk erd hFF hbu hbw hc hm hw (Nat.zero_le c) (fun _ => rfl) hcn hp
theorem zx_gos_m {post : Int32 → SX → Prop} {v : Int32} (hv : v < 0 ∨ 4 ≤ v) (h : post (-1) ((nI c), (nI L), ff, fs, fo, ft, amk, atm, aco, apl, arl, aro, akn, akf, ard, awi, avo, ade, afa, adc, arc, aft, aor, apo, ast)) : wpX_gossip post ((nI c), (nI L), ff, fs, fo, ft, amk, atm, aco, apl, arl, aro, akn, akf, ard, awi, avo, ade, afa, adc, arc, aft, aor, apo, ast) v o tt cn := by
  unfold wpX_gossip
  exact zx_mb_f hv (br_t rfl h)
theorem zx_gos_e {post : Int32 → SX → Prop} (hm : m < 4) (hv : o < 0 ∨ nI c ≤ o) (h : post (-1) ((nI c), (nI L), ff, fs, fo, ft, amk, atm, aco, apl, arl, aro, akn, akf, ard, awi, avo, ade, afa, adc, arc, aft, aor, apo, ast)) : wpX_gossip post ((nI c), (nI L), ff, fs, fo, ft, amk, atm, aco, apl, arl, aro, akn, akf, ard, awi, avo, ade, afa, adc, arc, aft, aor, apo, ast) (nI m) o tt cn := by
  unfold wpX_gossip
  exact zx_mb_t hm (br_f zo_10 (zx_ev_f hv (br_t rfl h)))
theorem zx_gos_t {post : Int32 → SX → Prop} {x : Nat} (hE : zz_E amk apl arl aro akn akf ard M P RL Ro kn kf R) (hFF : zz_F c L M P RL Ro kn kf R awi aco avo ade U W) (hm : m < 4) (hx : x < c) (hw : zg_own c M m ow) (hcn : cn = 0 ∨ cn = 1) (h1 : M x = m → post (-1) ((nI c), (nI L), ff, fs, fo, ft, amk, atm, aco, apl, arl, aro, akn, akf, ard, awi, avo, ade, afa, adc, arc, aft, aor, apo, ast)) (h2 : ¬ M x = m → ow = 0 → post (-2) ((nI c), (nI L), ff, fs, fo, ft, amk, atm, aco, apl, arl, aro, akn, akf, ard, awi, avo, ade, afa, adc, arc, aft, aor, apo, ast)) (h3 : ¬ M x = m → ¬ ow = 0 → ¬ c < 48 → post (-3) ((nI c), (nI L), ff, fs, fo, ft, amk, atm, aco, apl, arl, aro, akn, akf, ard, awi, avo, ade, afa, adc, arc, aft, aor, apo, ast))
    (hp : ¬ M x = m → ¬ ow = 0 → c < 48 → ∀ (akn' akf' avo' ade' : Nat → Int32) (kn' kf' : Nat → Nat) (r r' : Nat) (b : Int32), r = zg_mx (zg_ro R ow) (zg_ro R (x + 1)) → r' = zx_r r (zc_ct (fun w => ¬ awi w = 0 ∧ R w = r ∧ 3 ≤ zc_ct (zg_B (c + 1) (zu_N M c m) (zm_U c ow (x + 1) U) w c) 4) c) → b = (if r' ≤ zg_ro R ow then 0 else 1) →
      zz_E (upd amk c (nI m)) (upd apl c (nI (RL m))) (upd arl m (nI (RL m + 1))) (upd aro (48 * m + RL m) (nI c)) akn' akf' (upd ard c (nI r')) (zu_N M c m) (zu_N P c (RL m)) (zu_N RL m (RL m + 1)) (zu_N Ro (48 * m + RL m) c) kn' kf' (zu_N R c r') →
      zz_F (c + 1) (zg_mx r' L) (zu_N M c m) (zu_N P c (RL m)) (zu_N RL m (RL m + 1)) (zu_N Ro (48 * m + RL m) c) kn' kf' (zu_N R c r') (upd awi c b) (upd aco c cn) avo' ade' (zm_U c ow (x + 1) U) (zm_W c m ow (x + 1) M U W) →
      post (nI c) ((nI (c + 1)), (nI (zg_mx r' L)), 0, fs, fo, ft, (upd amk c (nI m)), (upd atm c tt), (upd aco c cn), (upd apl c (nI (RL m))), (upd arl m (nI (RL m + 1))), (upd aro (48 * m + RL m) (nI c)), (akn'), (akf'), (upd ard c (nI r')), (upd awi c b), (avo'), (ade'), afa, adc, arc, aft, aor, apo, ast)) :
    wpX_gossip post ((nI c), (nI L), ff, fs, fo, ft, amk, atm, aco, apl, arl, aro, akn, akf, ard, awi, avo, ade, afa, adc, arc, aft, aor, apo, ast) (nI m) (nI x) tt cn := by
  have hc := hFF.1
  have x48 : x < 48 := by omega
  have m4 := hFF.2.1.1 x hx
  have bm := hFF.2.2.1.1 m hm
  have eo := zg_own_u hw (zg_row_own hFF.2.2.1 hm)
  have e0 : RL m = 0 ↔ ow = 0 := by
    constructor
    · intro z; rw [if_pos z] at eo; exact eo
    · intro z
      by_cases g : RL m = 0
      · exact g
      · rw [if_neg g] at eo; omega
  unfold wpX_gossip
  refine zx_mb_t hm (br_f zo_10 (zx_ev_t hc hx (br_f zo_10 (And.intro (zn_i x48) ?_))))
  rw [zn_c x48, hE.1 x]
  refine zn_if (nI_eq (by omega) (by omega)) (fun g => h1 g) (fun g => And.intro (vp_in_nI hm (by decide)) ?_)
  rw [nI_clamp (show m < 2 ^ 31 by omega), hE.2.2.1 m]
  refine zn_if ((zn_eq0 (by omega)).trans e0) (fun z => h2 g z) (fun z => zn_if (zn_lt48 (by omega)) (fun l => ?_) (fun l => h3 g z l))
  exact zx_makeO (zp_s x).symm hE hFF l hm hw hx hcn (hp g z l)
theorem zy_gos_m {post : Int32 → SY → Prop} {v : Int32} (hv : v < 0 ∨ nI 4 ≤ v) (h : post (-1) ((nI c), (nI L), gs, go, gm, amk, atm, aco, bun, bwe, ard, awi, bvo, bfa, bdc, brc, bfi, bor, bso)) : wpY_gossip post ((nI c), (nI L), gs, go, gm, amk, atm, aco, bun, bwe, ard, awi, bvo, bfa, bdc, brc, bfi, bor, bso) v o tt cn :=
  br_c (fun _ => h) (fun n => br_t (zq_4 (hv.resolve_left n)).2.2 h)
theorem zy_gos_e {post : Int32 → SY → Prop} (hm : m < 4) (hv : o < 0 ∨ nI c ≤ o) (h : post (-1) ((nI c), (nI L), gs, go, gm, amk, atm, aco, bun, bwe, ard, awi, bvo, bfa, bdc, brc, bfi, bor, bso)) : wpY_gossip post ((nI c), (nI L), gs, go, gm, amk, atm, aco, bun, bwe, ard, awi, bvo, bfa, bdc, brc, bfi, bor, bso) (nI m) o tt cn :=
  br_f (nI_pos (by omega)) (br_f (fun z => absurd ((zn_3lt (by omega)).mp z) (by omega)) (zy_bad_t hv (br_f zo_10 h)))
theorem zy_gos_t {post : Int32 → SY → Prop} {x : Nat} (emk : ∀ j, amk j = nI (M j)) (erd : ∀ j, ard j = nI (R j)) (hFF : zz_F c L M P RL Ro kn kf R awi aco avo ade U W) (hbu : ∀ x y, zb_l (bun y) x = true ↔ U x y) (hbw : ∀ x y, zb_l (bwe y) x = true ↔ W x y) (hm : m < 4) (hx : x < c) (hw : zg_own c M m ow) (hcn : cn = 0 ∨ cn = 1) (h1 : M x = m → post (-1) ((nI c), (nI L), gs, go, gm, amk, atm, aco, bun, bwe, ard, awi, bvo, bfa, bdc, brc, bfi, bor, bso)) (h2 : ¬ M x = m → ow = 0 → post (-2) ((nI c), (nI L), gs, go, gm, amk, atm, aco, bun, bwe, ard, awi, bvo, bfa, bdc, brc, bfi, bor, bso)) (h3 : ¬ M x = m → ¬ ow = 0 → ¬ c < 48 → post (-3) ((nI c), (nI L), gs, go, gm, amk, atm, aco, bun, bwe, ard, awi, bvo, bfa, bdc, brc, bfi, bor, bso))
    (hp : ¬ M x = m → ¬ ow = 0 → c < 48 → ∀ (bun' bwe' : Nat → Int64) (r r' : Nat) (b : Int32), r = zg_mx (zg_ro R ow) (zg_ro R (x + 1)) → r' = zx_r r (zc_ct (fun w => ¬ awi w = 0 ∧ R w = r ∧ 3 ≤ zc_ct (zg_B (c + 1) (zu_N M c m) (zm_U c ow (x + 1) U) w c) 4) c) → b = (if r' ≤ zg_ro R ow then 0 else 1) →
      (∀ x' y, zb_l (bun' y) x' = true ↔ zm_U c ow (x + 1) U x' y) → (∀ x' y, zb_l (bwe' y) x' = true ↔ zm_W c m ow (x + 1) M U W x' y) →
      post (nI c) ((nI (c + 1)), (nI (zg_mx r' L)), gs, go, gm, (upd amk c (nI m)), (upd atm c tt), (upd aco c cn), (bun'), (bwe'), (upd ard c (nI r')), (upd awi c b), bvo, bfa, bdc, brc, bfi, bor, bso)) :
    wpY_gossip post ((nI c), (nI L), gs, go, gm, amk, atm, aco, bun, bwe, ard, awi, bvo, bfa, bdc, brc, bfi, bor, bso) (nI m) (nI x) tt cn := by
  have hc := hFF.1
  have x48 : x < 48 := by omega
  have m4 := hFF.2.1.1 x hx
  have ol := zg_ownle hw
  refine br_f (nI_pos (by omega)) (br_f (fun z => absurd ((zn_3lt (by omega)).mp z) (by omega)) (zy_bad_f hc hx (br_t rfl (And.intro (zn_i x48) ?_))))
  rw [zn_c x48, emk x]
  refine zn_if (nI_eq (by omega) (by omega)) (fun g => h1 g) (fun g => ?_)
  refine zy_latestU hc hm emk hFF.2.1.1 hw (zn_if (zp_0le (by omega)) (fun z => zn_if (zn_eq48 (by omega)) (fun l => h3 g (by omega) (by omega)) (fun l => ?_)) (fun z => h2 g (by omega)))
  refine zy_latestU hc hm emk hFF.2.1.1 hw ?_
  exact zy_makeO (zp_s x).symm emk erd hFF hbu hbw (by omega) hm hw hx (fun t => absurd t (by omega)) hcn (hp g (by omega) (by omega))
end QM
end
section
/-! the owed statements (copied), and their proofs -/
theorem i_vc_alone {k : Nat} {u : SX} {v : SY} (I : i_Rel k u v) (hk : k + 5 ≤ 2560) (v1 : Int32) (v2 : Int32) (v3 : Int32) : wpX_alone (fun r u' => wpY_alone (fun r' v' => r' = r ∧ i_Rel (k + 5) u' v') v v1 v2 (lw_bz v3)) u v1 v2 (lw_bz v3) := by
  refine zz_el (Q := fun u v => wpX_alone (fun r u' => wpY_alone (fun r' v' => r' = r ∧ i_Rel (k + 5) u' v') v v1 v2 (lw_bz v3)) u v1 v2 (lw_bz v3)) ?_ I
  intro c L ff fs fo ft amk atm aco apl arl aro akn akf ard awi avo ade afa adc arc aft aor apo ast gs go gm bvo bfa bdc brc bfi bor bso bun bwe M P RL Ro kn kf R U W ⟨hE, hFF, hbu, hbw, hX⟩
  have hc := hFF.1
  rcases pk_ix v1 (n := 4) (by decide) with hv | hv | ⟨m, hm, rfl⟩
  · exact zx_alone_f (Or.inl hv) (zy_alone_f (Or.inl hv) ⟨rfl, zz_in hE hFF hbu hbw hX⟩)
  · exact zx_alone_f (Or.inr hv) (zy_alone_f (Or.inr hv) ⟨rfl, zz_in hE hFF hbu hbw hX⟩)
  · have hw := zg_row_own hFF.2.2.1 hm
    refine zx_alone_t hE hFF hm hw (lw_bz_01 v3) (fun l => zy_alone_0 hm (by omega) ⟨rfl, zz_in hE hFF hbu hbw hX⟩) ?_
    intro l akn2 akf2 avo2 ade2 kn2 kf2 r r2 b er er2 eb hE2 hFF2
    refine zy_alone_t hE.1 hE.2.2.2.2.2.2 hFF hbu hbw l hm hw (lw_bz_01 v3) ?_
    intro bun2 bwe2 s s2 d es es2 ed hbu2 hbw2
    have e1 : s = r := es.trans er.symm
    subst e1
    have e2 : s2 = r2 := es2.trans er2.symm
    subst e2
    have e3 : d = b := ed.trans eb.symm
    subst e3
    exact ⟨rfl, zz_in hE2 hFF2 hbu2 hbw2 (fun h => absurd rfl h)⟩
theorem i_vc_gossip {k : Nat} {u : SX} {v : SY} (I : i_Rel k u v) (hk : k + 5 ≤ 2560) (v1 : Int32) (v2 : Int32) (v3 : Int32) (v4 : Int32) : wpX_gossip (fun r u' => wpY_gossip (fun r' v' => r' = r ∧ i_Rel (k + 5) u' v') v v1 v2 v3 (lw_bz v4)) u v1 v2 v3 (lw_bz v4) := by
  refine zz_el (Q := fun u v => wpX_gossip (fun r u' => wpY_gossip (fun r' v' => r' = r ∧ i_Rel (k + 5) u' v') v v1 v2 v3 (lw_bz v4)) u v1 v2 v3 (lw_bz v4)) ?_ I
  intro c L ff fs fo ft amk atm aco apl arl aro akn akf ard awi avo ade afa adc arc aft aor apo ast gs go gm bvo bfa bdc brc bfi bor bso bun bwe M P RL Ro kn kf R U W ⟨hE, hFF, hbu, hbw, hX⟩
  have hc := hFF.1
  rcases pk_ix v1 (n := 4) (by decide) with hv | hv | ⟨m, hm, rfl⟩
  · exact zx_gos_m (Or.inl hv) (zy_gos_m (Or.inl hv) ⟨rfl, zz_in hE hFF hbu hbw hX⟩)
  · exact zx_gos_m (Or.inr hv) (zy_gos_m (Or.inr hv) ⟨rfl, zz_in hE hFF hbu hbw hX⟩)
  · rcases pk_ix v2 (n := c) (by omega) with hv | hv | ⟨x, hx, rfl⟩
    · exact zx_gos_e hm (Or.inl hv) (zy_gos_e hm (Or.inl hv) ⟨rfl, zz_in hE hFF hbu hbw hX⟩)
    · exact zx_gos_e hm (Or.inr hv) (zy_gos_e hm (Or.inr hv) ⟨rfl, zz_in hE hFF hbu hbw hX⟩)
    · have hw := zg_row_own hFF.2.2.1 hm
      have hin : i_Rel (k + 5) ((nI c), (nI L), ff, fs, fo, ft, amk, atm, aco, apl, arl, aro, akn, akf, ard, awi, avo, ade, afa, adc, arc, aft, aor, apo, ast) ((nI c), (nI L), gs, go, gm, amk, atm, aco, bun, bwe, ard, awi, bvo, bfa, bdc, brc, bfi, bor, bso) := zz_in hE hFF hbu hbw hX
      refine zx_gos_t hE hFF hm hx hw (lw_bz_01 v4) ?_ ?_ ?_ ?_
      · intro g1
        exact zy_gos_t hE.1 hE.2.2.2.2.2.2 hFF hbu hbw hm hx hw (lw_bz_01 v4) (fun _ => ⟨rfl, hin⟩) (fun g => absurd g1 g) (fun g => absurd g1 g) (fun g => absurd g1 g)
      · intro g1 g2
        exact zy_gos_t hE.1 hE.2.2.2.2.2.2 hFF hbu hbw hm hx hw (lw_bz_01 v4) (fun g => absurd g g1) (fun _ _ => ⟨rfl, hin⟩) (fun _ g => absurd g2 g) (fun _ g => absurd g2 g)
      · intro g1 g2 g3
        exact zy_gos_t hE.1 hE.2.2.2.2.2.2 hFF hbu hbw hm hx hw (lw_bz_01 v4) (fun g => absurd g g1) (fun _ g => absurd g g2) (fun _ _ _ => ⟨rfl, hin⟩) (fun _ _ g => absurd g g3)
      · intro g1 g2 g3 akn2 akf2 avo2 ade2 kn2 kf2 r r2 b er er2 eb hE2 hFF2
        refine zy_gos_t hE.1 hE.2.2.2.2.2.2 hFF hbu hbw hm hx hw (lw_bz_01 v4) (fun g => absurd g g1) (fun _ g => absurd g g2) (fun _ _ g => absurd g3 g) ?_
        intro _ _ _ bun2 bwe2 s s2 d es es2 ed hbu2 hbw2
        have e1 : s = r := es.trans er.symm
        subst e1
        have e2 : s2 = r2 := es2.trans er2.symm
        subst e2
        have e3 : d = b := ed.trans eb.symm
        subst e3
        exact ⟨rfl, zz_in hE2 hFF2 hbu2 hbw2 (fun h => absurd rfl h)⟩
theorem i_vc_events {k : Nat} {u : SX} {v : SY} (I : i_Rel k u v) (hk : k + 5 ≤ 2560) : wpX_events (fun r => wpY_events (fun r' => r' = r ∧ i_Rel (k + 5) u v) v) u := by
  refine zz_el (Q := fun u v => wpX_events (fun r => wpY_events (fun r' => r' = r ∧ i_Rel (k + 5) u v) v) u) ?_ I
  intro c L ff fs fo ft amk atm aco apl arl aro akn akf ard awi avo ade afa adc arc aft aor apo ast gs go gm bvo bfa bdc brc bfi bor bso bun bwe M P RL Ro kn kf R U W ⟨hE, hFF, hbu, hbw, hX⟩
  have hc := hFF.1
  exact And.intro rfl (zz_in hE hFF hbu hbw hX)
theorem i_vc_latest {k : Nat} {u : SX} {v : SY} (I : i_Rel k u v) (hk : k + 5 ≤ 2560) (v1 : Int32) : wpX_latest (fun r => wpY_latest (fun r' => r' = r ∧ i_Rel (k + 5) u v) v v1) u v1 := by
  refine zz_el (Q := fun u v => wpX_latest (fun r => wpY_latest (fun r' => r' = r ∧ i_Rel (k + 5) u v) v v1) u v1) ?_ I
  intro c L ff fs fo ft amk atm aco apl arl aro akn akf ard awi avo ade afa adc arc aft aor apo ast gs go gm bvo bfa bdc brc bfi bor bso bun bwe M P RL Ro kn kf R U W ⟨hE, hFF, hbu, hbw, hX⟩
  have hc := hFF.1
  have hin : i_Rel (k + 5) ((nI c), (nI L), ff, fs, fo, ft, amk, atm, aco, apl, arl, aro, akn, akf, ard, awi, avo, ade, afa, adc, arc, aft, aor, apo, ast) ((nI c), (nI L), gs, go, gm, amk, atm, aco, bun, bwe, ard, awi, bvo, bfa, bdc, brc, bfi, bor, bso) := zz_in hE hFF hbu hbw hX
  unfold wpX_latest
  rcases pk_ix v1 (n := 4) (by decide) with hv | hv | ⟨m, hm, rfl⟩
  · exact zx_mb_f (Or.inl hv) (br_t rfl (br_t hv ⟨rfl, hin⟩))
  · exact zx_mb_f (Or.inr hv) (br_t rfl (br_f (zq_4 hv).1 (br_f (zq_4 hv).2.1 ⟨rfl, hin⟩)))
  · have hw := zg_row_own hFF.2.2.1 hm
    have ol := zg_ownle hw
    have bm := hFF.2.2.1.1 m hm
    have hY : ∀ (post : Int32 → Prop) (ow : Nat), zg_own c M m ow → (ow = 0 → post (-2)) → (¬ ow = 0 → post (zp_I ow)) → wpY_latest post ((nI c), (nI L), gs, go, gm, amk, atm, aco, bun, bwe, ard, awi, bvo, bfa, bdc, brc, bfi, bor, bso) (nI m) := by
      intro post ow hw p0 p1
      have ol := zg_ownle hw
      refine br_f (nI_pos (by omega)) (br_t ((zn_le3 (by omega)).mpr (by omega)) ?_)
      refine zy_latestU hc hm hE.1 hFF.2.1.1 hw (zn_if (zp_0le (by omega)) (fun g => ?_) (fun g => p0 (by omega)))
      exact zy_latestU hc hm hE.1 hFF.2.1.1 hw (p1 (by omega))
    refine zx_mb_t hm (br_f zo_10 (And.intro (vp_in_nI hm (by decide)) ?_))
    rw [nI_clamp (show m < 2 ^ 31 by omega), hE.2.2.1 m]
    refine zn_if (zn_eq0 (by omega)) (fun g => ?_) (fun g => And.intro (vp_in_nI hm (by decide)) ?_)
    · rw [if_pos g] at hw
      exact hY _ 0 hw (fun _ => ⟨rfl, hin⟩) (fun z => absurd rfl z)
    · rw [if_neg g] at hw
      have e1 : 48 * nI m + nI (RL m) - 1 = nI (48 * m + (RL m - 1)) := by
        rw [zn_48, zn_sub1 (by omega)]
        exact congrArg nI (by omega)
      rw [e1, nI_clamp (show 48 * m + (RL m - 1) < 2 ^ 31 by omega), hE.2.2.2.1]
      refine And.intro (vp_in_nI (by omega) (by decide)) ?_
      exact hY _ _ hw (fun z => absurd z (by omega)) (fun _ => ⟨zp_s _, hin⟩)
theorem i_vc_under {k : Nat} {u : SX} {v : SY} (I : i_Rel k u v) (hk : k + 5 ≤ 2560) (v1 : Int32) (v2 : Int32) : wpX_under (fun r => wpY_under (fun r' => r' = r ∧ i_Rel (k + 5) u v) v v1 v2) u v1 v2 := by
  refine zz_el (Q := fun u v => wpX_under (fun r => wpY_under (fun r' => r' = r ∧ i_Rel (k + 5) u v) v v1 v2) u v1 v2) ?_ I
  intro c L ff fs fo ft amk atm aco apl arl aro akn akf ard awi avo ade afa adc arc aft aor apo ast gs go gm bvo bfa bdc brc bfi bor bso bun bwe M P RL Ro kn kf R U W ⟨hE, hFF, hbu, hbw, hX⟩
  have hc := hFF.1
  have hin : i_Rel (k + 5) ((nI c), (nI L), ff, fs, fo, ft, amk, atm, aco, apl, arl, aro, akn, akf, ard, awi, avo, ade, afa, adc, arc, aft, aor, apo, ast) ((nI c), (nI L), gs, go, gm, amk, atm, aco, bun, bwe, ard, awi, bvo, bfa, bdc, brc, bfi, bor, bso) := zz_in hE hFF hbu hbw hX
  unfold wpX_under
  rcases pk_ix v1 (n := c) (by omega) with hv | hv | ⟨x, hx, rfl⟩
  · refine zx_ev_f (Or.inl hv) (br_t rfl ?_)
    unfold wpY_under
    exact zy_bad_t (Or.inl hv) (br_f zo_10 ⟨rfl, hin⟩)
  · refine zx_ev_f (Or.inr hv) (br_t rfl ?_)
    unfold wpY_under
    exact zy_bad_t (Or.inr hv) (br_f zo_10 ⟨rfl, hin⟩)
  · have x48 : x < 48 := by omega
    refine zx_ev_t hc hx (br_f zo_10 ?_)
    rcases pk_ix v2 (n := c) (by omega) with hv | hv | ⟨y, hy, rfl⟩
    · refine zx_ev_f (Or.inl hv) (br_t rfl ?_)
      unfold wpY_under
      exact zy_bad_f hc hx (br_t rfl (zy_bad_t (Or.inl hv) (br_f zo_10 ⟨rfl, hin⟩)))
    · refine zx_ev_f (Or.inr hv) (br_t rfl ?_)
      unfold wpY_under
      exact zy_bad_f hc hx (br_t rfl (zy_bad_t (Or.inr hv) (br_f zo_10 ⟨rfl, hin⟩)))
    · have y48 : y < 48 := by omega
      refine zx_ev_t hc hy (br_f zo_10 ?_)
      have hY : ∀ (post : Int32 → Prop), (U x y → post 1) → (¬ U x y → post 0) → wpY_under post ((nI c), (nI L), gs, go, gm, amk, atm, aco, bun, bwe, ard, awi, bvo, bfa, bdc, brc, bfi, bor, bso) (nI x) (nI y) := by
        intro post p1 p0
        unfold wpY_under
        refine zy_bad_f hc hx (br_t rfl (zy_bad_f hc hy (br_t rfl (And.intro (zn_i y48) ?_))))
        rw [zn_c y48]
        exact zy_has x48 (fun b => br_f zo_10 (p1 ((hbu x y).mp b))) (fun b => br_t rfl (p0 (fun z => b ((hbu x y).mpr z))))
      exact zx_under hc hE.1 hE.2.1 hE.2.2.2.2.1 hFF.2.1 hFF.2.2.1 hFF.2.2.2.1 hx hy (fun u1 => br_f zo_10 (hY _ (fun _ => ⟨rfl, hin⟩) (fun z => absurd u1 z))) (fun u0 => br_t rfl (hY _ (fun z => absurd z u0) (fun _ => ⟨rfl, hin⟩)))
theorem i_vc_wellUnder {k : Nat} {u : SX} {v : SY} (I : i_Rel k u v) (hk : k + 5 ≤ 2560) (v1 : Int32) (v2 : Int32) : wpX_wellUnder (fun r => wpY_wellUnder (fun r' => r' = r ∧ i_Rel (k + 5) u v) v v1 v2) u v1 v2 := by
  refine zz_el (Q := fun u v => wpX_wellUnder (fun r => wpY_wellUnder (fun r' => r' = r ∧ i_Rel (k + 5) u v) v v1 v2) u v1 v2) ?_ I
  intro c L ff fs fo ft amk atm aco apl arl aro akn akf ard awi avo ade afa adc arc aft aor apo ast gs go gm bvo bfa bdc brc bfi bor bso bun bwe M P RL Ro kn kf R U W ⟨hE, hFF, hbu, hbw, hX⟩
  have hc := hFF.1
  have hin : i_Rel (k + 5) ((nI c), (nI L), ff, fs, fo, ft, amk, atm, aco, apl, arl, aro, akn, akf, ard, awi, avo, ade, afa, adc, arc, aft, aor, apo, ast) ((nI c), (nI L), gs, go, gm, amk, atm, aco, bun, bwe, ard, awi, bvo, bfa, bdc, brc, bfi, bor, bso) := zz_in hE hFF hbu hbw hX
  unfold wpX_wellUnder
  rcases pk_ix v1 (n := c) (by omega) with hv | hv | ⟨x, hx, rfl⟩
  · refine zx_ev_f (Or.inl hv) (br_t rfl ?_)
    unfold wpY_wellUnder
    exact zy_bad_t (Or.inl hv) (br_f zo_10 ⟨rfl, hin⟩)
  · refine zx_ev_f (Or.inr hv) (br_t rfl ?_)
    unfold wpY_wellUnder
    exact zy_bad_t (Or.inr hv) (br_f zo_10 ⟨rfl, hin⟩)
  · have x48 : x < 48 := by omega
    refine zx_ev_t hc hx (br_f zo_10 ?_)
    rcases pk_ix v2 (n := c) (by omega) with hv | hv | ⟨y, hy, rfl⟩
    · refine zx_ev_f (Or.inl hv) (br_t rfl ?_)
      unfold wpY_wellUnder
      exact zy_bad_f hc hx (br_t rfl (zy_bad_t (Or.inl hv) (br_f zo_10 ⟨rfl, hin⟩)))
    · refine zx_ev_f (Or.inr hv) (br_t rfl ?_)
      unfold wpY_wellUnder
      exact zy_bad_f hc hx (br_t rfl (zy_bad_t (Or.inr hv) (br_f zo_10 ⟨rfl, hin⟩)))
    · have y48 : y < 48 := by omega
      refine zx_ev_t hc hy (br_f zo_10 ?_)
      have hY : ∀ (post : Int32 → Prop), (W x y → post 1) → (¬ W x y → post 0) → wpY_wellUnder post ((nI c), (nI L), gs, go, gm, amk, atm, aco, bun, bwe, ard, awi, bvo, bfa, bdc, brc, bfi, bor, bso) (nI x) (nI y) := by
        intro post p1 p0
        unfold wpY_wellUnder
        refine zy_bad_f hc hx (br_t rfl (zy_bad_f hc hy (br_t rfl (And.intro (zn_i y48) ?_))))
        rw [zn_c y48]
        exact zy_has x48 (fun b => br_f zo_10 (p1 ((hbw x y).mp b))) (fun b => br_t rfl (p0 (fun z => b ((hbw x y).mpr z))))
      have hW := hFF.2.2.2.2.2.1.2 x y hx hy
      exact zx_well hc hE.2.2.2.2.1 hE.2.2.2.2.2.1 hFF.2.2.1 hFF.2.2.2.1 hFF.2.2.2.2.1 hx hy (fun u1 => br_f zo_10 (hY _ (fun _ => ⟨rfl, hin⟩) (fun z => absurd (hW.mpr u1) z))) (fun u0 => br_t rfl (hY _ (fun z => absurd (hW.mp z) u0) (fun _ => ⟨rfl, hin⟩)))
theorem i_vc_round {k : Nat} {u : SX} {v : SY} (I : i_Rel k u v) (hk : k + 5 ≤ 2560) (v1 : Int32) : wpX_round (fun r => wpY_round (fun r' => r' = r ∧ i_Rel (k + 5) u v) v v1) u v1 := by
  refine zz_el (Q := fun u v => wpX_round (fun r => wpY_round (fun r' => r' = r ∧ i_Rel (k + 5) u v) v v1) u v1) ?_ I
  intro c L ff fs fo ft amk atm aco apl arl aro akn akf ard awi avo ade afa adc arc aft aor apo ast gs go gm bvo bfa bdc brc bfi bor bso bun bwe M P RL Ro kn kf R U W ⟨hE, hFF, hbu, hbw, hX⟩
  have hc := hFF.1
  have hin : i_Rel (k + 5) ((nI c), (nI L), ff, fs, fo, ft, amk, atm, aco, apl, arl, aro, akn, akf, ard, awi, avo, ade, afa, adc, arc, aft, aor, apo, ast) ((nI c), (nI L), gs, go, gm, amk, atm, aco, bun, bwe, ard, awi, bvo, bfa, bdc, brc, bfi, bor, bso) := zz_in hE hFF hbu hbw hX
  unfold wpX_round
  rcases pk_ix v1 (n := c) (by omega) with hv | hv | ⟨x, hx, rfl⟩
  · refine zx_ev_f (Or.inl hv) (br_t rfl ?_)
    unfold wpY_round
    exact zy_bad_t (Or.inl hv) (br_f zo_10 ⟨rfl, hin⟩)
  · refine zx_ev_f (Or.inr hv) (br_t rfl ?_)
    unfold wpY_round
    exact zy_bad_t (Or.inr hv) (br_f zo_10 ⟨rfl, hin⟩)
  · have x48 : x < 48 := by omega
    refine zx_ev_t hc hx (br_f zo_10 ?_)
    refine And.intro (zn_i x48) ?_
    unfold wpY_round
    exact zy_bad_f hc hx (br_t rfl (And.intro (zn_i x48) ⟨rfl, hin⟩))
theorem i_vc_witness {k : Nat} {u : SX} {v : SY} (I : i_Rel k u v) (hk : k + 5 ≤ 2560) (v1 : Int32) : wpX_witness (fun r => wpY_witness (fun r' => r' = r ∧ i_Rel (k + 5) u v) v v1) u v1 := by
  refine zz_el (Q := fun u v => wpX_witness (fun r => wpY_witness (fun r' => r' = r ∧ i_Rel (k + 5) u v) v v1) u v1) ?_ I
  intro c L ff fs fo ft amk atm aco apl arl aro akn akf ard awi avo ade afa adc arc aft aor apo ast gs go gm bvo bfa bdc brc bfi bor bso bun bwe M P RL Ro kn kf R U W ⟨hE, hFF, hbu, hbw, hX⟩
  have hc := hFF.1
  have hin : i_Rel (k + 5) ((nI c), (nI L), ff, fs, fo, ft, amk, atm, aco, apl, arl, aro, akn, akf, ard, awi, avo, ade, afa, adc, arc, aft, aor, apo, ast) ((nI c), (nI L), gs, go, gm, amk, atm, aco, bun, bwe, ard, awi, bvo, bfa, bdc, brc, bfi, bor, bso) := zz_in hE hFF hbu hbw hX
  unfold wpX_witness
  rcases pk_ix v1 (n := c) (by omega) with hv | hv | ⟨x, hx, rfl⟩
  · refine zx_ev_f (Or.inl hv) (br_t rfl ?_)
    unfold wpY_witness
    exact zy_bad_t (Or.inl hv) (br_f zo_10 ⟨rfl, hin⟩)
  · refine zx_ev_f (Or.inr hv) (br_t rfl ?_)
    unfold wpY_witness
    exact zy_bad_t (Or.inr hv) (br_f zo_10 ⟨rfl, hin⟩)
  · have x48 : x < 48 := by omega
    refine zx_ev_t hc hx (br_f zo_10 ?_)
    refine And.intro (zn_i x48) ?_
    refine br_c (fun w0 => ?_) (fun w1 => ?_)
    · unfold wpY_witness
      exact zy_bad_f hc hx (br_t rfl (And.intro (zn_i x48) (br_t w0 ⟨rfl, hin⟩)))
    · unfold wpY_witness
      exact zy_bad_f hc hx (br_t rfl (And.intro (zn_i x48) (br_f w1 ⟨rfl, hin⟩)))
theorem i_vc_witnesses {k : Nat} {u : SX} {v : SY} (I : i_Rel k u v) (hk : k + 5 ≤ 2560) (v1 : Int32) : wpX_witnesses (fun r => wpY_witnesses (fun r' => r' = r ∧ i_Rel (k + 5) u v) v v1) u v1 := by
  refine zz_el (Q := fun u v => wpX_witnesses (fun r => wpY_witnesses (fun r' => r' = r ∧ i_Rel (k + 5) u v) v v1) u v1) ?_ I
  intro c L ff fs fo ft amk atm aco apl arl aro akn akf ard awi avo ade afa adc arc aft aor apo ast gs go gm bvo bfa bdc brc bfi bor bso bun bwe M P RL Ro kn kf R U W ⟨hE, hFF, hbu, hbw, hX⟩
  have hc := hFF.1
  exact zx_wits hc (zy_wits hc ⟨rfl, zz_in hE hFF hbu hbw hX⟩)
theorem i_vc_fame {k : Nat} {u : SX} {v : SY} (I : i_Rel k u v) (hk : k + 5 ≤ 2560) (v1 : Int32) : wpX_fame (fun r u' => wpY_fame (fun r' v' => r' = r ∧ i_Rel (k + 5) u' v') v v1) u v1 := by
  refine zz_el (Q := fun u v => wpX_fame (fun r u' => wpY_fame (fun r' v' => r' = r ∧ i_Rel (k + 5) u' v') v v1) u v1) ?_ I
  intro c L ff fs fo ft amk atm aco apl arl aro akn akf ard awi avo ade afa adc arc aft aor apo ast gs go gm bvo bfa bdc brc bfi bor bso bun bwe M P RL Ro kn kf R U W ⟨hE, hFF, hbu, hbw, hX⟩
  have hc := hFF.1
  rcases pk_ix v1 (n := c) (by omega) with hv | hv | ⟨x, hx, rfl⟩
  · exact zx_fame_f (Or.inl hv) (zy_fame_f (Or.inl hv) ⟨rfl, zz_in hE hFF hbu hbw hX⟩)
  · exact zx_fame_f (Or.inr hv) (zy_fame_f (Or.inr hv) ⟨rfl, zz_in hE hFF hbu hbw hX⟩)
  · exact zx_fame_t hE hFF hX hx (fun ff fs fo ft afa adc arc aft aor apo ast hX2 => zy_fame_t hE.1 hE.2.2.2.2.2.2 hFF hbu hbw hx (fun gs go gm bvo bfa bdc brc bfi bor bso => ⟨rfl, zz_in hE hFF hbu hbw (fun _ => hX2)⟩))
theorem i_vc_decider {k : Nat} {u : SX} {v : SY} (I : i_Rel k u v) (hk : k + 5 ≤ 2560) (v1 : Int32) : wpX_decider (fun r u' => wpY_decider (fun r' v' => r' = r ∧ i_Rel (k + 5) u' v') v v1) u v1 := by
  refine zz_el (Q := fun u v => wpX_decider (fun r u' => wpY_decider (fun r' v' => r' = r ∧ i_Rel (k + 5) u' v') v v1) u v1) ?_ I
  intro c L ff fs fo ft amk atm aco apl arl aro akn akf ard awi avo ade afa adc arc aft aor apo ast gs go gm bvo bfa bdc brc bfi bor bso bun bwe M P RL Ro kn kf R U W ⟨hE, hFF, hbu, hbw, hX⟩
  have hc := hFF.1
  rcases pk_ix v1 (n := c) (by omega) with hv | hv | ⟨x, hx, rfl⟩
  · exact zx_dec_f (Or.inl hv) (zy_dec_f (Or.inl hv) ⟨rfl, zz_in hE hFF hbu hbw hX⟩)
  · exact zx_dec_f (Or.inr hv) (zy_dec_f (Or.inr hv) ⟨rfl, zz_in hE hFF hbu hbw hX⟩)
  · exact zx_dec_t hE hFF hX hx (fun ff fs fo ft afa adc arc aft aor apo ast hX2 => zy_dec_t hE.1 hE.2.2.2.2.2.2 hFF hbu hbw hx (fun gs go gm bvo bfa bdc brc bfi bor bso => ⟨rfl, zz_in hE hFF hbu hbw (fun _ => hX2)⟩))
theorem i_vc_settled {k : Nat} {u : SX} {v : SY} (I : i_Rel k u v) (hk : k + 5 ≤ 2560) : wpX_settled (fun r u' => wpY_settled (fun r' v' => r' = r ∧ i_Rel (k + 5) u' v') v) u := by
  refine zz_el (Q := fun u v => wpX_settled (fun r u' => wpY_settled (fun r' v' => r' = r ∧ i_Rel (k + 5) u' v') v) u) ?_ I
  intro c L ff fs fo ft amk atm aco apl arl aro akn akf ard awi avo ade afa adc arc aft aor apo ast gs go gm bvo bfa bdc brc bfi bor bso bun bwe M P RL Ro kn kf R U W ⟨hE, hFF, hbu, hbw, hX⟩
  have hc := hFF.1
  exact zx_settled hE hFF hX (fun ff fs fo ft afa adc arc aft aor apo ast hX2 => zy_settled hE.1 hE.2.2.2.2.2.2 hFF hbu hbw (fun gs go gm bvo bfa bdc brc bfi bor bso => ⟨rfl, zz_in hE hFF hbu hbw (fun _ => hX2)⟩))
theorem i_vc_received {k : Nat} {u : SX} {v : SY} (I : i_Rel k u v) (hk : k + 5 ≤ 2560) (v1 : Int32) : wpX_received (fun r u' => wpY_received (fun r' v' => r' = r ∧ i_Rel (k + 5) u' v') v v1) u v1 := by
  refine zz_el (Q := fun u v => wpX_received (fun r u' => wpY_received (fun r' v' => r' = r ∧ i_Rel (k + 5) u' v') v v1) u v1) ?_ I
  intro c L ff fs fo ft amk atm aco apl arl aro akn akf ard awi avo ade afa adc arc aft aor apo ast gs go gm bvo bfa bdc brc bfi bor bso bun bwe M P RL Ro kn kf R U W ⟨hE, hFF, hbu, hbw, hX⟩
  have hc := hFF.1
  rcases pk_ix v1 (n := c) (by omega) with hv | hv | ⟨x, hx, rfl⟩
  · exact zx_rec_f (Or.inl hv) (zy_rec_f (Or.inl hv) ⟨rfl, zz_in hE hFF hbu hbw hX⟩)
  · exact zx_rec_f (Or.inr hv) (zy_rec_f (Or.inr hv) ⟨rfl, zz_in hE hFF hbu hbw hX⟩)
  · exact zx_rec_t hE hFF hX hx (fun ff fs fo ft afa adc arc aft aor apo ast hX2 => zy_rec_t hE.1 hE.2.2.2.2.2.2 hFF hbu hbw hx (fun gs go gm bvo bfa bdc brc bfi bor bso => ⟨rfl, zz_in hE hFF hbu hbw (fun _ => hX2)⟩))
theorem i_vc_finalTime {k : Nat} {u : SX} {v : SY} (I : i_Rel k u v) (hk : k + 5 ≤ 2560) (v1 : Int32) : wpX_finalTime (fun r u' => wpY_finalTime (fun r' v' => r' = r ∧ i_Rel (k + 5) u' v') v v1) u v1 := by
  refine zz_el (Q := fun u v => wpX_finalTime (fun r u' => wpY_finalTime (fun r' v' => r' = r ∧ i_Rel (k + 5) u' v') v v1) u v1) ?_ I
  intro c L ff fs fo ft amk atm aco apl arl aro akn akf ard awi avo ade afa adc arc aft aor apo ast gs go gm bvo bfa bdc brc bfi bor bso bun bwe M P RL Ro kn kf R U W ⟨hE, hFF, hbu, hbw, hX⟩
  have hc := hFF.1
  rcases pk_ix v1 (n := c) (by omega) with hv | hv | ⟨x, hx, rfl⟩
  · exact zx_fin_f hE hFF hX (Or.inl hv) (fun ff fs fo ft afa adc arc aft aor apo ast hX2 => zy_fin_f (Or.inl hv) ⟨rfl, zz_in hE hFF hbu hbw (fun _ => hX2)⟩)
  · exact zx_fin_f hE hFF hX (Or.inr hv) (fun ff fs fo ft afa adc arc aft aor apo ast hX2 => zy_fin_f (Or.inr hv) ⟨rfl, zz_in hE hFF hbu hbw (fun _ => hX2)⟩)
  · exact zx_fin_t hE hFF hX hx (fun ff fs fo ft afa adc arc aft aor apo ast hX2 => zy_fin_t hE.1 hE.2.2.2.2.2.2 hFF hbu hbw hx (fun gs go gm bvo bfa bdc brc bfi bor bso => ⟨rfl, zz_in hE hFF hbu hbw (fun _ => hX2)⟩))
theorem i_vc_ordered {k : Nat} {u : SX} {v : SY} (I : i_Rel k u v) (hk : k + 5 ≤ 2560) : wpX_ordered (fun r u' => wpY_ordered (fun r' v' => r' = r ∧ i_Rel (k + 5) u' v') v) u := by
  refine zz_el (Q := fun u v => wpX_ordered (fun r u' => wpY_ordered (fun r' v' => r' = r ∧ i_Rel (k + 5) u' v') v) u) ?_ I
  intro c L ff fs fo ft amk atm aco apl arl aro akn akf ard awi avo ade afa adc arc aft aor apo ast gs go gm bvo bfa bdc brc bfi bor bso bun bwe M P RL Ro kn kf R U W ⟨hE, hFF, hbu, hbw, hX⟩
  have hc := hFF.1
  exact zx_ordered hE hFF hX (fun ff fs fo ft afa adc arc aft aor apo ast hX2 => zy_ordered hE.1 hE.2.2.2.2.2.2 hFF hbu hbw (fun gs go gm bvo bfa bdc brc bfi bor bso => ⟨rfl, zz_in hE hFF hbu hbw (fun _ => hX2)⟩))
theorem i_vc_orderAt {k : Nat} {u : SX} {v : SY} (I : i_Rel k u v) (hk : k + 5 ≤ 2560) (v1 : Int32) : wpX_orderAt (fun r u' => wpY_orderAt (fun r' v' => r' = r ∧ i_Rel (k + 5) u' v') v v1) u v1 := by
  refine zz_el (Q := fun u v => wpX_orderAt (fun r u' => wpY_orderAt (fun r' v' => r' = r ∧ i_Rel (k + 5) u' v') v v1) u v1) ?_ I
  intro c L ff fs fo ft amk atm aco apl arl aro akn akf ard awi avo ade afa adc arc aft aor apo ast gs go gm bvo bfa bdc brc bfi bor bso bun bwe M P RL Ro kn kf R U W ⟨hE, hFF, hbu, hbw, hX⟩
  have hc := hFF.1
  have hb := zq_b (rc := zf_r c L R awi ade avo U) hc
  rcases pk_ix v1 (n := zc_ct (fun j => ¬ zf_r c L R awi ade avo U j = 0) c) (by omega) with hv | hv | ⟨x, hx, rfl⟩
  · exact zx_ordAt_f hE hFF hX (Or.inl hv) (fun ff fs fo ft afa adc arc aft aor apo ast hX2 => zy_ordAt_f hE.1 hE.2.2.2.2.2.2 hFF hbu hbw (Or.inl hv) (fun gs go gm bvo bfa bdc brc bfi bor bso => ⟨rfl, zz_in hE hFF hbu hbw (fun _ => hX2)⟩))
  · exact zx_ordAt_f hE hFF hX (Or.inr hv) (fun ff fs fo ft afa adc arc aft aor apo ast hX2 => zy_ordAt_f hE.1 hE.2.2.2.2.2.2 hFF hbu hbw (Or.inr hv) (fun gs go gm bvo bfa bdc brc bfi bor bso => ⟨rfl, zz_in hE hFF hbu hbw (fun _ => hX2)⟩))
  · exact zx_ordAt_t hE hFF hX hx (fun ff fs fo ft afa adc arc aft aor apo ast hX2 => zy_ordAt_t hE.1 hE.2.2.2.2.2.2 hFF hbu hbw hx (fun gs go gm bvo bfa bdc brc bfi bor bso => ⟨rfl, zz_in hE hFF hbu hbw (fun _ => hX2)⟩))
theorem i_vc_placeOf {k : Nat} {u : SX} {v : SY} (I : i_Rel k u v) (hk : k + 5 ≤ 2560) (v1 : Int32) : wpX_placeOf (fun r u' => wpY_placeOf (fun r' v' => r' = r ∧ i_Rel (k + 5) u' v') v v1) u v1 := by
  refine zz_el (Q := fun u v => wpX_placeOf (fun r u' => wpY_placeOf (fun r' v' => r' = r ∧ i_Rel (k + 5) u' v') v v1) u v1) ?_ I
  intro c L ff fs fo ft amk atm aco apl arl aro akn akf ard awi avo ade afa adc arc aft aor apo ast gs go gm bvo bfa bdc brc bfi bor bso bun bwe M P RL Ro kn kf R U W ⟨hE, hFF, hbu, hbw, hX⟩
  have hc := hFF.1
  rcases pk_ix v1 (n := c) (by omega) with hv | hv | ⟨x, hx, rfl⟩
  · exact zx_plc_f (Or.inl hv) (zy_plc_f (Or.inl hv) ⟨rfl, zz_in hE hFF hbu hbw hX⟩)
  · exact zx_plc_f (Or.inr hv) (zy_plc_f (Or.inr hv) ⟨rfl, zz_in hE hFF hbu hbw hX⟩)
  · exact zx_plc_t hE hFF hX hx (fun ff fs fo ft afa adc arc aft aor apo ast hX2 r hr => zy_plc_t hE.1 hE.2.2.2.2.2.2 hFF hbu hbw hx hr (fun gs go gm bvo bfa bdc brc bfi bor bso => ⟨rfl, zz_in hE hFF hbu hbw (fun _ => hX2)⟩))
theorem i_vc_digest {k : Nat} {u : SX} {v : SY} (I : i_Rel k u v) (hk : k + 5 ≤ 2560) : wpX_digest (fun r u' => wpY_digest (fun r' v' => r' = r ∧ i_Rel (k + 5) u' v') v) u := by
  refine zz_el (Q := fun u v => wpX_digest (fun r u' => wpY_digest (fun r' v' => r' = r ∧ i_Rel (k + 5) u' v') v) u) ?_ I
  intro c L ff fs fo ft amk atm aco apl arl aro akn akf ard awi avo ade afa adc arc aft aor apo ast gs go gm bvo bfa bdc brc bfi bor bso bun bwe M P RL Ro kn kf R U W ⟨hE, hFF, hbu, hbw, hX⟩
  have hc := hFF.1
  exact zx_digest hE hFF hX (fun ff fs fo ft afa adc arc aft aor apo ast hX2 => zy_digest hE.1 hE.2.2.2.2.2.2 hFF hbu hbw (fun gs go gm bvo bfa bdc brc bfi bor bso => ⟨rfl, zz_in hE hFF hbu hbw (fun _ => hX2)⟩))
end
