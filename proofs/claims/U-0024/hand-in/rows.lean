section
theorem pk_us {f : Nat → Int32} {k : Nat} {x : Int32} : upd f k x k = x := if_pos rfl
theorem pk_un {f : Nat → Int32} {k j : Nat} {x : Int32} (h : j ≠ k) : upd f k x j = f j := if_neg h
theorem pk_uLs {f : Nat → Int64} {k : Nat} {x : Int64} : vp_updL f k x k = x := if_pos rfl
theorem pk_uLn {f : Nat → Int64} {k j : Nat} {x : Int64} (h : j ≠ k) : vp_updL f k x j = f j := if_neg h
theorem pk_sub {a b : Nat} (h : b ≤ a) : nI a - nI b = nI (a - b) := by
  obtain ⟨c, rfl⟩ : ∃ c, a = c + b := ⟨a - b, by omega⟩
  rw [← nI_add, Int32.add_sub_cancel, Nat.add_sub_cancel]
theorem pk_m1 (n : Nat) : nI (n + 1) + (-1) = nI n := by
  rw [← nI_1, Int32.add_assoc, show (1 : Int32) + (-1) = 0 from rfl, Int32.add_zero]
theorem pk_mul (a b : Nat) : nI a * nI b = nI (a * b) := (Int32.ofNat_mul a b).symm
theorem pk_div {a d : Nat} (ha : a < 2 ^ 31) (h0 : 0 < d) (hd : d < 2 ^ 31) : nI a / nI d = nI (a / d) := by
  apply Int32.toInt_inj.mp
  rw [lg_idiv_nonneg (by rw [nI_toInt ha]; omega) (by rw [nI_toInt hd]; omega), nI_toInt ha, nI_toInt hd, nI_toInt (Nat.lt_of_le_of_lt (Nat.div_le_self a d) ha)]
  first | rfl | exact (Int.natCast_ediv _ _).symm
theorem pk_rem {a d : Nat} (ha : a < 2 ^ 31) (h0 : 0 < d) (hd : d < 2 ^ 31) : nI a - nI a / nI d * nI d = nI (a % d) := by
  rw [pk_div ha h0 hd, pk_mul, pk_sub (Nat.div_mul_le_self a d)]
  exact congrArg nI (by have := Nat.div_add_mod' a d; omega)
theorem pk_sub_toInt {a b : Nat} (ha : a < 2 ^ 30) (hb : b < 2 ^ 30) : (nI a - nI b).toInt = (a : Int) - b := by
  rw [Int32.toInt_sub, nI_toInt (by omega), nI_toInt (by omega)]
  exact Int.bmod_eq_of_le (by omega) (by omega)
theorem pk_sneg {a b : Nat} (hb : b < 2 ^ 30) (h : a < b) : nI a - nI b < 0 := by
  rw [Int32.lt_iff_toInt_lt, pk_sub_toInt (by omega) hb, show (0 : Int32).toInt = 0 from by decide]
  omega
theorem pk_ix (x : Int32) {n : Nat} (hn : n < 2 ^ 31) : x < 0 ∨ nI n ≤ x ∨ ∃ j : Nat, j < n ∧ x = nI j := by
  by_cases h : x < 0
  · exact Or.inl h
  · obtain ⟨j, hj, rfl⟩ := nI_of h
    by_cases h2 : j < n
    · exact Or.inr (Or.inr ⟨j, h2, rfl⟩)
    · exact Or.inr (Or.inl (nI_le (by omega) hj))
theorem pk_le {x y : Int32} {A B : Prop} (a b : Nat) (f : a ≤ b → A) (g : b < a → B) (hx : x = nI a := by rfl) (hy : y = nI b := by rfl) (ha : a < 2 ^ 31 := by omega) (hb : b < 2 ^ 31 := by omega) : (x ≤ y → A) ∧ (¬ x ≤ y → B) := by
  subst hx hy
  rw [nI_leI ha hb]
  exact ⟨f, fun z => g (by omega)⟩
theorem pk_lt {x y : Int32} {A B : Prop} (a b : Nat) (f : a < b → A) (g : b ≤ a → B) (hx : x = nI a := by rfl) (hy : y = nI b := by rfl) (ha : a < 2 ^ 31 := by omega) (hb : b < 2 ^ 31 := by omega) : (x < y → A) ∧ (¬ x < y → B) := by
  subst hx hy
  rw [nI_ltI ha hb]
  exact ⟨f, fun z => g (by omega)⟩
theorem pk_eq {x y : Int32} {A B : Prop} (a b : Nat) (f : a = b → A) (g : a ≠ b → B) (hx : x = nI a := by rfl) (hy : y = nI b := by rfl) (ha : a < 2 ^ 31 := by omega) (hb : b < 2 ^ 31 := by omega) : (x = y → A) ∧ (¬ x = y → B) := by
  subst hx hy
  rw [nI_eq ha hb]
  exact ⟨f, g⟩
theorem pk_in {x : Int32} (n N : Nat) (h : n < N) (hx : x = nI n := by rfl) (hN : N < 2 ^ 31 := by omega) : vp_in x N := by
  subst hx
  exact vp_in_nI h hN
theorem pk_cl {x : Int32} (n : Nat) (hx : x = nI n := by rfl) (h : n < 2 ^ 31 := by omega) : x.toNatClampNeg = n := by
  subst hx
  exact nI_clamp h
theorem pk_tn {n : Nat} (h : n < 2 ^ 32) : (nI n).toBitVec.toNat = n := Nat.mod_eq_of_lt h
theorem pk_and (x : Int32) {m : Int32} (k : Nat) (hm : m.toBitVec.toNat = 2 ^ k - 1) : x &&& m = nI (x.toBitVec.toNat % 2 ^ k) := by
  apply Int32.toBitVec_inj.mp
  apply BitVec.eq_of_toNat_eq
  rw [Int32.toBitVec_and, BitVec.toNat_and, hm, Nat.and_two_pow_sub_one_eq_mod]
  show _ = (BitVec.ofNat 32 _).toNat
  rw [BitVec.toNat_ofNat]
  exact (Nat.mod_eq_of_lt (Nat.lt_of_le_of_lt (Nat.mod_le _ _) x.toBitVec.isLt)).symm
theorem pk_andN {n : Nat} (h : n < 2 ^ 32) {m : Int32} (k : Nat) (hm : m.toBitVec.toNat = 2 ^ k - 1) : nI n &&& m = nI (n % 2 ^ k) := by
  rw [pk_and _ k hm, pk_tn h]
theorem pk_andE (x : Int32) {m : Int32} (k : Nat) (hm : m.toBitVec.toNat = 2 ^ k - 1) : ∃ j : Nat, j < 2 ^ k ∧ x &&& m = nI j := ⟨_, Nat.mod_lt _ (Nat.two_pow_pos k), pk_and x k hm⟩
theorem pk_andIn (x : Int32) {m : Int32} (k : Nat) (hm : m.toBitVec.toNat = 2 ^ k - 1) (hk : k ≤ 30) : vp_in (x &&& m) (2 ^ k) := by
  obtain ⟨j, hj, e⟩ := pk_andE x k hm
  rw [e]
  exact vp_in_nI hj (Nat.lt_of_le_of_lt (Nat.pow_le_pow_right (by decide) hk) (by decide))
theorem pk_shl (a s : Int32) (k : Nat) (hs : (s.toBitVec.smod 32).toNat = k) : (a <<< s).toBitVec.toNat = a.toBitVec.toNat * 2 ^ k % 2 ^ 32 := by
  show (a.toBitVec <<< (s.toBitVec.smod 32).toNat).toNat = _
  rw [hs, BitVec.toNat_shiftLeft, Nat.shiftLeft_eq]
theorem pk_shlN {n : Nat} (s : Int32) (k : Nat) (hs : (s.toBitVec.smod 32).toNat = k) (h : n * 2 ^ k < 2 ^ 32) : nI n <<< s = nI (n * 2 ^ k) := by
  apply Int32.toBitVec_inj.mp
  apply BitVec.eq_of_toNat_eq
  have hn : n < 2 ^ 32 := Nat.lt_of_le_of_lt (Nat.le_mul_of_pos_right n (Nat.two_pow_pos k)) h
  rw [pk_shl _ _ k hs, pk_tn hn, pk_tn h, Nat.mod_eq_of_lt h]
theorem pk_shr (a s : Int32) (k : Nat) (hs : (s.toBitVec.smod 32).toNat = k) : (a >>> s).toInt = a.toInt >>> k := by
  show (a.toBitVec.sshiftRight (s.toBitVec.smod 32).toNat).toInt = _
  rw [hs, BitVec.toInt_sshiftRight]
  rfl
theorem pk_shrN {n : Nat} (h : n < 2 ^ 31) (s : Int32) (k : Nat) (hs : (s.toBitVec.smod 32).toNat = k) : nI n >>> s = nI (n / 2 ^ k) := by
  apply Int32.toInt_inj.mp
  have h2 : n / 2 ^ k ≤ n := Nat.div_le_self _ _
  rw [pk_shr _ _ k hs, nI_toInt h, nI_toInt (by omega), Int.shiftRight_eq_div_pow]
  rfl
theorem pk_ushr (x s : Int32) (k : Nat) (hs : ((s.toUInt32 &&& Int32.toUInt32 31).toBitVec % 32).toNat = k) : (x.toUInt32 >>> (s.toUInt32 &&& Int32.toUInt32 31)).toInt32.toBitVec.toNat = x.toBitVec.toNat / 2 ^ k := by
  have e : (x.toUInt32 >>> (s.toUInt32 &&& Int32.toUInt32 31)).toInt32.toBitVec = x.toBitVec >>> k := by
    rw [← hs]
    exact UInt32.toBitVec_shiftRight _ _
  rw [e, BitVec.toNat_ushiftRight, Nat.shiftRight_eq_div_pow]
theorem pk_ushrN {n : Nat} (hn : n < 2 ^ 32) (s : Int32) (k : Nat) (hs : ((s.toUInt32 &&& Int32.toUInt32 31).toBitVec % 32).toNat = k) : ((nI n).toUInt32 >>> (s.toUInt32 &&& Int32.toUInt32 31)).toInt32 = nI (n / 2 ^ k) := by
  apply Int32.toBitVec_inj.mp
  apply BitVec.eq_of_toNat_eq
  rw [pk_ushr _ s k hs, pk_tn hn, pk_tn (Nat.lt_of_le_of_lt (Nat.div_le_self _ _) hn)]
theorem pk_least (P : Nat → Prop) (h : ∃ k, P k) : ∃ k, P k ∧ ∀ j, j < k → ¬ P j := by
  obtain ⟨k, hk⟩ := h
  induction k using Nat.strongRecOn with
  | ind k ih =>
    by_cases e : ∃ j, j < k ∧ P j
    · obtain ⟨j, hj, pj⟩ := e
      exact ih j hj pj
    · exact ⟨k, hk, fun j hj pj => e ⟨j, hj, pj⟩⟩
def bt (x : Int32) (i : Nat) : Bool := x.toBitVec.getLsbD i
theorem b_ext {x y : Int32} (h : ∀ i, i < 32 → bt x i = bt y i) : x = y := Int32.toBitVec_inj.mp (BitVec.eq_of_getLsbD_eq (fun i hi => h i hi))
theorem b_or (x y : Int32) (i : Nat) : bt (x ||| y) i = (bt x i || bt y i) := by unfold bt; rw [Int32.toBitVec_or, BitVec.getLsbD_or]
theorem b_and (x y : Int32) (i : Nat) : bt (x &&& y) i = (bt x i && bt y i) := by unfold bt; rw [Int32.toBitVec_and, BitVec.getLsbD_and]
theorem b_xor (x y : Int32) (i : Nat) : bt (x ^^^ y) i = (bt x i ^^ bt y i) := by unfold bt; rw [Int32.toBitVec_xor, BitVec.getLsbD_xor]
theorem b_big {x : Int32} {i : Nat} (h : 32 ≤ i) : bt x i = false := BitVec.getLsbD_of_ge _ _ h
theorem b_255 (i : Nat) : bt 255 i = decide (i < 8) := by
  rcases Nat.lt_or_ge i 32 with h | h
  · exact (by decide +kernel : ∀ i, i < 32 → bt 255 i = decide (i < 8)) i h
  · rw [b_big h, decide_eq_false (by omega)]
theorem b_65535 (i : Nat) : bt 65535 i = decide (i < 16) := by
  rcases Nat.lt_or_ge i 32 with h | h
  · exact (by decide +kernel : ∀ i, i < 32 → bt 65535 i = decide (i < 16)) i h
  · rw [b_big h, decide_eq_false (by omega)]
theorem b_m1 : ∀ i, i < 32 → bt (-1) i = true := by decide +kernel
theorem b_0 (i : Nat) : bt 0 i = false := BitVec.getLsbD_zero
theorem s_l : ∀ n, n < 32 → ((nI n &&& 31).toBitVec.smod 32).toNat = n := by decide +kernel
theorem s_u : ∀ n, n < 32 → (((nI n).toUInt32 &&& Int32.toUInt32 31).toBitVec % 32).toNat = n := by decide +kernel
theorem b_shl (n : Nat) (hn : n < 32) (x : Int32) {i : Nat} (hi : i < 32) : bt (x <<< (nI n &&& 31)) i = (decide (n ≤ i) && bt x (i - n)) := by
  unfold bt
  rw [Int32.toBitVec_shiftLeft]
  show (x.toBitVec <<< ((nI n &&& 31).toBitVec.smod 32).toNat).getLsbD i = _
  rw [s_l n hn, BitVec.getLsbD_shiftLeft]
  rcases Nat.lt_or_ge i n with h | h
  · simp [h, Nat.not_le.mpr h]
  · simp [hi, h, Nat.not_lt.mpr h]
theorem b_sshr (n : Nat) (hn : n < 32) (x : Int32) {i : Nat} (hi : i < 32) : bt (x >>> (nI n &&& 31)) i = if n + i < 32 then bt x (n + i) else bt x 31 := by
  unfold bt
  rw [Int32.toBitVec_shiftRight]
  show (x.toBitVec.sshiftRight ((nI n &&& 31).toBitVec.smod 32).toNat).getLsbD i = _
  rw [s_l n hn, BitVec.getLsbD_sshiftRight, BitVec.msb_eq_getLsbD_last]
  simp [hi]
end
section
/-! codes, counts, clearing: no program in sight -/
def tc_o : Option Nat → Int32
  | none => -1
  | some k => nI k
def tc_b (b : Bool) : Int32 := if b = true then 1 else 0
def tc_an (g : Nat → Bool) : Bool := g 0 || g 1 || g 2 || g 3
def tc_nm : Option Nat → Nat → Bool
  | none, _ => false
  | some k, f => decide (k / 2 = f)
def tc_w : Option Nat → Bool
  | none => false
  | some k => decide (k % 2 = 1)
def tc_cn (p : Nat → Bool) : Nat → Nat
  | 0 => 0
  | n + 1 => tc_cn p n + (p n).toNat
def tc_u {α : Type} (g : Nat → α) (j : Nat) (a : α) : Nat → α := fun i => if i = j then a else g i
def tc_cE (E : Nat → Option Nat) (f : Nat) : Nat := tc_cn (fun i => tc_nm (E i) f) 32
def tc_cN (N : Nat → Nat → Bool) (f : Nat) : Nat := tc_cn (fun s => N s f) 8
def tc_c (E : Nat → Option Nat) (N : Nat → Nat → Bool) (f : Nat) : Nat := tc_cE E f + tc_cN N f
def tc_clr (E : Nat → Option Nat) (N : Nat → Nat → Bool) (ct : Nat → Int32) : Nat → Int32 := fun f => if f < 16 ∧ tc_c E N f = 0 then 0 else ct f
theorem tc_us {α : Type} {g : Nat → α} {j : Nat} {a : α} : tc_u g j a j = a := if_pos rfl
theorem tc_un {α : Type} {g : Nat → α} {i j : Nat} {a : α} (h : i ≠ j) : tc_u g j a i = g i := if_neg h
theorem tc_o_n : tc_o none = -1 := rfl
theorem tc_o_s (k : Nat) : tc_o (some k) = nI k := rfl
theorem tc_b_t : tc_b true = 1 := rfl
theorem tc_b_f : tc_b false = 0 := rfl
theorem tc_b_0 {b : Bool} : tc_b b = 0 ↔ b = false := by cases b <;> decide
theorem tc_b_n {b : Bool} : ¬ tc_b b = 0 ↔ b = true := by cases b <;> decide
theorem tc_m1 {k : Nat} (h : k < 2 ^ 31) : ¬ (-1 : Int32) = nI k := by
  intro e
  have h2 : (nI k).toInt = (-1 : Int32).toInt := by rw [e]
  rw [nI_toInt h, show (-1 : Int32).toInt = -1 from by decide] at h2
  omega
theorem tc_o_eq {o : Option Nat} {k : Nat} (ho : ∀ j, o = some j → j < 2 ^ 31) (hk : k < 2 ^ 31) : tc_o o = nI k ↔ o = some k := by
  cases o with
  | none => exact ⟨fun e => absurd e (tc_m1 hk), fun e => by cases e⟩
  | some j => rw [tc_o_s, nI_eq (ho j rfl) hk]; exact ⟨fun e => by rw [e], fun e => by cases e; rfl⟩
theorem tc_o_neg {o : Option Nat} (ho : ∀ j, o = some j → j < 2 ^ 31) : tc_o o < 0 ↔ o = none := by
  cases o with
  | none => exact ⟨fun _ => rfl, fun _ => by decide⟩
  | some j => rw [tc_o_s]; exact ⟨fun e => absurd e (nI_pos (ho j rfl)), fun e => by cases e⟩
theorem tc_o_nn {o : Option Nat} (ho : ∀ j, o = some j → j < 2 ^ 31) : 0 ≤ tc_o o ↔ ∃ k, o = some k := by
  cases o with
  | none => exact ⟨fun e => absurd e (by decide), fun ⟨k, e⟩ => by cases e⟩
  | some j => exact ⟨fun _ => ⟨j, rfl⟩, fun _ => nI_pos' (ho j rfl)⟩
theorem tc_nm_s {k f : Nat} : tc_nm (some k) f = true ↔ k / 2 = f := decide_eq_true_iff
theorem tc_nm_k {o : Option Nat} {f : Nat} : tc_nm o f = true ↔ ∃ k, o = some k ∧ k / 2 = f := by
  cases o with
  | none => exact ⟨fun h => (by cases h), fun ⟨k, h, _⟩ => by cases h⟩
  | some k => rw [tc_nm_s]; exact ⟨fun h => ⟨k, rfl, h⟩, fun ⟨j, h, e⟩ => by cases h; exact e⟩
theorem tc_an_t {g : Nat → Bool} : tc_an g = true ↔ ∃ c, c < 4 ∧ g c = true := by
  unfold tc_an
  constructor
  · intro h
    simp only [Bool.or_eq_true] at h
    rcases h with ((h | h) | h) | h
    · exact ⟨0, by omega, h⟩
    · exact ⟨1, by omega, h⟩
    · exact ⟨2, by omega, h⟩
    · exact ⟨3, by omega, h⟩
  · rintro ⟨c, hc, h⟩
    have : c = 0 ∨ c = 1 ∨ c = 2 ∨ c = 3 := by omega
    rcases this with rfl | rfl | rfl | rfl <;> simp [h]
theorem tc_an_f {g : Nat → Bool} : tc_an g = false ↔ ∀ c, c < 4 → g c = false := by
  constructor
  · intro h c hc
    cases e : g c with
    | false => rfl
    | true => rw [tc_an_t.mpr ⟨c, hc, e⟩] at h; cases h
  · intro h
    cases e : tc_an g with
    | false => rfl
    | true => obtain ⟨c, hc, e2⟩ := tc_an_t.mp e; rw [h c hc] at e2; cases e2
theorem tc_an_c {g g' : Nat → Bool} (h : ∀ c, c < 4 → g c = g' c) : tc_an g = tc_an g' := by
  unfold tc_an
  rw [h 0 (by omega), h 1 (by omega), h 2 (by omega), h 3 (by omega)]
theorem tc_cn_congr {p q : Nat → Bool} {n : Nat} (h : ∀ i, i < n → p i = q i) : tc_cn p n = tc_cn q n := by
  induction n with
  | zero => rfl
  | succ n ih =>
    show tc_cn p n + (p n).toNat = tc_cn q n + (q n).toNat
    rw [ih (fun i hi => h i (by omega)), h n (by omega)]
theorem tc_cn_le (p : Nat → Bool) (n : Nat) : tc_cn p n ≤ n := by
  induction n with
  | zero => exact Nat.le_refl 0
  | succ n ih =>
    show tc_cn p n + (p n).toNat ≤ n + 1
    have := Bool.toNat_le (p n)
    omega
theorem tc_cn_zero {p : Nat → Bool} {n : Nat} : tc_cn p n = 0 ↔ ∀ i, i < n → p i = false := by
  induction n with
  | zero => exact ⟨fun _ i hi => by omega, fun _ => rfl⟩
  | succ n ih =>
    show tc_cn p n + (p n).toNat = 0 ↔ _
    constructor
    · intro h i hi
      have h1 := ih.mp (by omega)
      by_cases e : i = n
      · subst e
        cases e2 : p i with
        | false => rfl
        | true => rw [e2] at h; simp at h
      · exact h1 i (by omega)
    · intro h
      rw [ih.mpr (fun i hi => h i (by omega)), h n (by omega)]; rfl
theorem tc_cn_upd {p q : Nat → Bool} {n j : Nat} (hj : j < n) (h : ∀ i, i < n → i ≠ j → q i = p i) : tc_cn q n + (p j).toNat = tc_cn p n + (q j).toNat := by
  induction n with
  | zero => omega
  | succ n ih =>
    show tc_cn q n + (q n).toNat + (p j).toNat = tc_cn p n + (p n).toNat + (q j).toNat
    by_cases e : j = n
    · subst e
      rw [tc_cn_congr (p := q) (q := p) (n := j) (fun i hi => h i (by omega) (by omega))]
      omega
    · have h1 := ih (by omega) (fun i hi => h i (by omega))
      rw [h n (by omega) (by omega)]
      omega
theorem tc_cE_u {E E' : Nat → Option Nat} {j : Nat} (f : Nat) (hj : j < 32) (h : ∀ i, i < 32 → i ≠ j → E' i = E i) : tc_cE E' f + (tc_nm (E j) f).toNat = tc_cE E f + (tc_nm (E' j) f).toNat :=
  tc_cn_upd (p := fun i => tc_nm (E i) f) (q := fun i => tc_nm (E' i) f) hj (fun i hi hn => by show tc_nm (E' i) f = tc_nm (E i) f; rw [h i hi hn])
theorem tc_cN_u {N N' : Nat → Nat → Bool} {j : Nat} (f : Nat) (hj : j < 8) (h : ∀ i, i < 8 → i ≠ j → N' i f = N i f) : tc_cN N' f + (N j f).toNat = tc_cN N f + (N' j f).toNat :=
  tc_cn_upd (p := fun s => N s f) (q := fun s => N' s f) hj h
theorem tc_c_le (E : Nat → Option Nat) (N : Nat → Nat → Bool) (f : Nat) : tc_c E N f ≤ 40 := by
  have h1 := tc_cn_le (fun i => tc_nm (E i) f) 32
  have h2 := tc_cn_le (fun s => N s f) 8
  unfold tc_c tc_cE tc_cN
  omega
theorem tc_c_0 {E : Nat → Option Nat} {N : Nat → Nat → Bool} {f : Nat} : tc_c E N f = 0 ↔ (∀ i, i < 32 → tc_nm (E i) f = false) ∧ (∀ s, s < 8 → N s f = false) := by
  unfold tc_c
  rw [Nat.add_eq_zero_iff]
  exact and_congr (tc_cn_zero (p := fun i => tc_nm (E i) f)) (tc_cn_zero (p := fun s => N s f))
theorem tc_c_mono {E E' : Nat → Option Nat} {N N' : Nat → Nat → Bool} {f : Nat} (hE : ∀ i, i < 32 → tc_nm (E' i) f = true → tc_nm (E i) f = true) (hN : ∀ s, s < 8 → N' s f = true → N s f = true) (h : tc_c E N f = 0) : tc_c E' N' f = 0 := by
  rw [tc_c_0] at h ⊢
  refine ⟨fun i hi => ?_, fun s hs => ?_⟩
  · cases e : tc_nm (E' i) f with
    | false => rfl
    | true => have := hE i hi e; rw [h.1 i hi] at this; cases this
  · cases e : N' s f with
    | false => rfl
    | true => have := hN s hs e; rw [h.2 s hs] at this; cases this
theorem tc_c_congr {E E' : Nat → Option Nat} {N N' : Nat → Nat → Bool} {f : Nat} (hE : ∀ i, i < 32 → tc_nm (E' i) f = tc_nm (E i) f) (hN : ∀ s, s < 8 → N' s f = N s f) : tc_c E' N' f = tc_c E N f := by
  unfold tc_c tc_cE tc_cN
  rw [tc_cn_congr (p := fun i => tc_nm (E' i) f) (q := fun i => tc_nm (E i) f) hE, tc_cn_congr (p := fun s => N' s f) (q := fun s => N s f) hN]
theorem tc_c_posE {E : Nat → Option Nat} {N : Nat → Nat → Bool} {f i : Nat} (hi : i < 32) (h : tc_nm (E i) f = true) : ¬ tc_c E N f = 0 := by
  intro e
  rw [(tc_c_0.mp e).1 i hi] at h
  cases h
theorem tc_c_posN {E : Nat → Option Nat} {N : Nat → Nat → Bool} {f s : Nat} (hs : s < 8) (h : N s f = true) : ¬ tc_c E N f = 0 := by
  intro e
  rw [(tc_c_0.mp e).2 s hs] at h
  cases h
theorem tc_clr_id {E : Nat → Option Nat} {N : Nat → Nat → Bool} {ct : Nat → Int32} (h : ∀ f, f < 16 → tc_c E N f = 0 → ct f = 0) : tc_clr E N ct = ct := by
  funext f
  unfold tc_clr
  by_cases e : f < 16 ∧ tc_c E N f = 0
  · rw [if_pos e, h f e.1 e.2]
  · rw [if_neg e]
theorem tc_clr_clr {E E' : Nat → Option Nat} {N N' : Nat → Nat → Bool} {ct : Nat → Int32} (h : ∀ f, f < 16 → tc_c E N f = 0 → tc_c E' N' f = 0) : tc_clr E' N' (tc_clr E N ct) = tc_clr E' N' ct := by
  funext f
  unfold tc_clr
  by_cases e : f < 16 ∧ tc_c E' N' f = 0
  · rw [if_pos e, if_pos e]
  · rw [if_neg e, if_neg e]
    exact if_neg (fun z => e ⟨z.1, h f z.1 z.2⟩)
theorem tc_clr_ok {E : Nat → Option Nat} {N : Nat → Nat → Bool} {ct : Nat → Int32} : ∀ f, f < 16 → tc_c E N f = 0 → tc_clr E N ct f = 0 := fun _ h1 h2 => if_pos ⟨h1, h2⟩
theorem tc_clr_congr {E E' : Nat → Option Nat} {N N' : Nat → Nat → Bool} {ct : Nat → Int32} (h : ∀ f, f < 16 → tc_c E' N' f = tc_c E N f) : tc_clr E' N' ct = tc_clr E N ct := by
  funext f
  unfold tc_clr
  by_cases e : f < 16
  · rw [h f e]
  · rw [if_neg (fun z => e z.1), if_neg (fun z => e z.1)]
/-- one name less at frame g, by the release of a frame -/
theorem tc_clr_rel {E E' : Nat → Option Nat} {N N' : Nat → Nat → Bool} {ct : Nat → Int32} {g : Nat} (hg : g < 16) (h : ∀ f, f < 16 → f ≠ g → tc_c E' N' f = tc_c E N f) (hp : ¬ tc_c E N g = 0) : (if tc_c E' N' g = 0 then upd (tc_clr E N ct) g 0 else tc_clr E N ct) = tc_clr E' N' ct := by
  funext f
  by_cases e : f = g
  · subst e
    by_cases z : tc_c E' N' f = 0
    · rw [if_pos z]
      show (if f = f then (0 : Int32) else _) = _
      rw [if_pos rfl, tc_clr_ok f hg z]
    · rw [if_neg z]
      unfold tc_clr
      rw [if_neg (fun w => hp w.2), if_neg (fun w => z w.2)]
  · have e1 : (if tc_c E' N' g = 0 then upd (tc_clr E N ct) g 0 else tc_clr E N ct) f = tc_clr E N ct f := by
      by_cases z : tc_c E' N' g = 0
      · rw [if_pos z]; exact if_neg e
      · rw [if_neg z]
    rw [e1]
    unfold tc_clr
    by_cases e2 : f < 16
    · rw [h f e2 e]
    · rw [if_neg (fun z => e2 z.1), if_neg (fun z => e2 z.1)]
end
section
/-! bits of masks; lists of slots -/
theorem tb_1 (i : Nat) : bt 1 i = decide (i = 0) := by
  rcases Nat.lt_or_ge i 32 with h | h
  · exact (by decide +kernel : ∀ i, i < 32 → bt 1 i = decide (i = 0)) i h
  · rw [b_big h, decide_eq_false (by omega)]
theorem tb_one {p : Nat} (hp : p < 32) (q : Nat) : bt ((1 : Int32) <<< (nI p &&& 31)) q = decide (q = p) := by
  rcases Nat.lt_or_ge q 32 with h | h
  · rw [b_shl p hp 1 h, tb_1]
    by_cases e : q = p
    · subst e; simp
    · rw [decide_eq_false e]
      by_cases e2 : p ≤ q
      · rw [decide_eq_true e2, decide_eq_false (by omega)]; rfl
      · rw [decide_eq_false e2]; rfl
  · rw [b_big h, decide_eq_false (by omega)]
theorem tb_or1 (x : Int32) {p : Nat} (hp : p < 32) (q : Nat) : bt (x ||| ((1 : Int32) <<< (nI p &&& 31))) q = (bt x q || decide (q = p)) := by
  rw [b_or, tb_one hp]
theorem tb_andn (x m : Int32) (q : Nat) : bt (x &&& (m ^^^ (-1))) q = (bt x q && !bt m q) := by
  rcases Nat.lt_or_ge q 32 with h | h
  · rw [b_and, b_xor, b_m1 q h]; cases bt m q <;> rfl
  · rw [b_big h, b_big (x := x) h]; rfl
theorem tb_sr (x : Int32) {p : Nat} (hp : p < 32) : ((x >>> (nI p &&& 31)) &&& 1) = nI (bt x p).toNat := by
  apply b_ext
  intro i hi
  rw [b_and, tb_1, b_sshr p hp x hi]
  by_cases e : i = 0
  · subst e
    rw [if_pos (by omega), Nat.add_zero]
    cases bt x p <;> decide +kernel
  · rw [decide_eq_false e, Bool.and_false]
    cases bt x p
    · exact (b_0 i).symm
    · show false = bt 1 i
      rw [tb_1, decide_eq_false e]
theorem tb_z (x : Int32) {p : Nat} (hp : p < 32) : ((x >>> (nI p &&& 31)) &&& 1) = 0 ↔ bt x p = false := by
  rw [tb_sr x hp]
  cases bt x p <;> decide +kernel
theorem tb_zt {x : Int32} {p : Nat} (hp : p < 32) (h : bt x p = true) : ¬ ((x >>> (nI p &&& 31)) &&& 1) = 0 := by
  rw [tb_z x hp, h]; decide
theorem tb_zf {x : Int32} {p : Nat} (hp : p < 32) (h : bt x p = false) : ((x >>> (nI p &&& 31)) &&& 1) = 0 := (tb_z x hp).mpr h
theorem tb_0 {x : Int32} : x = 0 ↔ ∀ q, q < 32 → bt x q = false :=
  ⟨fun e q _ => by rw [e, b_0], fun h => b_ext (fun i hi => by rw [h i hi, b_0])⟩
theorem tb_rng0 : ∀ a, a < 8 → ∀ b, b < 8 → a ≤ b → ∀ p, p < 32 → bt (((2 : Int32) <<< (nI b &&& 31)) - ((1 : Int32) <<< (nI a &&& 31))) p = decide (a ≤ p ∧ p ≤ b) := by decide +kernel
theorem tb_rng {a b : Nat} (hb : b < 8) (h : a ≤ b) (p : Nat) : bt (((2 : Int32) <<< (nI b &&& 31)) - ((1 : Int32) <<< (nI a &&& 31))) p = decide (a ≤ p ∧ p ≤ b) := by
  rcases Nat.lt_or_ge p 32 with hp | hp
  · exact tb_rng0 a (by omega) b hb h p hp
  · rw [b_big hp, decide_eq_false (by omega)]
theorem tb_a1 {k : Nat} (h : k < 2 ^ 31) : nI k &&& 1 = nI (k % 2) := pk_andN (Nat.lt_trans h (by decide)) 1 (by decide)
theorem tb_s1 {k : Nat} (h : k < 2 ^ 31) : nI k >>> ((1 : Int32) &&& 31) = nI (k / 2) := pk_shrN h _ 1 (by decide)
theorem tb_d2 {k : Nat} (h : k < 2 ^ 31) : nI k / 2 = nI (k / 2) := pk_div (d := 2) h (by decide) (by decide)
theorem tb_r2 {k : Nat} (h : k < 2 ^ 31) : nI k - nI k / 2 * 2 = nI (k % 2) := pk_rem (d := 2) h (by decide) (by decide)
theorem tb_i8 (s p : Nat) : nI s * 8 + nI p = nI (s * 8 + p) := by
  rw [show (8 : Int32) = nI 8 from rfl, pk_mul, nI_add]
theorem tb_i4 (s p : Nat) : nI s * 4 + nI p = nI (s * 4 + p) := by
  rw [show (4 : Int32) = nI 4 from rfl, pk_mul, nI_add]
theorem tb_i16 (s p : Nat) : nI s * 16 + nI p = nI (s * 16 + p) := by
  rw [show (16 : Int32) = nI 16 from rfl, pk_mul, nI_add]
theorem tb_i48 (c s p : Nat) : (nI c * 4 + nI s) * 8 + nI p = nI ((c * 4 + s) * 8 + p) := by
  rw [tb_i4, tb_i8]
theorem tb_x2 (f : Nat) : nI f * 2 = nI (f * 2) := by
  rw [show (2 : Int32) = nI 2 from rfl, pk_mul]
theorem tb_m {n : Nat} (p : Prop) (h : n < 2 ^ 31 → p) (hn : n < 1000) : p := h (by omega)
/-- lists of slots -/
theorem tl_len : ∀ (n : Nat) (L : List Nat), L.Nodup → (∀ x, x ∈ L → x < n) → L.length ≤ n := by
  intro n
  induction n with
  | zero =>
    intro L _ h
    cases L with
    | nil => exact Nat.le_refl 0
    | cons a l => exact absurd (h a (List.mem_cons_self ..)) (by omega)
  | succ n ih =>
    intro L nd h
    by_cases e : n ∈ L
    · have h1 := ih (L.erase n) (nd.erase n) (fun x hx => by
        have := (nd.mem_erase_iff).mp hx
        have := h x this.2
        omega)
      rw [List.length_erase_of_mem e] at h1
      omega
    · have h1 := ih L nd (fun x hx => by
        have h2 := h x hx
        have h3 : x ≠ n := fun z => e (z ▸ hx)
        omega)
      omega
theorem tl_all : ∀ (n : Nat) (L : List Nat), (∀ j, j < n → j ∈ L) → n ≤ L.length := by
  intro n
  induction n with
  | zero => intro L _; omega
  | succ n ih =>
    intro L h
    have e : n ∈ L := h n (by omega)
    have h1 := ih (L.erase n) (fun j hj => (List.mem_erase_of_ne (by omega)).mpr (h j (by omega)))
    rw [List.length_erase_of_mem e] at h1
    have : 0 < L.length := List.length_pos_of_mem e
    omega
theorem tl_least {L : List Nat} (h : L.length < 8) : ∃ s, s < 8 ∧ ¬ s ∈ L ∧ ∀ j, j < s → j ∈ L := by
  have h1 : ∃ k, ¬ k ∈ L ∧ k < 8 := Classical.byContradiction (fun z => by
    have := tl_all 8 L (fun j hj => Classical.byContradiction (fun w => z ⟨j, w, hj⟩))
    omega)
  obtain ⟨s, ⟨hs, h8⟩, hm⟩ := pk_least _ h1
  exact ⟨s, h8, hs, fun j hj => Classical.byContradiction (fun w => hm j hj ⟨w, by omega⟩)⟩
theorem tl_full {L : List Nat} (nd : L.Nodup) (h8 : ∀ x, x ∈ L → x < 8) (h : 8 ≤ L.length) : ∀ j, j < 8 → j ∈ L := by
  intro j hj
  refine Classical.byContradiction (fun w => ?_)
  have := tl_len 8 (j :: L) (List.nodup_cons.mpr ⟨w, nd⟩) (fun x hx => by
    rcases List.mem_cons.mp hx with e | e
    · omega
    · exact h8 x e)
  rw [List.length_cons] at this
  omega
theorem tl_find {L : List Nat} {q : Nat → Bool} {B : Nat → Nat} (pw : L.Pairwise (fun a b => B a < B b)) {x : Nat} (h : L.find? q = some x) : ∀ y, y ∈ L → q y = true → y = x ∨ B x < B y := by
  induction L with
  | nil => intro y hy; cases hy
  | cons a l ih =>
    intro y hy qy
    have pw2 := List.pairwise_cons.mp pw
    rw [List.find?_cons] at h
    cases e : q a with
    | true =>
      rw [e] at h
      cases h
      rcases List.mem_cons.mp hy with r | r
      · exact Or.inl r
      · exact Or.inr (pw2.1 y r)
    | false =>
      rw [e] at h
      rcases List.mem_cons.mp hy with r | r
      · subst r; rw [e] at qy; cases qy
      · exact ih pw2.2 h y r qy
end
section
/-! the relation's areas -/
/-- entries: page masks and frames (X), codes (Y) -/
def tr_xE (E : Nat → Option Nat) (mp wp ef : Nat → Int32) : Prop :=
  (∀ s p, s < 4 → p < 8 → bt (mp s) p = (E (s * 8 + p)).isSome) ∧ (∀ s p, s < 4 → p < 8 → bt (wp s) p = tc_w (E (s * 8 + p))) ∧ (∀ s p, s < 4 → 8 ≤ p → bt (mp s) p = false) ∧ (∀ i k, i < 32 → E i = some k → ef i = nI (k / 2))
def tr_yE (E : Nat → Option Nat) (en : Nat → Int32) : Prop := ∀ i, i < 32 → en i = tc_o (E i)
def tr_iE (E : Nat → Option Nat) : Prop := ∀ i k, i < 32 → E i = some k → k < 32
/-- frames -/
def tr_xN (E : Nat → Option Nat) (N : Nat → Nat → Bool) (nc : Nat → Int32) : Prop := ∀ f, f < 16 → nc f = nI (tc_c E N f)
def tr_iF (E : Nat → Option Nat) (N : Nat → Nat → Bool) (ct : Nat → Int32) : Prop := ∀ f, f < 16 → tc_c E N f = 0 → ct f = 0
/-- cores -/
def tr_R (R : Nat → Option Nat) (so : Nat → Int32) : Prop := ∀ c, c < 4 → so c = tc_o (R c)
def tr_xR (R : Nat → Option Nat) (rn : Nat → Int32) : Prop := ∀ s c, s < 4 → bt (rn s) c = (decide (c < 4) && decide (R c = some s))
def tr_iR (C S : Nat) (R : Nat → Option Nat) : Prop := ∀ c s, c < 4 → R c = some s → c < C ∧ s < S
def tr_xW (V : Nat → Option Nat) (wk : Nat → Int32) : Prop := ∀ c, c < 4 → wk c = nI ((V c).getD 8)
def tr_yW (V : Nat → Option Nat) (yk : Nat → Int32) : Prop := ∀ c, c < 4 → yk c = tc_o (V c)
/-- knowledge -/
def tr_xK (K : Nat → Option Nat) (kp kc : Nat → Int32) : Prop :=
  (∀ j p, j < 16 → p < 8 → bt (kp j) p = (K (j * 8 + p)).isSome) ∧ (∀ i k, i < 128 → K i = some k → kc i = nI k)
def tr_yK (K : Nat → Option Nat) (kn : Nat → Int32) : Prop := ∀ i, i < 128 → kn i = tc_o (K i)
/-- requests -/
def tr_xA (L : List Nat) (ao : Nat → Int32) : Prop := ∀ j x, L[j]? = some x → ao j = nI x
def tr_xO (D : Nat → Nat → Bool) (ob : Nat → Int32) : Prop := ∀ s c, s < 8 → bt (ob s) c = (decide (c < 4) && D s c)
def tr_xF (N : Nat → Nat → Bool) (rf : Nat → Int32) : Prop := ∀ s f, s < 8 → f < 16 → bt (rf s) f = N s f
def tr_xP (L : List Nat) (fi la : Nat → Nat) (rp : Nat → Int32) : Prop := ∀ s p, s ∈ L → bt (rp s) p = decide (fi s ≤ p ∧ p ≤ la s)
def tr_yO (D : Nat → Nat → Bool) (op : Nat → Int32) : Prop := ∀ s, s < 8 → op s = tc_b (tc_an (D s))
def tr_yD (D : Nat → Nat → Bool) (ow : Nat → Int32) : Prop := ∀ s c, s < 8 → c < 4 → ow (s * 4 + c) = tc_b (D s c)
def tr_yN (N : Nat → Nat → Bool) (nm : Nat → Int32) : Prop := ∀ s f, s < 8 → f < 16 → nm (s * 16 + f) = tc_b (N s f)
def tr_yP (L : List Nat) (fi la : Nat → Nat) (qf ql : Nat → Int32) : Prop := ∀ s, s ∈ L → qf s = nI (fi s) ∧ ql s = nI (la s)
def tr_yB (L : List Nat) (B : Nat → Nat) (bo : Nat → Int64) : Prop := ∀ s, s ∈ L → bo s = lN (B s)
def tr_iL (L : List Nat) (D : Nat → Nat → Bool) : Prop := L.Nodup ∧ ∀ s, s ∈ L ↔ s < 8 ∧ tc_an (D s) = true
def tr_iN (D N : Nat → Nat → Bool) : Prop := ∀ s f, s < 8 → f < 16 → N s f = true → tc_an (D s) = true
def tr_iP (L : List Nat) (sp fi la : Nat → Nat) (rs : Nat → Int32) : Prop := ∀ s, s ∈ L → fi s ≤ la s ∧ la s < 8 ∧ sp s < 4 ∧ rs s = nI (sp s)
def tr_iB (L : List Nat) (B : Nat → Nat) (o : Nat) : Prop := L.Pairwise (fun a b => B a < B b) ∧ ∀ s, s ∈ L → B s < o
/-- safety: what core c may use for page p of space s still names its frame -/
def tr_sf (E R : Nat → Option Nat) (D N : Nat → Nat → Bool) (sp fi la : Nat → Nat) (c s p f : Nat) : Prop :=
  tc_nm (E (s * 8 + p)) f = true ∨ (R c = some s ∧ ∃ t, t < 8 ∧ D t c = true ∧ sp t = s ∧ fi t ≤ p ∧ p ≤ la t ∧ N t f = true)
def tr_sK (C : Nat) (E R K : Nat → Option Nat) (D N : Nat → Nat → Bool) (sp fi la : Nat → Nat) : Prop :=
  ∀ c s p k, c < 4 → s < 4 → p < 8 → K ((c * 4 + s) * 8 + p) = some k → k < 32 ∧ c < C ∧ tr_sf E R D N sp fi la c s p (k / 2)
def tr_sW (E R V : Nat → Option Nat) (D N : Nat → Nat → Bool) (sp fi la : Nat → Nat) (wc : Nat → Int32) : Prop :=
  ∀ c p, c < 4 → V c = some p → p < 8 ∧ ∃ s k, R c = some s ∧ k < 32 ∧ wc c = nI k ∧ tr_sf E R D N sp fi la c s p (k / 2)
def tr_d (C S P F : Nat) : Prop := 1 ≤ C ∧ C ≤ 4 ∧ 1 ≤ S ∧ S ≤ 4 ∧ 1 ≤ P ∧ P ≤ 8 ∧ 1 ≤ F ∧ F ≤ 16
/-- all of it -/
def tr_all (C S P F : Nat) (E K V R : Nat → Option Nat) (L : List Nat) (D N : Nat → Nat → Bool) (sp fi la B : Nat → Nat) (o : Nat) (mp wp ef nc ct so wk wc rn kp kc rs rp rf ob ao en kn yk op qf ql : Nat → Int32) (bo : Nat → Int64) (nm ow : Nat → Int32) : Prop :=
  tr_d C S P F ∧ tr_xE E mp wp ef ∧ tr_yE E en ∧ tr_iE E ∧ tr_xN E N nc ∧ tr_iF E N ct ∧ tr_R R so ∧ tr_xR R rn ∧ tr_iR C S R ∧ tr_xW V wk ∧ tr_yW V yk ∧ tr_xK K kp kc ∧ tr_yK K kn ∧ tr_xA L ao ∧ tr_xO D ob ∧ tr_xF N rf ∧ tr_xP L fi la rp ∧ tr_yO D op ∧ tr_yD D ow ∧ tr_yN N nm ∧ tr_yP L fi la qf ql ∧ tr_yB L B bo ∧ tr_iL L D ∧ tr_iN D N ∧ tr_iP L sp fi la rs ∧ tr_iB L B o ∧ tr_sK C E R K D N sp fi la ∧ tr_sW E R V D N sp fi la wc
def i_Rel (k : Nat) (u : SX) (v : SY) : Prop := match u, v with
  | (cC, sC, pC, fC, oC, mp, wp, ef, nc, ct, so, wk, wc, rn, kp, kc, rs, rp, rf, ob, ao), (fc, fs, fp, ff, fo, en, kn, ru, yk, yc, yt, op, qs, qf, ql, bo, nm, ow, zh) => ∃ (C S P F : Nat) (E K V R : Nat → Option Nat) (L : List Nat) (D N : Nat → Nat → Bool) (sp fi la B : Nat → Nat) (o : Nat), o ≤ k ∧ (cC = nI C ∧ sC = nI S ∧ pC = nI P ∧ fC = nI F ∧ oC = nI L.length) ∧ (fc = nI C ∧ fs = nI S ∧ fp = nI P ∧ ff = nI F ∧ fo = lN o) ∧ (ru = so ∧ yc = wc ∧ yt = ct ∧ qs = rs) ∧ tr_all C S P F E K V R L D N sp fi la B o mp wp ef nc ct so wk wc rn kp kc rs rp rf ob ao en kn yk op qf ql bo nm ow
theorem i_up {k : Nat} {u : SX} {v : SY} (h : i_Rel k u v) : i_Rel (k + 5) u v := by
  obtain ⟨cC, sC, pC, fC, oC, mp, wp, ef, nc, ct, so, wk, wc, rn, kp, kc, rs, rp, rf, ob, ao⟩ := u
  obtain ⟨fc, fs, fp, ff, fo, en, kn, ru, yk, yc, yt, op, qs, qf, ql, bo, nm, ow, zh⟩ := v
  obtain ⟨C, S, P, F, E, K, V, R, L, D, N, sp, fi, la, B, o, ho, h⟩ := h
  unfold i_Rel
  exact ⟨C, S, P, F, E, K, V, R, L, D, N, sp, fi, la, B, o, by omega, h⟩
theorem tr_el {k : Nat} {u : SX} {v : SY} {M : SX → SY → Prop} (I : i_Rel k u v) (h : ∀ (C S P F : Nat) (E K V R : Nat → Option Nat) (L : List Nat) (D N : Nat → Nat → Bool) (sp fi la B : Nat → Nat) (o : Nat) (mp wp ef nc ct so wk wc rn kp kc rs rp rf ob ao en kn yk op qf ql : Nat → Int32) (bo : Nat → Int64) (nm ow zh : Nat → Int32), o ≤ k → tr_all C S P F E K V R L D N sp fi la B o mp wp ef nc ct so wk wc rn kp kc rs rp rf ob ao en kn yk op qf ql bo nm ow → M (nI C, nI S, nI P, nI F, nI L.length, mp, wp, ef, nc, ct, so, wk, wc, rn, kp, kc, rs, rp, rf, ob, ao) (nI C, nI S, nI P, nI F, lN o, en, kn, so, yk, wc, ct, op, rs, qf, ql, bo, nm, ow, zh)) : M u v := by
  obtain ⟨cC, sC, pC, fC, oC, mp, wp, ef, nc, ct, so, wk, wc, rn, kp, kc, rs, rp, rf, ob, ao⟩ := u
  obtain ⟨fc, fs, fp, ff, fo, en, kn, ru, yk, yc, yt, op, qs, qf, ql, bo, nm, ow, zh⟩ := v
  obtain ⟨C, S, P, F, E, K, V, R, L, D, N, sp, fi, la, B, o, ho, ⟨e1, e2, e3, e4, e5⟩, ⟨g1, g2, g3, g4, g5⟩, ⟨r1, r2, r3, r4⟩, a⟩ := I
  subst e1 e2 e3 e4 e5 g1 g2 g3 g4 g5 r1 r2 r3 r4
  exact h C S P F E K V R L D N sp fi la B o _ _ _ _ _ _ _ _ _ _ _ _ _ _ _ _ _ _ _ _ _ _ _ _ _ _ ho a
theorem tr_in {k : Nat} {C S P F : Nat} {E K V R : Nat → Option Nat} {L : List Nat} {D N : Nat → Nat → Bool} {sp fi la B : Nat → Nat} {o : Nat} {mp wp ef nc ct so wk wc rn kp kc rs rp rf ob ao en kn yk op qf ql : Nat → Int32} {bo : Nat → Int64} {nm ow zh : Nat → Int32} (ho : o ≤ k) (a : tr_all C S P F E K V R L D N sp fi la B o mp wp ef nc ct so wk wc rn kp kc rs rp rf ob ao en kn yk op qf ql bo nm ow) : i_Rel k (nI C, nI S, nI P, nI F, nI L.length, mp, wp, ef, nc, ct, so, wk, wc, rn, kp, kc, rs, rp, rf, ob, ao) (nI C, nI S, nI P, nI F, lN o, en, kn, so, yk, wc, ct, op, rs, qf, ql, bo, nm, ow, zh) := by
  unfold i_Rel
  exact ⟨C, S, P, F, E, K, V, R, L, D, N, sp, fi, la, B, o, ho, ⟨rfl, rfl, rfl, rfl, rfl⟩, ⟨rfl, rfl, rfl, rfl, rfl⟩, ⟨rfl, rfl, rfl, rfl⟩, a⟩
end
section
/-! indices, reads, stores; ghosts of entries and requests -/
def tb_ok (v : Int32) (n : Nat) : Prop := ∃ j, j < n ∧ v = nI j
theorem tb_rd8 (a : Nat → Int32) {s p : Nat} (h : s * 8 + p < 2 ^ 31) : a (nI s * 8 + nI p).toNatClampNeg = a (s * 8 + p) := by rw [tb_i8, nI_clamp h]
theorem tb_rd4 (a : Nat → Int32) {s p : Nat} (h : s * 4 + p < 2 ^ 31) : a (nI s * 4 + nI p).toNatClampNeg = a (s * 4 + p) := by rw [tb_i4, nI_clamp h]
theorem tb_rd16 (a : Nat → Int32) {s p : Nat} (h : s * 16 + p < 2 ^ 31) : a (nI s * 16 + nI p).toNatClampNeg = a (s * 16 + p) := by rw [tb_i16, nI_clamp h]
theorem tb_rd48 (a : Nat → Int32) {c s p : Nat} (h : (c * 4 + s) * 8 + p < 2 ^ 31) : a ((nI c * 4 + nI s) * 8 + nI p).toNatClampNeg = a ((c * 4 + s) * 8 + p) := by rw [tb_i48, nI_clamp h]
theorem tb_rd (a : Nat → Int32) {s : Nat} (h : s < 2 ^ 31) : a (nI s).toNatClampNeg = a s := by rw [nI_clamp h]
theorem tb_up8 (a : Nat → Int32) {s p : Nat} (v : Int32) (h : s * 8 + p < 2 ^ 31) : upd a (nI s * 8 + nI p).toNatClampNeg v = upd a (s * 8 + p) v := by rw [tb_i8, nI_clamp h]
theorem tb_up4 (a : Nat → Int32) {s p : Nat} (v : Int32) (h : s * 4 + p < 2 ^ 31) : upd a (nI s * 4 + nI p).toNatClampNeg v = upd a (s * 4 + p) v := by rw [tb_i4, nI_clamp h]
theorem tb_up16 (a : Nat → Int32) {s p : Nat} (v : Int32) (h : s * 16 + p < 2 ^ 31) : upd a (nI s * 16 + nI p).toNatClampNeg v = upd a (s * 16 + p) v := by rw [tb_i16, nI_clamp h]
theorem tb_up48 (a : Nat → Int32) {c s p : Nat} (v : Int32) (h : (c * 4 + s) * 8 + p < 2 ^ 31) : upd a ((nI c * 4 + nI s) * 8 + nI p).toNatClampNeg v = upd a ((c * 4 + s) * 8 + p) v := by rw [tb_i48, nI_clamp h]
theorem tb_up (a : Nat → Int32) {s : Nat} (v : Int32) (h : s < 2 ^ 31) : upd a (nI s).toNatClampNeg v = upd a s v := by rw [nI_clamp h]
theorem tb_upf (a : Nat → Int32) (g : Int32 → Int32) {s : Nat} (h : s < 2 ^ 31) : upd a (nI s).toNatClampNeg (g (a (nI s).toNatClampNeg)) = upd a s (g (a s)) := by rw [nI_clamp h]
theorem tb_in8 {s p n : Nat} (h : s * 8 + p < n) (hn : n < 2 ^ 31) : vp_in (nI s * 8 + nI p) n := by rw [tb_i8]; exact vp_in_nI h hn
theorem tb_in4 {s p n : Nat} (h : s * 4 + p < n) (hn : n < 2 ^ 31) : vp_in (nI s * 4 + nI p) n := by rw [tb_i4]; exact vp_in_nI h hn
theorem tb_in16 {s p n : Nat} (h : s * 16 + p < n) (hn : n < 2 ^ 31) : vp_in (nI s * 16 + nI p) n := by rw [tb_i16]; exact vp_in_nI h hn
theorem tb_in48 {c s p n : Nat} (h : (c * 4 + s) * 8 + p < n) (hn : n < 2 ^ 31) : vp_in ((nI c * 4 + nI s) * 8 + nI p) n := by rw [tb_i48]; exact vp_in_nI h hn
theorem tb_zt1 {a : Nat → Int32} {s p : Nat} (hs : s < 2 ^ 31) (hp : p < 32) (h : bt (a s) p = true) : ¬ ((a (nI s).toNatClampNeg >>> (nI p &&& 31)) &&& 1) = 0 := by
  rw [nI_clamp hs]; exact tb_zt hp h
theorem tb_zf1 {a : Nat → Int32} {s p : Nat} (hs : s < 2 ^ 31) (hp : p < 32) (h : bt (a s) p = false) : ((a (nI s).toNatClampNeg >>> (nI p &&& 31)) &&& 1) = 0 := by
  rw [nI_clamp hs]; exact tb_zf hp h
theorem tb_ltu (n : Nat) {p b : Nat} (h : ¬ p < b) (hp : p < 2 ^ 31) : nI b ≤ nI p := nI_le (by omega) hp
/-- pages of one space let go -/
def tc_um (E : Nat → Option Nat) (s : Nat) (A : Nat → Bool) (n : Nat) : Nat → Option Nat := fun i => if i / 8 = s ∧ i % 8 < n ∧ A (i % 8) = true then none else E i
theorem tc_um_0 {E : Nat → Option Nat} {s : Nat} {A : Nat → Bool} : tc_um E s A 0 = E := by
  funext i
  exact if_neg (fun z => by omega)
theorem tc_um_f {E : Nat → Option Nat} {s : Nat} {A : Nat → Bool} {p : Nat} (h : A p = false) : tc_um E s A (p + 1) = tc_um E s A p := by
  funext i
  unfold tc_um
  by_cases e : i / 8 = s ∧ i % 8 < p ∧ A (i % 8) = true
  · rw [if_pos e, if_pos ⟨e.1, by omega, e.2.2⟩]
  · rw [if_neg e]
    refine if_neg (fun z => e ⟨z.1, ?_, z.2.2⟩)
    have : i % 8 ≠ p := fun w => by rw [w, h] at z; cases z.2.2
    omega
theorem tc_um_n {E : Nat → Option Nat} {s : Nat} {A : Nat → Bool} {p i : Nat} (h : i ≠ s * 8 + p) : tc_um E s A (p + 1) i = tc_um E s A p i := by
  unfold tc_um
  by_cases e : i / 8 = s ∧ i % 8 < p ∧ A (i % 8) = true
  · rw [if_pos e, if_pos ⟨e.1, by omega, e.2.2⟩]
  · rw [if_neg e]
    exact if_neg (fun z => e ⟨z.1, by omega, z.2.2⟩)
theorem tc_um_at {E : Nat → Option Nat} {s : Nat} {A : Nat → Bool} {p : Nat} (hp : p < 8) : tc_um E s A p (s * 8 + p) = E (s * 8 + p) := if_neg (fun z => by omega)
theorem tc_um_t {E : Nat → Option Nat} {s : Nat} {A : Nat → Bool} {p : Nat} (hp : p < 8) (h : A p = true) : tc_um E s A (p + 1) (s * 8 + p) = none :=
  if_pos ⟨by omega, by omega, by rw [show (s * 8 + p) % 8 = p from by omega]; exact h⟩
theorem tc_um_sp {E : Nat → Option Nat} {s t q : Nat} {A : Nat → Bool} (hq : q < 8) : tc_um E s A 8 (t * 8 + q) = if t = s ∧ A q = true then none else E (t * 8 + q) := by
  unfold tc_um
  rw [show (t * 8 + q) / 8 = t from by omega, show (t * 8 + q) % 8 = q from by omega]
  by_cases e : t = s ∧ A q = true
  · rw [if_pos e, if_pos ⟨e.1, hq, e.2⟩]
  · rw [if_neg e]
    exact if_neg (fun z => e ⟨z.1, z.2.2⟩)
theorem tc_c_rm {E E' : Nat → Option Nat} {N : Nat → Nat → Bool} {j k : Nat} (hj : j < 32) (h : ∀ i, i < 32 → i ≠ j → E' i = E i) (e : E j = some k) (e' : E' j = none) : (∀ f, f ≠ k / 2 → tc_c E' N f = tc_c E N f) ∧ tc_c E N (k / 2) = tc_c E' N (k / 2) + 1 := by
  refine ⟨fun f hf => ?_, ?_⟩
  · have h1 := tc_cE_u f hj h
    rw [e, e', show tc_nm (some k) f = false from decide_eq_false (by omega)] at h1
    have h2 : tc_cE E' f = tc_cE E f := h1
    unfold tc_c
    rw [h2]
  · have h1 := tc_cE_u (k / 2) hj h
    rw [e, e', show tc_nm (some k) (k / 2) = true from decide_eq_true rfl] at h1
    have h2 : tc_cE E' (k / 2) + 1 = tc_cE E (k / 2) := h1
    unfold tc_c
    omega
theorem tc_c_nN {E : Nat → Option Nat} {N N' : Nat → Nat → Bool} {j : Nat} (f : Nat) (hj : j < 8) (h : ∀ i, i < 8 → i ≠ j → N' i f = N i f) : tc_c E N' f + (N j f).toNat = tc_c E N f + (N' j f).toNat := by
  have h1 := tc_cN_u f hj h
  unfold tc_c
  omega
/-- names of one slot let go -/
def tc_cl (N : Nat → Nat → Bool) (t n : Nat) : Nat → Nat → Bool := fun s f => if s = t ∧ f < n then false else N s f
theorem tc_cl_0 {N : Nat → Nat → Bool} {t : Nat} : tc_cl N t 0 = N := by
  funext s f
  exact if_neg (fun z => by omega)
theorem tc_cl_n {N : Nat → Nat → Bool} {t n s f : Nat} (h : ¬ (s = t ∧ f = n)) : tc_cl N t (n + 1) s f = tc_cl N t n s f := by
  unfold tc_cl
  by_cases e : s = t ∧ f < n
  · rw [if_pos e, if_pos ⟨e.1, by omega⟩]
  · rw [if_neg e]
    exact if_neg (fun z => e ⟨z.1, by have := z.2; have : f ≠ n := fun w => h ⟨z.1, w⟩; omega⟩)
theorem tc_cl_at {N : Nat → Nat → Bool} {t n : Nat} : tc_cl N t n t n = N t n := if_neg (fun z => by omega)
theorem tc_cl_t {N : Nat → Nat → Bool} {t n : Nat} : tc_cl N t (n + 1) t n = false := if_pos ⟨rfl, by omega⟩
theorem tc_cl_f {N : Nat → Nat → Bool} {t n : Nat} (h : N t n = false) : tc_cl N t (n + 1) = tc_cl N t n := by
  funext s f
  by_cases e : s = t ∧ f = n
  · obtain ⟨rfl, rfl⟩ := e
    rw [tc_cl_t, tc_cl_at, h]
  · exact tc_cl_n e
/-- knowledge let go -/
def tc_kf (K : Nat → Option Nat) (j : Nat) (m : Nat → Bool) : Nat → Option Nat := fun i => if i / 8 = j ∧ m (i % 8) = true then none else K i
theorem tc_kf_sp {K : Nat → Option Nat} {j t q : Nat} {m : Nat → Bool} (hq : q < 8) : tc_kf K j m (t * 8 + q) = if t = j ∧ m q = true then none else K (t * 8 + q) := by
  unfold tc_kf
  rw [show (t * 8 + q) / 8 = t from by omega, show (t * 8 + q) % 8 = q from by omega]
theorem tc_kf_c {K : Nat → Option Nat} {j : Nat} {m m' : Nat → Bool} (h : ∀ p, p < 8 → m p = m' p) : tc_kf K j m = tc_kf K j m' := by
  funext i
  unfold tc_kf
  rw [h (i % 8) (by omega)]
theorem tr_xK_f {K : Nat → Option Nat} {kp kc : Nat → Int32} (h : tr_xK K kp kc) (j : Nat) (m : Int32) : tr_xK (tc_kf K j (bt m)) (upd kp j (kp j &&& (m ^^^ (-1)))) kc := by
  refine ⟨fun t p ht hp => ?_, fun i k hi e => ?_⟩
  · rw [tc_kf_sp hp]
    by_cases e : t = j
    · subst e
      rw [pk_us, tb_andn, h.1 t p ht hp]
      cases z : bt m p with
      | true => rw [if_pos ⟨rfl, rfl⟩]; simp
      | false => rw [if_neg (fun w => by cases w.2)]; simp
    · rw [pk_un e, if_neg (fun w => e w.1), h.1 t p ht hp]
  · refine h.2 i k hi ?_
    unfold tc_kf at e
    by_cases z : i / 8 = j ∧ bt m (i % 8) = true
    · rw [if_pos z] at e; cases e
    · rw [if_neg z] at e; exact e
theorem tr_xK_l {K : Nat → Option Nat} {kp kc : Nat → Int32} (h : tr_xK K kp kc) {j p : Nat} (hp : p < 8) (k : Nat) : tr_xK (tc_u K (j * 8 + p) (some k)) (upd kp j (kp j ||| ((1 : Int32) <<< (nI p &&& 31)))) (upd kc (j * 8 + p) (nI k)) := by
  refine ⟨fun t q ht hq => ?_, fun i k' hi e => ?_⟩
  · by_cases e : t = j
    · subst e
      rw [pk_us, tb_or1 _ (by omega), h.1 t q ht hq]
      by_cases e2 : q = p
      · subst e2; rw [tc_us]; simp
      · rw [tc_un (by omega), decide_eq_false e2, Bool.or_false]
    · rw [pk_un e, tc_un (by omega), h.1 t q ht hq]
  · by_cases z : i = j * 8 + p
    · subst z
      rw [tc_us] at e
      cases e
      exact pk_us
    · rw [tc_un z] at e
      rw [pk_un z]
      exact h.2 i k' hi e
theorem tr_yK_u {K : Nat → Option Nat} {kn : Nat → Int32} (h : tr_yK K kn) (j : Nat) (o : Option Nat) : tr_yK (tc_u K j o) (upd kn j (tc_o o)) := by
  intro i hi
  by_cases e : i = j
  · subst e; rw [pk_us, tc_us]
  · rw [pk_un e, tc_un e, h i hi]
/-- acknowledged -/
def tc_dk (D : Nat → Nat → Bool) (c t : Nat) : Nat → Nat → Bool := fun s b => D s b && !(decide (s = t) && decide (b = c))
def tc_lv (D : Nat → Nat → Bool) (L : List Nat) : List Nat := L.filter (fun s => tc_an (D s))
def tc_nv (D N : Nat → Nat → Bool) : Nat → Nat → Bool := fun s f => N s f && tc_an (D s)
theorem tc_dk_n {D : Nat → Nat → Bool} {c t s b : Nat} (h : ¬ (s = t ∧ b = c)) : tc_dk D c t s b = D s b := by
  unfold tc_dk
  by_cases e : s = t
  · rw [decide_eq_false (p := b = c) (fun z => h ⟨e, z⟩)]; simp
  · rw [decide_eq_false e]; simp
theorem tc_dk_t {D : Nat → Nat → Bool} {c t : Nat} : tc_dk D c t t c = false := by
  unfold tc_dk; simp
theorem tc_dk_an {D : Nat → Nat → Bool} {c t s : Nat} (h : s ≠ t) : tc_an (tc_dk D c t s) = tc_an (D s) := tc_an_c (fun b _ => tc_dk_n (fun z => h z.1))
end
section
/-! the component's helpers, one lemma each -/
section
variable {cC sC pC fC oC : Int32} {mp wp ef nc ct so wk wc rn kp kc rs rp rf ob ao : Nat → Int32}
theorem xw_b_ok {post : Int32 → Prop} {u : SX} {j n : Nat} (h : j < n) (hn : n < 2 ^ 31) (H : post 0) : wpX_bad post u (nI j) (nI n) := by
  obtain ⟨cC, sC, pC, fC, oC, mp, wp, ef, nc, ct, so, wk, wc, rn, kp, kc, rs, rp, rf, ob, ao⟩ := u
  exact br_f (nI_pos (by omega)) (br_t (nI_lt h hn) H)
theorem xw_b_no {post : Int32 → Prop} {u : SX} {v : Int32} {n : Nat} (h : ¬ tb_ok v n) (hn : n < 2 ^ 31) (H : post 1) : wpX_bad post u v (nI n) := by
  obtain ⟨cC, sC, pC, fC, oC, mp, wp, ef, nc, ct, so, wk, wc, rn, kp, kc, rs, rp, rf, ob, ao⟩ := u
  by_cases z : v < 0
  · exact br_t z H
  · rcases pk_ix v hn with e | e | e
    · exact absurd e z
    · exact br_f z (br_f (Int32.not_lt.mpr e) H)
    · exact absurd e h
theorem xw_be_ok {post : Int32 → Prop} {S P s p : Nat} (hs : s < S) (hS : S ≤ 4) (hp : p < P) (hP : P ≤ 8) (H : post 0) : wpX_badEntry post (cC, nI S, nI P, fC, oC, mp, wp, ef, nc, ct, so, wk, wc, rn, kp, kc, rs, rp, rf, ob, ao) (nI s) (nI p) := by
  unfold wpX_badEntry
  refine xw_b_ok hs (by omega) (br_t rfl ?_)
  exact xw_b_ok hp (by omega) (br_t rfl H)
theorem xw_be_no {post : Int32 → Prop} {S P : Nat} {v w : Int32} (h : ¬ (tb_ok v S ∧ tb_ok w P)) (hS : S ≤ 4) (hP : P ≤ 8) (H : post 1) : wpX_badEntry post (cC, nI S, nI P, fC, oC, mp, wp, ef, nc, ct, so, wk, wc, rn, kp, kc, rs, rp, rf, ob, ao) v w := by
  unfold wpX_badEntry
  by_cases e : tb_ok v S
  · obtain ⟨s, hs, rfl⟩ := e
    refine xw_b_ok hs (by omega) (br_t rfl ?_)
    exact xw_b_no (fun z => h ⟨⟨s, hs, rfl⟩, z⟩) (by omega) (br_f (by decide) H)
  · exact xw_b_no e (by omega) (br_f (by decide) H)
theorem xw_im_t {post : Int32 → Prop} {s p : Nat} (hs : s < 4) (hp : p < 8) (h : bt (mp s) p = true) (H : post 1) : wpX_isMapped post (cC, sC, pC, fC, oC, mp, wp, ef, nc, ct, so, wk, wc, rn, kp, kc, rs, rp, rf, ob, ao) (nI s) (nI p) :=
  And.intro (vp_in_nI hs (by omega)) (br_f (tb_zt1 (by omega) (by omega) h) H)
theorem xw_im_f {post : Int32 → Prop} {s p : Nat} (hs : s < 4) (hp : p < 8) (h : bt (mp s) p = false) (H : post 0) : wpX_isMapped post (cC, sC, pC, fC, oC, mp, wp, ef, nc, ct, so, wk, wc, rn, kp, kc, rs, rp, rf, ob, ao) (nI s) (nI p) :=
  And.intro (vp_in_nI hs (by omega)) (br_t (tb_zf1 (by omega) (by omega) h) H)
theorem xw_ec {post : Int32 → Prop} {s p k : Nat} (hs : s < 4) (hp : p < 8) (hk : k < 32) (he : ef (s * 8 + p) = nI (k / 2)) (hw : bt (wp s) p = decide (k % 2 = 1)) (H : post (nI k)) : wpX_entryCode post (cC, sC, pC, fC, oC, mp, wp, ef, nc, ct, so, wk, wc, rn, kp, kc, rs, rp, rf, ob, ao) (nI s) (nI p) := by
  refine And.intro (tb_in8 (by omega) (by omega)) (And.intro (vp_in_nI hs (by omega)) ?_)
  have e : ef (nI s * 8 + nI p).toNatClampNeg * 2 + (((wp (nI s).toNatClampNeg) >>> (nI p &&& 31)) &&& 1) = nI k := by
    rw [tb_rd8 ef (by omega), nI_clamp (by omega), he, tb_sr _ (by omega), hw, tb_x2, nI_add]
    have h2 : (decide (k % 2 = 1)).toNat = k % 2 := by
      by_cases z : k % 2 = 1
      · rw [decide_eq_true z, z]; rfl
      · rw [decide_eq_false z]; show 0 = k % 2; omega
    rw [h2]
    exact congrArg nI (by omega)
  exact e ▸ H
theorem xw_lf_l {post : Int32 → Prop} {F : Nat} (hF : F ≤ 16) : ∀ d i, i + d = F → (∀ f, i ≤ f → f < F → nc f = 0 → (∀ j, i ≤ j → j < f → ¬ nc j = 0) → post (nI f)) → ((∀ j, i ≤ j → j < F → ¬ nc j = 0) → post (-1)) → wX_lowestFreeFrame_2 post cC sC pC (nI F) oC mp wp ef nc ct so wk wc rn kp kc rs rp rf ob ao (d + 1) (nI i) := by
  intro d
  induction d with
  | zero =>
    intro i hi _ H
    exact br_t (nI_le (by omega) (by omega)) (H (fun j h1 h2 => by omega))
  | succ d ih =>
    intro i hi H1 H2
    refine br_f (nI_ge (by omega) (by omega)) (And.intro (vp_in_nI (by omega) (by omega)) ?_)
    by_cases z : nc i = 0
    · exact br_t (by rw [tb_rd nc (by omega)]; exact z) (H1 i (Nat.le_refl i) (by omega) z (fun j h1 h2 => by omega))
    · refine br_f (by rw [tb_rd nc (by omega)]; exact z) (nm_r (nI_1 i) (ih (i + 1) (by omega) (fun f h1 h2 h3 h4 => H1 f (by omega) h2 h3 (fun j g1 g2 => ?_)) (fun h => H2 (fun j g1 g2 => ?_))))
      · by_cases e : j = i
        · subst e; exact z
        · exact h4 j (by omega) g2
      · by_cases e : j = i
        · subst e; exact z
        · exact h j (by omega) g2
theorem xw_lf {post : Int32 → Prop} {F : Nat} (hF : F ≤ 16) (H1 : ∀ f, f < F → nc f = 0 → (∀ j, j < f → ¬ nc j = 0) → post (nI f)) (H2 : (∀ j, j < F → ¬ nc j = 0) → post (-1)) : wpX_lowestFreeFrame post (cC, sC, pC, nI F, oC, mp, wp, ef, nc, ct, so, wk, wc, rn, kp, kc, rs, rp, rf, ob, ao) :=
  Exists.intro (F + 1) (xw_lf_l (post := post) hF F 0 (by omega) (fun f _ h2 h3 h4 => H1 f h2 h3 (fun j hj => h4 j (by omega) hj)) (fun h => H2 (fun j hj => h j (by omega) hj)))
theorem xw_se2 {post : SX → Prop} {s p f : Nat} (hs : s < 4) (hp : p < 8) (hf : f < 16) (H : post (cC, sC, pC, fC, oC, mp, wp, upd ef (s * 8 + p) (nI f), upd nc f (nc f + 1), ct, so, wk, wc, rn, kp, kc, rs, rp, rf, ob, ao)) : wX_setEntry_29 post (nI s) (nI p) (nI f) cC sC pC fC oC mp wp ef nc ct so wk wc rn kp kc rs rp rf ob ao := by
  refine And.intro (tb_in8 (by omega) (by omega)) (nm_r (tb_up8 ef _ (by omega)) (And.intro (vp_in_nI hf (by omega)) (And.intro (vp_in_nI hf (by omega)) (nm_r (e' := upd nc f (nc f + 1)) ?_ H))))
  rw [nI_clamp (by omega)]
theorem xw_se0 {post : SX → Prop} {s p f : Nat} (hs : s < 4) (hp : p < 8) (hf : f < 16) (H : post (cC, sC, pC, fC, oC, upd mp s (mp s ||| ((1 : Int32) <<< (nI p &&& 31))), wp, upd ef (s * 8 + p) (nI f), upd nc f (nc f + 1), ct, so, wk, wc, rn, kp, kc, rs, rp, rf, ob, ao)) : wpX_setEntry post (cC, sC, pC, fC, oC, mp, wp, ef, nc, ct, so, wk, wc, rn, kp, kc, rs, rp, rf, ob, ao) (nI s) (nI p) (nI f) 0 := by
  refine And.intro (vp_in_nI hs (by omega)) (And.intro (vp_in_nI hs (by omega)) (nm_r (e' := upd mp s (mp s ||| ((1 : Int32) <<< (nI p &&& 31)))) ?_ (br_t rfl (xw_se2 hs hp hf H))))
  rw [nI_clamp (by omega)]
theorem xw_se1 {post : SX → Prop} {s p f : Nat} (hs : s < 4) (hp : p < 8) (hf : f < 16) (H : post (cC, sC, pC, fC, oC, upd mp s (mp s ||| ((1 : Int32) <<< (nI p &&& 31))), upd wp s (wp s ||| ((1 : Int32) <<< (nI p &&& 31))), upd ef (s * 8 + p) (nI f), upd nc f (nc f + 1), ct, so, wk, wc, rn, kp, kc, rs, rp, rf, ob, ao)) : wpX_setEntry post (cC, sC, pC, fC, oC, mp, wp, ef, nc, ct, so, wk, wc, rn, kp, kc, rs, rp, rf, ob, ao) (nI s) (nI p) (nI f) 1 := by
  refine And.intro (vp_in_nI hs (by omega)) (And.intro (vp_in_nI hs (by omega)) (nm_r (e' := upd mp s (mp s ||| ((1 : Int32) <<< (nI p &&& 31)))) ?_ (br_f (by decide) (And.intro (vp_in_nI hs (by omega)) (And.intro (vp_in_nI hs (by omega)) (nm_r (e' := upd wp s (wp s ||| ((1 : Int32) <<< (nI p &&& 31)))) ?_ (xw_se2 hs hp hf H)))))))
  · rw [nI_clamp (by omega)]
  · rw [nI_clamp (by omega)]
theorem xw_rel {post : SX → Prop} {f m : Nat} {x : Int32} {ct' : Nat → Int32} (hx : x = nI f) (hf : f < 16) (hm : nc f = nI (m + 1)) (hm2 : m < 1000) (hct : (if m = 0 then upd ct f 0 else ct) = ct') (H : post (cC, sC, pC, fC, oC, mp, wp, ef, upd nc f (nI m), ct', so, wk, wc, rn, kp, kc, rs, rp, rf, ob, ao)) : wpX_release post (cC, sC, pC, fC, oC, mp, wp, ef, nc, ct, so, wk, wc, rn, kp, kc, rs, rp, rf, ob, ao) x := by
  subst hx hct
  have hin : vp_in (nI f) 16 := vp_in_nI hf (by omega)
  have cl : (nI f).toNatClampNeg = f := nI_clamp (by omega)
  refine And.intro hin (And.intro hin (nm_r (e' := upd nc f (nI m)) ?_ (And.intro hin ?_)))
  · rw [cl, hm, nI_pred]
  · by_cases z : m = 0
    · rw [if_pos z] at H
      refine br_t ?_ (And.intro hin (nm_r (e' := upd ct f 0) ?_ H))
      · rw [cl, pk_us, z]; rfl
      · rw [cl]
    · rw [if_neg z] at H
      refine br_f ?_ H
      rw [cl, pk_us]
      exact nI_ne0 (by omega) (by omega)
theorem xw_fg {post : SX → Prop} {c s : Nat} {m : Int32} (hc : c < 4) (hs : s < 4) (H : post (cC, sC, pC, fC, oC, mp, wp, ef, nc, ct, so, wk, wc, rn, upd kp (c * 4 + s) (kp (c * 4 + s) &&& (m ^^^ (-1))), kc, rs, rp, rf, ob, ao)) : wpX_forget post (cC, sC, pC, fC, oC, mp, wp, ef, nc, ct, so, wk, wc, rn, kp, kc, rs, rp, rf, ob, ao) (nI c) (nI s) m := by
  refine And.intro (tb_in4 (by omega) (by omega)) (And.intro (tb_in4 (by omega) (by omega)) (nm_r (e' := upd kp (c * 4 + s) (kp (c * 4 + s) &&& (m ^^^ (-1)))) ?_ H))
  rw [tb_i4, nI_clamp (by omega)]
theorem xw_ho_t {post : Int32 → Prop} {c s p : Nat} (hc : c < 4) (hs : s < 4) (hp : p < 8) (h : bt (kp (c * 4 + s)) p = true) (H : post 1) : wpX_holds post (cC, sC, pC, fC, oC, mp, wp, ef, nc, ct, so, wk, wc, rn, kp, kc, rs, rp, rf, ob, ao) (nI c) (nI s) (nI p) := by
  refine And.intro (tb_in4 (by omega) (by omega)) (br_f ?_ H)
  rw [tb_rd4 kp (by omega)]
  exact tb_zt (by omega) h
theorem xw_ho_f {post : Int32 → Prop} {c s p : Nat} (hc : c < 4) (hs : s < 4) (hp : p < 8) (h : bt (kp (c * 4 + s)) p = false) (H : post 0) : wpX_holds post (cC, sC, pC, fC, oC, mp, wp, ef, nc, ct, so, wk, wc, rn, kp, kc, rs, rp, rf, ob, ao) (nI c) (nI s) (nI p) := by
  refine And.intro (tb_in4 (by omega) (by omega)) (br_t ?_ H)
  rw [tb_rd4 kp (by omega)]
  exact tb_zf (by omega) h
theorem xw_hc {post : Int32 → Prop} {c s p : Nat} (hc : c < 4) (hs : s < 4) (hp : p < 8) (H : post (kc ((c * 4 + s) * 8 + p))) : wpX_heldCode post (cC, sC, pC, fC, oC, mp, wp, ef, nc, ct, so, wk, wc, rn, kp, kc, rs, rp, rf, ob, ao) (nI c) (nI s) (nI p) := by
  refine And.intro (tb_in48 (by omega) (by omega)) ?_
  rw [tb_rd48 kc (by omega)]
  exact H
theorem xw_le {post : SX → Prop} {c s p : Nat} {x : Int32} (hc : c < 4) (hs : s < 4) (hp : p < 8) (hso : so c = nI s) (H : post (cC, sC, pC, fC, oC, mp, wp, ef, nc, ct, so, wk, wc, rn, upd kp (c * 4 + s) (kp (c * 4 + s) ||| ((1 : Int32) <<< (nI p &&& 31))), upd kc ((c * 4 + s) * 8 + p) x, rs, rp, rf, ob, ao)) : wpX_learn post (cC, sC, pC, fC, oC, mp, wp, ef, nc, ct, so, wk, wc, rn, kp, kc, rs, rp, rf, ob, ao) (nI c) (nI p) x := by
  refine And.intro (vp_in_nI hc (by omega)) (nm_r (e' := nI (c * 4 + s)) ?_ (And.intro (vp_in_nI (by omega) (by omega)) (And.intro (vp_in_nI (by omega) (by omega)) (nm_r (e' := upd kp (c * 4 + s) (kp (c * 4 + s) ||| ((1 : Int32) <<< (nI p &&& 31)))) ?_ (And.intro (tb_in8 (by omega) (by omega)) (nm_r (tb_up8 kc _ (by omega)) H))))))
  · rw [tb_rd so (by omega), hso, tb_i4]
  · rw [nI_clamp (by omega)]
theorem xw_cr_b {post : Int32 → Prop} {C : Nat} {v : Int32} (h : ¬ tb_ok v C) (hC : C ≤ 4) (H : post (-1)) : wpX_checkRunning post (nI C, sC, pC, fC, oC, mp, wp, ef, nc, ct, so, wk, wc, rn, kp, kc, rs, rp, rf, ob, ao) v := by
  unfold wpX_checkRunning
  exact xw_b_no h (by omega) (br_f (by decide) H)
theorem xw_cr_i {post : Int32 → Prop} {C c : Nat} (hc : c < C) (hC : C ≤ 4) (hso : so c = -1) (H : post (-2)) : wpX_checkRunning post (nI C, sC, pC, fC, oC, mp, wp, ef, nc, ct, so, wk, wc, rn, kp, kc, rs, rp, rf, ob, ao) (nI c) := by
  unfold wpX_checkRunning
  refine xw_b_ok hc (by omega) (br_t rfl (And.intro (vp_in_nI (by omega) (by omega)) (br_f ?_ H)))
  rw [tb_rd so (by omega), hso]
  decide
theorem xw_cr_r {post : Int32 → Prop} {C c s : Nat} (hc : c < C) (hC : C ≤ 4) (hs : s < 4) (hso : so c = nI s) (H : post 0) : wpX_checkRunning post (nI C, sC, pC, fC, oC, mp, wp, ef, nc, ct, so, wk, wc, rn, kp, kc, rs, rp, rf, ob, ao) (nI c) := by
  unfold wpX_checkRunning
  refine xw_b_ok hc (by omega) (br_t rfl (And.intro (vp_in_nI (by omega) (by omega)) (br_t ?_ H)))
  rw [tb_rd so (by omega), hso]
  exact nI_pos' (by omega)
theorem xw_ca_b {post : Int32 → Prop} {C P : Nat} {v w : Int32} (h : ¬ (tb_ok v C ∧ tb_ok w P)) (hC : C ≤ 4) (hP : P ≤ 8) (H : post (-1)) : wpX_checkAccess post (nI C, sC, nI P, fC, oC, mp, wp, ef, nc, ct, so, wk, wc, rn, kp, kc, rs, rp, rf, ob, ao) v w := by
  unfold wpX_checkAccess
  by_cases e : tb_ok w P
  · obtain ⟨p, hp, rfl⟩ := e
    refine xw_b_ok hp (by omega) (br_t rfl ?_)
    exact xw_cr_b (fun z => h ⟨z, ⟨p, hp, rfl⟩⟩) hC H
  · exact xw_b_no e (by omega) (br_f (by decide) H)
theorem xw_ca_i {post : Int32 → Prop} {C P c p : Nat} (hc : c < C) (hC : C ≤ 4) (hp : p < P) (hP : P ≤ 8) (hso : so c = -1) (H : post (-2)) : wpX_checkAccess post (nI C, sC, nI P, fC, oC, mp, wp, ef, nc, ct, so, wk, wc, rn, kp, kc, rs, rp, rf, ob, ao) (nI c) (nI p) := by
  unfold wpX_checkAccess
  refine xw_b_ok hp (by omega) (br_t rfl ?_)
  exact xw_cr_i hc hC hso H
theorem xw_ca_r {post : Int32 → Prop} {C P c p s : Nat} (hc : c < C) (hC : C ≤ 4) (hp : p < P) (hP : P ≤ 8) (hs : s < 4) (hso : so c = nI s) (H : post 0) : wpX_checkAccess post (nI C, sC, nI P, fC, oC, mp, wp, ef, nc, ct, so, wk, wc, rn, kp, kc, rs, rp, rf, ob, ao) (nI c) (nI p) := by
  unfold wpX_checkAccess
  refine xw_b_ok hp (by omega) (br_t rfl ?_)
  exact xw_cr_r hc hC hs hso H
theorem xw_ow_t {post : Int32 → Prop} {D : Nat → Nat → Bool} (hO : tr_xO D ob) {c t : Nat} (hc : c < 4) (ht : t < 8) (h : D t c = true) (H : post 1) : wpX_owes post (cC, sC, pC, fC, oC, mp, wp, ef, nc, ct, so, wk, wc, rn, kp, kc, rs, rp, rf, ob, ao) (nI c) (nI t) :=
  And.intro (vp_in_nI ht (by omega)) (br_f (tb_zt1 (by omega) (by omega) (by rw [hO t c ht, h, decide_eq_true hc]; rfl)) H)
theorem xw_ow_f {post : Int32 → Prop} {D : Nat → Nat → Bool} (hO : tr_xO D ob) {c t : Nat} (ht : t < 8) (hc : c < 4) (h : D t c = false) (H : post 0) : wpX_owes post (cC, sC, pC, fC, oC, mp, wp, ef, nc, ct, so, wk, wc, rn, kp, kc, rs, rp, rf, ob, ao) (nI c) (nI t) :=
  And.intro (vp_in_nI ht (by omega)) (br_t (tb_zf1 (by omega) (by omega) (by rw [hO t c ht, h, Bool.and_false])) H)
end
end
section
/-! ghosts of requests -/
theorem tr_xO_dk {D : Nat → Nat → Bool} {ob : Nat → Int32} (h : tr_xO D ob) {c t : Nat} (hc : c < 4) : tr_xO (tc_dk D c t) (upd ob t (ob t &&& (((1 : Int32) <<< (nI c &&& 31)) ^^^ (-1)))) := by
  intro s b hs
  by_cases e : s = t
  · subst e
    rw [pk_us, tb_andn, h s b hs, tb_one (by omega)]
    unfold tc_dk
    rw [decide_eq_true (p := s = s) rfl, Bool.true_and, Bool.and_assoc]
  · rw [pk_un e, h s b hs, tc_dk_n (fun z => e z.1)]
theorem tr_xO_0 {D : Nat → Nat → Bool} {ob : Nat → Int32} (h : tr_xO D ob) {t : Nat} (ht : t < 8) : ob t = 0 ↔ tc_an (D t) = false := by
  rw [tb_0, tc_an_f]
  constructor
  · intro g c hc
    have := g c (by omega)
    rw [h t c ht, decide_eq_true hc, Bool.true_and] at this
    exact this
  · intro g q _
    rw [h t q ht]
    by_cases e : q < 4
    · rw [g q e, Bool.and_false]
    · rw [decide_eq_false e, Bool.false_and]
def tc_sub (D' D : Nat → Nat → Bool) : Prop := ∀ s b, D' s b = true → D s b = true
theorem tc_sub_an {D' D : Nat → Nat → Bool} (h : tc_sub D' D) {s : Nat} (e : tc_an (D' s) = true) : tc_an (D s) = true := by
  obtain ⟨c, hc, g⟩ := tc_an_t.mp e
  exact tc_an_t.mpr ⟨c, hc, h s c g⟩
theorem tc_sub_dk {D : Nat → Nat → Bool} {c t : Nat} : tc_sub (tc_dk D c t) D := by
  intro s b h
  unfold tc_dk at h
  exact (Bool.and_eq_true_iff.mp h).1
theorem tr_iL_s {L : List Nat} {D D' : Nat → Nat → Bool} (h : tr_iL L D) (g : tc_sub D' D) : tr_iL (tc_lv D' L) D' := by
  refine ⟨h.1.filter _, fun s => ?_⟩
  unfold tc_lv
  rw [List.mem_filter, h.2 s]
  exact ⟨fun z => ⟨z.1.1, z.2⟩, fun z => ⟨⟨z.1, tc_sub_an g z.2⟩, z.2⟩⟩
theorem tr_iN_s {D' N : Nat → Nat → Bool} : tr_iN D' (tc_nv D' N) := by
  intro s f _ _ h
  exact (Bool.and_eq_true_iff.mp h).2
theorem tc_lv_lv {L : List Nat} {D' D'' : Nat → Nat → Bool} (g : tc_sub D'' D') : tc_lv D'' (tc_lv D' L) = tc_lv D'' L := by
  unfold tc_lv
  rw [List.filter_filter]
  refine List.filter_congr (fun s _ => ?_)
  cases e : tc_an (D'' s) with
  | false => rfl
  | true => rw [tc_sub_an g e]; rfl
theorem tc_nv_nv {N D' D'' : Nat → Nat → Bool} (g : tc_sub D'' D') : tc_nv D'' (tc_nv D' N) = tc_nv D'' N := by
  funext s f
  unfold tc_nv
  cases e : tc_an (D'' s) with
  | false => rw [Bool.and_false, Bool.and_false]
  | true => rw [tc_sub_an g e, Bool.and_true]
theorem tc_lv_id {L : List Nat} {D : Nat → Nat → Bool} (h : tr_iL L D) : tc_lv D L = L := by
  unfold tc_lv
  exact List.filter_eq_self.mpr (fun s hs => ((h.2 s).mp hs).2)
theorem tc_nv_id {D N : Nat → Nat → Bool} (h : tr_iN D N) {s f : Nat} (hs : s < 8) (hf : f < 16) : tc_nv D N s f = N s f := by
  unfold tc_nv
  cases e : N s f with
  | false => rfl
  | true => rw [h s f hs hf e]; rfl
theorem tc_lv_k {L : List Nat} {D : Nat → Nat → Bool} {c t : Nat} (h : tr_iL L D) (e : tc_an (tc_dk D c t t) = true) : tc_lv (tc_dk D c t) L = L := by
  unfold tc_lv
  refine List.filter_eq_self.mpr (fun s hs => ?_)
  by_cases z : s = t
  · rw [z]; exact e
  · rw [tc_dk_an z]; exact ((h.2 s).mp hs).2
theorem tc_nv_k {D N : Nat → Nat → Bool} {c t s f : Nat} (h : tr_iN D N) (e : tc_an (tc_dk D c t t) = true) (hs : s < 8) (hf : f < 16) : tc_nv (tc_dk D c t) N s f = N s f := by
  unfold tc_nv
  by_cases z : s = t
  · subst z; rw [e, Bool.and_true]
  · rw [tc_dk_an z]
    cases w : N s f with
    | false => rfl
    | true => rw [h s f hs hf w]; rfl
theorem tc_lv_c {L : List Nat} {D : Nat → Nat → Bool} {c t : Nat} (h : tr_iL L D) (e : tc_an (tc_dk D c t t) = false) : tc_lv (tc_dk D c t) L = L.filter (fun x => !decide (x = t)) := by
  unfold tc_lv
  refine List.filter_congr (fun s hs => ?_)
  by_cases z : s = t
  · rw [z, e, decide_eq_true rfl]; rfl
  · rw [tc_dk_an z, ((h.2 s).mp hs).2, decide_eq_false z]; rfl
theorem tc_nv_c {D N : Nat → Nat → Bool} {c t s f : Nat} (h : tr_iN D N) (e : tc_an (tc_dk D c t t) = false) (hs : s < 8) (hf : f < 16) : tc_nv (tc_dk D c t) N s f = tc_cl N t 16 s f := by
  unfold tc_nv tc_cl
  by_cases z : s = t
  · subst z; rw [e, Bool.and_false, if_pos ⟨rfl, hf⟩]
  · rw [tc_dk_an z, if_neg (fun w => z w.1)]
    cases w : N s f with
    | false => rfl
    | true => rw [h s f hs hf w]; rfl
theorem tr_xN_c {E E' : Nat → Option Nat} {N N' : Nat → Nat → Bool} {nc : Nat → Int32} (h : tr_xN E N nc) (g : ∀ f, f < 16 → tc_c E' N' f = tc_c E N f) : tr_xN E' N' nc := fun f hf => by rw [h f hf, g f hf]
def tc_da (D : Nat → Nat → Bool) (c n : Nat) : Nat → Nat → Bool := fun s b => D s b && !(decide (s < n) && decide (b = c))
theorem tc_da_0 {D : Nat → Nat → Bool} {c : Nat} : tc_da D c 0 = D := by
  funext s b
  unfold tc_da
  rw [decide_eq_false (p := s < 0) (by omega)]
  simp
theorem tc_da_at {D : Nat → Nat → Bool} {c n : Nat} : tc_da D c n n c = D n c := by
  unfold tc_da
  rw [decide_eq_false (p := n < n) (by omega)]
  simp
theorem tc_da_t {D : Nat → Nat → Bool} {c n : Nat} : tc_dk (tc_da D c n) c n = tc_da D c (n + 1) := by
  funext s b
  unfold tc_dk tc_da
  by_cases e : b = c
  · rw [decide_eq_true e]
    by_cases z : s = n
    · rw [decide_eq_true z, decide_eq_true (p := s < n + 1) (by omega)]; simp
    · rw [decide_eq_false z]
      by_cases w : s < n
      · rw [decide_eq_true w, decide_eq_true (p := s < n + 1) (by omega)]; simp
      · rw [decide_eq_false w, decide_eq_false (p := s < n + 1) (by omega)]; simp
  · rw [decide_eq_false e]; simp
theorem tc_da_f {D : Nat → Nat → Bool} {c n : Nat} (h : D n c = false) : tc_da D c (n + 1) = tc_da D c n := by
  funext s b
  unfold tc_da
  by_cases z : s = n ∧ b = c
  · obtain ⟨rfl, rfl⟩ := z
    rw [h]; rfl
  · by_cases e : b = c
    · have : s ≠ n := fun w => z ⟨w, e⟩
      by_cases w : s < n
      · rw [decide_eq_true w, decide_eq_true (p := s < n + 1) (by omega)]
      · rw [decide_eq_false w, decide_eq_false (p := s < n + 1) (by omega)]
    · rw [decide_eq_false e]; simp
theorem tc_da_s {D : Nat → Nat → Bool} {c n : Nat} : tc_sub (tc_da D c n) D := by
  intro s b h
  unfold tc_da at h
  exact (Bool.and_eq_true_iff.mp h).1
theorem tc_da_n {D : Nat → Nat → Bool} {c n s b : Nat} (h : b ≠ c) : tc_da D c n s b = D s b := by
  unfold tc_da
  rw [decide_eq_false h]; simp
theorem tc_da_c {D : Nat → Nat → Bool} {c n s : Nat} (h : s < n) : tc_da D c n s c = false := by
  unfold tc_da
  rw [decide_eq_true h]; simp
theorem tc_da_id {D : Nat → Nat → Bool} {c n : Nat} (h : ∀ s, s < n → D s c = false) : tc_da D c n = D := by
  induction n with
  | zero => exact tc_da_0
  | succ n ih => rw [tc_da_f (h n (by omega)), ih (fun s hs => h s (by omega))]
/-- no request owed -/
theorem tc_no {L : List Nat} {D : Nat → Nat → Bool} (h : tr_iL L D) {c : Nat} (hc : c < 4) (e : L.find? (fun t => D t c) = none) : ∀ s, s < 8 → D s c = false := by
  intro s hs
  cases z : D s c with
  | false => rfl
  | true =>
    have h1 := List.find?_eq_none.mp e s ((h.2 s).mpr ⟨hs, tc_an_t.mpr ⟨c, hc, z⟩⟩)
    exact absurd z h1
theorem tc_yes {L : List Nat} {D : Nat → Nat → Bool} (h : tr_iL L D) {c x : Nat} (e : L.find? (fun t => D t c) = some x) : x ∈ L ∧ x < 8 ∧ D x c = true :=
  ⟨List.mem_of_find?_eq_some e, ((h.2 x).mp (List.mem_of_find?_eq_some e)).1, List.find?_some (p := fun t => D t c) e⟩
/-- frames named by pages -/
def tc_nf (E : Nat → Option Nat) (s : Nat) (A : Nat → Bool) : Nat → Nat → Bool
  | 0, _ => false
  | n + 1, f => tc_nf E s A n f || (A n && tc_nm (E (s * 8 + n)) f)
theorem tc_nf_t {E : Nat → Option Nat} {s : Nat} {A : Nat → Bool} {n f : Nat} : tc_nf E s A n f = true ↔ ∃ p, p < n ∧ A p = true ∧ tc_nm (E (s * 8 + p)) f = true := by
  induction n with
  | zero => exact ⟨fun h => (by cases h), fun ⟨p, h, _⟩ => by omega⟩
  | succ n ih =>
    show (tc_nf E s A n f || (A n && tc_nm (E (s * 8 + n)) f)) = true ↔ _
    rw [Bool.or_eq_true, Bool.and_eq_true, ih]
    constructor
    · rintro (⟨p, h1, h2⟩ | h)
      · exact ⟨p, by omega, h2⟩
      · exact ⟨n, by omega, h⟩
    · rintro ⟨p, h1, h2⟩
      by_cases e : p = n
      · subst e; exact Or.inr h2
      · exact Or.inl ⟨p, by omega, h2⟩
def tc_ad (N : Nat → Nat → Bool) (t : Nat) (M : Nat → Bool) (n : Nat) : Nat → Nat → Bool := fun s f => if s = t ∧ f < n then M f else N s f
theorem tc_ad_0 {N : Nat → Nat → Bool} {t : Nat} {M : Nat → Bool} : tc_ad N t M 0 = N := by
  funext s f
  exact if_neg (fun z => by omega)
theorem tc_ad_n {N : Nat → Nat → Bool} {t n s f : Nat} {M : Nat → Bool} (h : ¬ (s = t ∧ f = n)) : tc_ad N t M (n + 1) s f = tc_ad N t M n s f := by
  unfold tc_ad
  by_cases e : s = t ∧ f < n
  · rw [if_pos e, if_pos ⟨e.1, by omega⟩]
  · rw [if_neg e]
    exact if_neg (fun z => e ⟨z.1, by have := z.2; have : f ≠ n := fun w => h ⟨z.1, w⟩; omega⟩)
theorem tc_ad_at {N : Nat → Nat → Bool} {t n : Nat} {M : Nat → Bool} : tc_ad N t M n t n = N t n := if_neg (fun z => by omega)
theorem tc_ad_t {N : Nat → Nat → Bool} {t n f : Nat} {M : Nat → Bool} (h : f < n) : tc_ad N t M n t f = M f := if_pos ⟨rfl, h⟩
theorem tc_ad_o {N : Nat → Nat → Bool} {t n s f : Nat} {M : Nat → Bool} (h : s ≠ t) : tc_ad N t M n s f = N s f := if_neg (fun z => h z.1)
theorem tr_xA_a {M : List Nat} {ao : Nat → Int32} (h : tr_xA M ao) (y : Nat) : tr_xA (M ++ [y]) (upd ao M.length (nI y)) := by
  intro j x hx
  rw [List.getElem?_append] at hx
  by_cases e : j < M.length
  · rw [if_pos e] at hx
    rw [pk_un (by omega)]
    exact h j x hx
  · rw [if_neg e] at hx
    have e2 : j - M.length = 0 := by
      have := (List.getElem?_eq_some_iff.mp hx).1
      simp at this
      omega
    rw [e2] at hx
    have e3 : j = M.length := by omega
    subst e3
    rw [pk_us]
    have : y = x := by simpa using hx
    rw [this]
end
section
/-! the component's loops over requests -/
section
variable {cC sC pC fC oC : Int32} {mp wp ef nc ct so wk wc rn kp kc rs rp rf ob ao : Nat → Int32}
theorem xw_oo_l {post : Int32 → Prop} {D : Nat → Nat → Bool} {c n : Nat} (hO : tr_xO D ob) (hc : c < 4) (hn : n ≤ 8) : ∀ (l : List Nat) (i : Nat), n = i + l.length → (∀ x, x ∈ l → x < 8) → (∀ j x, l[j]? = some x → ao (i + j) = nI x) → post (nI ((l.find? (fun t => D t c)).getD 8)) → wX_oldestOwed_2 post (nI c) cC sC pC fC (nI n) mp wp ef nc ct so wk wc rn kp kc rs rp rf ob ao (l.length + 1) (nI i) := by
  intro l
  induction l with
  | nil =>
    intro i e _ _ H
    exact br_t (nI_le (by simp at e; omega) (by simp at e; omega)) H
  | cons y l ih =>
    intro i e h8 ha H
    rw [List.length_cons] at e
    have hy : ao i = nI y := ha 0 y rfl
    have y8 : y < 8 := h8 y (List.mem_cons_self ..)
    refine br_f (nI_ge (by omega) (by omega)) (And.intro (vp_in_nI (by omega) (by omega)) ?_)
    rw [tb_rd ao (by omega), hy]
    rw [List.find?_cons] at H
    cases z : D y c with
    | true =>
      rw [z] at H
      exact xw_ow_t hO hc y8 z (br_f (by decide) (And.intro (vp_in_nI (by omega) (by omega)) H))
    | false =>
      rw [z] at H
      exact xw_ow_f hO y8 hc z (br_t rfl (nm_r (nI_1 i) (ih (i + 1) (by omega) (fun x hx => h8 x (List.mem_cons_of_mem _ hx)) (fun j x hx => by rw [show i + 1 + j = i + (j + 1) from by omega]; exact ha (j + 1) x hx) H)))
theorem xw_oo {post : Int32 → Prop} {D : Nat → Nat → Bool} {L : List Nat} {c : Nat} (hO : tr_xO D ob) (hA : tr_xA L ao) (hL : tr_iL L D) (hc : c < 4) (H : post (nI ((L.find? (fun t => D t c)).getD 8))) : wpX_oldestOwed post (cC, sC, pC, fC, nI L.length, mp, wp, ef, nc, ct, so, wk, wc, rn, kp, kc, rs, rp, rf, ob, ao) (nI c) :=
  Exists.intro (L.length + 1) (xw_oo_l (post := post) hO hc (tl_len 8 L hL.1 (fun x hx => ((hL.2 x).mp hx).1)) L 0 (by omega) (fun x hx => ((hL.2 x).mp hx).1) (fun j x hx => by rw [Nat.zero_add]; exact hA j x hx) H)
theorem xw_ro_l {post : SX → Prop} {t n : Nat} (ht : t < 8) (hn : n ≤ 8) : ∀ (l M : List Nat) (i : Nat) (ao : Nat → Int32), n = i + l.length → M.length ≤ i → (∀ x, x ∈ l → x < 8) → tr_xA M ao → (∀ j x, l[j]? = some x → ao (i + j) = nI x) → (∀ ao', tr_xA (M ++ l.filter (fun x => !decide (x = t))) ao' → post (cC, sC, pC, fC, nI (M ++ l.filter (fun x => !decide (x = t))).length, mp, wp, ef, nc, ct, so, wk, wc, rn, kp, kc, rs, rp, rf, ob, ao')) → wX_removeFromOrder_4 post (nI t) cC sC pC fC (nI n) (l.length + 1) (nI M.length) (nI i) mp wp ef nc ct so wk wc rn kp kc rs rp rf ob ao := by
  intro l
  induction l with
  | nil =>
    intro M i ao e _ _ hM _ H
    rw [List.filter_nil, List.append_nil] at H
    exact br_t (nI_le (by simp at e; omega) (by simp at e; omega)) (H ao hM)
  | cons y l ih =>
    intro M i ao e hMi h8 hM ha H
    rw [List.length_cons] at e
    have hy : ao i = nI y := ha 0 y rfl
    have y8 : y < 8 := h8 y (List.mem_cons_self ..)
    refine br_f (nI_ge (by omega) (by omega)) (And.intro (vp_in_nI (by omega) (by omega)) ?_)
    rw [tb_rd ao (by omega), hy]
    by_cases z : y = t
    · refine br_t (by rw [z]) (nm_r (nI_1 i) (ih M (i + 1) ao (by omega) (by omega) (fun x hx => h8 x (List.mem_cons_of_mem _ hx)) hM (fun j x hx => by rw [show i + 1 + j = i + (j + 1) from by omega]; exact ha (j + 1) x hx) ?_))
      rw [List.filter_cons_of_neg (by simp [z])] at H
      exact H
    · refine br_f (fun w => z ((nI_eq (by omega) (by omega)).mp w)) (And.intro (vp_in_nI (by omega) (by omega)) (And.intro (vp_in_nI (by omega) (by omega)) (nm_r (tb_up ao _ (by omega)) (nm_r (nI_1 M.length) (nm_r (nI_1 i) ?_)))))
      have h1 := ih (M ++ [y]) (i + 1) (upd ao M.length (nI y)) (by omega) (by rw [List.length_append]; show M.length + 1 ≤ i + 1; omega) (fun x hx => h8 x (List.mem_cons_of_mem _ hx)) (tr_xA_a hM y) (fun j x hx => by rw [pk_un (by omega), show i + 1 + j = i + (j + 1) from by omega]; exact ha (j + 1) x hx) (by
        rw [List.filter_cons_of_pos (by simp [z])] at H
        rw [List.append_assoc]
        exact H)
      rw [List.length_append] at h1
      exact h1
theorem xw_ro {post : SX → Prop} {L : List Nat} {t : Nat} (ht : t < 8) (hl : L.length ≤ 8) (h8 : ∀ x, x ∈ L → x < 8) (hA : tr_xA L ao) (H : ∀ ao', tr_xA (L.filter (fun x => !decide (x = t))) ao' → post (cC, sC, pC, fC, nI (L.filter (fun x => !decide (x = t))).length, mp, wp, ef, nc, ct, so, wk, wc, rn, kp, kc, rs, rp, rf, ob, ao')) : wpX_removeFromOrder post (cC, sC, pC, fC, nI L.length, mp, wp, ef, nc, ct, so, wk, wc, rn, kp, kc, rs, rp, rf, ob, ao) (nI t) :=
  Exists.intro (L.length + 1) (xw_ro_l (post := post) ht hl L [] 0 ao (by omega) (Nat.le_refl 0) h8 (fun j x hx => by simp at hx) (fun j x hx => by rw [Nat.zero_add]; exact hA j x hx) (by rw [List.nil_append]; exact H))
theorem xw_cq_l {post : SX → Prop} {E : Nat → Option Nat} {N : Nat → Nat → Bool} {t : Nat} {x2 : Int32} (ht : t < 8) (hx : ∀ f, f < 16 → bt x2 f = N t f) (H : ∀ nc', tr_xN E (tc_cl N t 16) nc' → post (cC, sC, pC, fC, oC, mp, wp, ef, nc', tc_clr E (tc_cl N t 16) ct, so, wk, wc, rn, kp, kc, rs, rp, rf, ob, ao)) : ∀ d i, i + d = 16 → ∀ nc', tr_xN E (tc_cl N t i) nc' → wX_closeRequest_21 post x2 (d + 1) (nI i) cC sC pC fC oC mp wp ef nc' (tc_clr E (tc_cl N t i) ct) so wk wc rn kp kc rs rp rf ob ao := by
  intro d
  induction d with
  | zero =>
    intro i e nc' h
    obtain rfl : i = 16 := by omega
    exact br_t (nI_le (Nat.le_refl 16) (by decide)) (H nc' h)
  | succ d ih =>
    intro i e nc' h
    refine br_f (nI_ge (a := i) (b := 16) (by omega) (by decide)) ?_
    cases z : N t i with
    | false =>
      have h1 := ih (i + 1) (by omega) nc' (by rw [tc_cl_f z]; exact h)
      rw [tc_cl_f z] at h1
      exact br_t (tb_zf (by omega) (by rw [hx i (by omega), z])) (nm_r (nI_1 i) h1)
    | true =>
      have c1 : tc_c E (tc_cl N t i) i = tc_c E (tc_cl N t (i + 1)) i + 1 := by
        have := tc_c_nN (E := E) (N := tc_cl N t i) (N' := tc_cl N t (i + 1)) i ht (fun s _ hs => tc_cl_n (fun w => hs w.1))
        rw [tc_cl_at, z, tc_cl_t] at this
        exact this.symm
      have c2 : ∀ f, f < 16 → f ≠ i → tc_c E (tc_cl N t (i + 1)) f = tc_c E (tc_cl N t i) f := fun f _ hf => tc_c_congr (fun _ _ => rfl) (fun s _ => tc_cl_n (fun w => hf w.2))
      refine br_f (tb_zt (by omega) (by rw [hx i (by omega), z])) ?_
      refine xw_rel (f := i) (m := tc_c E (tc_cl N t (i + 1)) i) (ct' := tc_clr E (tc_cl N t (i + 1)) ct) rfl (by omega) (by rw [h i (by omega), c1]) (by have := tc_c_le E (tc_cl N t (i + 1)) i; omega) (tc_clr_rel (by omega) c2 (by omega)) ?_
      refine nm_r (nI_1 i) (ih (i + 1) (by omega) _ (fun f hf => ?_))
      by_cases w : f = i
      · subst w; rw [pk_us]
      · rw [pk_un w, c2 f hf w]; exact h f hf
theorem xw_cq {post : SX → Prop} {E : Nat → Option Nat} {N : Nat → Nat → Bool} {L : List Nat} {t : Nat} (ht : t < 8) (hl : L.length ≤ 8) (h8 : ∀ x, x ∈ L → x < 8) (hA : tr_xA L ao) (hX : tr_xF N rf) (hN : tr_xN E N nc) (hF : tr_iF E N ct) (H : ∀ nc' ao', tr_xN E (tc_cl N t 16) nc' → tr_xA (L.filter (fun x => !decide (x = t))) ao' → post (cC, sC, pC, fC, nI (L.filter (fun x => !decide (x = t))).length, mp, wp, ef, nc', tc_clr E (tc_cl N t 16) ct, so, wk, wc, rn, kp, kc, rs, rp, upd rf t 0, ob, ao')) : wpX_closeRequest post (cC, sC, pC, fC, nI L.length, mp, wp, ef, nc, ct, so, wk, wc, rn, kp, kc, rs, rp, rf, ob, ao) (nI t) := by
  unfold wpX_closeRequest
  refine xw_ro ht hl h8 hA (fun ao' hA' => ?_)
  refine And.intro (vp_in_nI ht (by omega)) (nm_r (tb_rd rf (by omega)) (And.intro (vp_in_nI ht (by omega)) (nm_r (tb_up rf _ (by omega)) ?_)))
  have h0 := xw_cq_l (post := post) (E := E) (N := N) (x2 := rf t) (ct := ct) ht (fun f hf => hX t f ht hf) (fun nc' h => H nc' ao' h hA') 16 0 (by omega) nc (by rw [tc_cl_0]; exact hN)
  rw [tc_cl_0, tc_clr_id hF] at h0
  exact Exists.intro 17 h0
theorem xw_ak {post : SX → Prop} {E : Nat → Option Nat} {D N : Nat → Nat → Bool} {L : List Nat} {c t : Nat} (hc : c < 4) (ht : t < 8) (hO : tr_xO D ob) (hA : tr_xA L ao) (hX : tr_xF N rf) (hN : tr_xN E N nc) (hF : tr_iF E N ct) (iL : tr_iL L D) (iN : tr_iN D N) (H : ∀ nc' rf' ob' ao', tr_xN E (tc_nv (tc_dk D c t) N) nc' → tr_xF (tc_nv (tc_dk D c t) N) rf' → tr_xO (tc_dk D c t) ob' → tr_xA (tc_lv (tc_dk D c t) L) ao' → post (cC, sC, pC, fC, nI (tc_lv (tc_dk D c t) L).length, mp, wp, ef, nc', tc_clr E (tc_nv (tc_dk D c t) N) ct, so, wk, wc, rn, kp, kc, rs, rp, rf', ob', ao')) : wpX_acknowledge post (cC, sC, pC, fC, nI L.length, mp, wp, ef, nc, ct, so, wk, wc, rn, kp, kc, rs, rp, rf, ob, ao) (nI c) (nI t) := by
  have hO' := tr_xO_dk (t := t) hO hc
  have hin : vp_in (nI t) 8 := vp_in_nI ht (by omega)
  have h8 : ∀ x, x ∈ L → x < 8 := fun x hx => ((iL.2 x).mp hx).1
  refine And.intro hin (And.intro hin (nm_r (e' := upd ob t (ob t &&& (((1 : Int32) <<< (nI c &&& 31)) ^^^ (-1)))) (by rw [nI_clamp (by omega)]) (And.intro hin ?_)))
  rw [nI_clamp (n := t) (by omega)]
  cases z : tc_an (tc_dk D c t t) with
  | true =>
    have c2 : ∀ f, f < 16 → tc_c E (tc_nv (tc_dk D c t) N) f = tc_c E N f := fun f hf => tc_c_congr (fun _ _ => rfl) (fun s hs => tc_nv_k iN z hs hf)
    have h1 := H nc rf _ ao (tr_xN_c hN c2) (fun s f hs hf => by rw [tc_nv_k iN z hs hf]; exact hX s f hs hf) hO' (by rw [tc_lv_k iL z]; exact hA)
    rw [tc_lv_k iL z, tc_clr_congr c2, tc_clr_id hF] at h1
    refine br_f ?_ h1
    rw [tr_xO_0 hO' ht, z]
    decide
  | false =>
    refine br_t ((tr_xO_0 hO' ht).mpr z) ?_
    have c2 : ∀ f, f < 16 → tc_c E (tc_nv (tc_dk D c t) N) f = tc_c E (tc_cl N t 16) f := fun f hf => tc_c_congr (fun _ _ => rfl) (fun s hs => tc_nv_c iN z hs hf)
    refine xw_cq (E := E) (N := N) ht (tl_len 8 L iL.1 h8) h8 hA hX hN hF (fun nc' ao' h1 h2 => ?_)
    have h3 := H nc' (upd rf t 0) _ ao' (tr_xN_c h1 c2) (fun s f hs hf => by
      rw [tc_nv_c iN z hs hf]
      by_cases w : s = t
      · subst w; rw [pk_us, b_0]; exact (if_pos ⟨rfl, hf⟩).symm
      · rw [pk_un w, hX s f hs hf]; exact (if_neg (fun y => w y.1)).symm) hO' (by rw [tc_lv_c iL z]; exact h2)
    rw [tc_lv_c iL z, tc_clr_congr c2] at h3
    exact h3
theorem xw_aa_l {post : SX → Prop} {E : Nat → Option Nat} {D N : Nat → Nat → Bool} {L : List Nat} {c : Nat} (hc : c < 4) (iL : tr_iL L D) (iN : tr_iN D N) (H : ∀ nc' rf' ob' ao', tr_xN E (tc_nv (tc_da D c 8) N) nc' → tr_xF (tc_nv (tc_da D c 8) N) rf' → tr_xO (tc_da D c 8) ob' → tr_xA (tc_lv (tc_da D c 8) L) ao' → post (cC, sC, pC, fC, nI (tc_lv (tc_da D c 8) L).length, mp, wp, ef, nc', tc_clr E (tc_nv (tc_da D c 8) N) ct, so, wk, wc, rn, kp, kc, rs, rp, rf', ob', ao')) : ∀ d t, t + d = 8 → ∀ nc' rf' ob' ao', tr_xN E (tc_nv (tc_da D c t) N) nc' → tr_xF (tc_nv (tc_da D c t) N) rf' → tr_xO (tc_da D c t) ob' → tr_xA (tc_lv (tc_da D c t) L) ao' → wX_acknowledgeAll_2 post (nI c) (d + 1) (nI t) cC sC pC fC (nI (tc_lv (tc_da D c t) L).length) mp wp ef nc' (tc_clr E (tc_nv (tc_da D c t) N) ct) so wk wc rn kp kc rs rp rf' ob' ao' := by
  intro d
  induction d with
  | zero =>
    intro t e nc' rf' ob' ao' h1 h2 h3 h4
    obtain rfl : t = 8 := by omega
    exact br_t (nI_le (Nat.le_refl 8) (by decide)) (H nc' rf' ob' ao' h1 h2 h3 h4)
  | succ d ih =>
    intro t e nc' rf' ob' ao' h1 h2 h3 h4
    refine br_f (nI_ge (a := t) (b := 8) (by omega) (by decide)) ?_
    cases z : D t c with
    | false =>
      refine xw_ow_f h3 (by omega) hc (by rw [tc_da_at]; exact z) (br_t rfl (nm_r (nI_1 t) ?_))
      have h := ih (t + 1) (by omega) nc' rf' ob' ao'
      rw [tc_da_f z] at h
      exact h h1 h2 h3 h4
    | true =>
      refine xw_ow_t h3 hc (by omega) (by rw [tc_da_at]; exact z) (br_f (by decide) ?_)
      have s1 : tc_sub (tc_da D c (t + 1)) (tc_da D c t) := by rw [← tc_da_t]; exact tc_sub_dk
      refine xw_ak hc (by omega) h3 h4 h2 h1 tc_clr_ok (tr_iL_s iL tc_da_s) tr_iN_s (fun nc2 rf2 ob2 ao2 g1 g2 g3 g4 => ?_)
      rw [tc_da_t] at g3
      rw [tc_da_t, tc_nv_nv s1] at g1 g2
      rw [tc_da_t, tc_lv_lv s1] at g4
      rw [tc_da_t, tc_nv_nv s1, tc_lv_lv s1, tc_clr_clr (fun f _ => tc_c_mono (fun _ _ w => w) (fun s hs w => by
        have w2 := Bool.and_eq_true_iff.mp w
        exact Bool.and_eq_true_iff.mpr ⟨w2.1, tc_sub_an s1 w2.2⟩))]
      exact nm_r (nI_1 t) (ih (t + 1) (by omega) nc2 rf2 ob2 ao2 g1 g2 g3 g4)
theorem xw_aa {post : SX → Prop} {E : Nat → Option Nat} {D N : Nat → Nat → Bool} {L : List Nat} {c : Nat} (hc : c < 4) (hO : tr_xO D ob) (hA : tr_xA L ao) (hX : tr_xF N rf) (hN : tr_xN E N nc) (hF : tr_iF E N ct) (iL : tr_iL L D) (iN : tr_iN D N) (H : ∀ nc' rf' ob' ao', tr_xN E (tc_nv (tc_da D c 8) N) nc' → tr_xF (tc_nv (tc_da D c 8) N) rf' → tr_xO (tc_da D c 8) ob' → tr_xA (tc_lv (tc_da D c 8) L) ao' → post (cC, sC, pC, fC, nI (tc_lv (tc_da D c 8) L).length, mp, wp, ef, nc', tc_clr E (tc_nv (tc_da D c 8) N) ct, so, wk, wc, rn, kp, kc, rs, rp, rf', ob', ao')) : wpX_acknowledgeAll post (cC, sC, pC, fC, nI L.length, mp, wp, ef, nc, ct, so, wk, wc, rn, kp, kc, rs, rp, rf, ob, ao) (nI c) := by
  have c2 : ∀ f, f < 16 → tc_c E (tc_nv D N) f = tc_c E N f := fun f hf => tc_c_congr (fun _ _ => rfl) (fun s hs => tc_nv_id iN hs hf)
  have h := xw_aa_l (post := post) (E := E) (ct := ct) hc iL iN H 8 0 (by omega) nc rf ob ao
  rw [tc_da_0, tc_lv_id iL, tc_clr_congr c2, tc_clr_id hF] at h
  exact Exists.intro 9 (h (tr_xN_c hN c2) (fun s f hs hf => by rw [tc_nv_id iN hs hf]; exact hX s f hs hf) hO hA)
def tc_lk (K : Nat → Option Nat) (L : List Nat) (D : Nat → Nat → Bool) (c s : Nat) : Nat → Option Nat := if (L.find? (fun t => D t c)).isSome = true then tc_kf K (c * 4 + s) (fun _ => true) else K
theorem xw_lv3 {post : SX → Prop} {c s : Nat} (hc : c < 4) (hs : s < 4) (H : post (cC, sC, pC, fC, oC, mp, wp, ef, nc, ct, upd so c (-1), wk, wc, upd rn s (rn s &&& (((1 : Int32) <<< (nI c &&& 31)) ^^^ (-1))), kp, kc, rs, rp, rf, ob, ao)) : wX_leave_39 post (nI c) (nI s) cC sC pC fC oC mp wp ef nc ct so wk wc rn kp kc rs rp rf ob ao := by
  refine And.intro (vp_in_nI hs (by omega)) (And.intro (vp_in_nI hs (by omega)) (nm_r (e' := upd rn s (rn s &&& (((1 : Int32) <<< (nI c &&& 31)) ^^^ (-1)))) (by rw [nI_clamp (by omega)]) (And.intro (vp_in_nI hc (by omega)) (nm_r (tb_up so _ (by omega)) H))))
theorem xw_lv {post : SX → Prop} {E K : Nat → Option Nat} {D N : Nat → Nat → Bool} {L : List Nat} {c s : Nat} (hc : c < 4) (hs : s < 4) (hso : so c = nI s) (hK : tr_xK K kp kc) (hO : tr_xO D ob) (hA : tr_xA L ao) (hX : tr_xF N rf) (hN : tr_xN E N nc) (hF : tr_iF E N ct) (iL : tr_iL L D) (iN : tr_iN D N) (H : ∀ kp' nc' rf' ob' ao', tr_xK (tc_lk K L D c s) kp' kc → tr_xN E (tc_nv (tc_da D c 8) N) nc' → tr_xF (tc_nv (tc_da D c 8) N) rf' → tr_xO (tc_da D c 8) ob' → tr_xA (tc_lv (tc_da D c 8) L) ao' → post (cC, sC, pC, fC, nI (tc_lv (tc_da D c 8) L).length, mp, wp, ef, nc', tc_clr E (tc_nv (tc_da D c 8) N) ct, upd so c (-1), upd wk c 8, wc, upd rn s (rn s &&& (((1 : Int32) <<< (nI c &&& 31)) ^^^ (-1))), kp', kc, rs, rp, rf', ob', ao')) : wpX_leave post (cC, sC, pC, fC, nI L.length, mp, wp, ef, nc, ct, so, wk, wc, rn, kp, kc, rs, rp, rf, ob, ao) (nI c) := by
  refine And.intro (vp_in_nI hc (by omega)) (nm_r (e' := nI s) (by rw [tb_rd so (by omega), hso]) (And.intro (vp_in_nI hc (by omega)) (nm_r (tb_up wk _ (by omega)) ?_)))
  refine xw_oo hO hA iL hc ?_
  cases z : L.find? (fun t => D t c) with
  | none =>
    refine br_t (nI_le (Nat.le_refl 8) (by decide)) (xw_lv3 hc hs ?_)
    have e : tc_da D c 8 = D := tc_da_id (tc_no iL hc z)
    have c2 : ∀ f, f < 16 → tc_c E (tc_nv D N) f = tc_c E N f := fun f hf => tc_c_congr (fun _ _ => rfl) (fun s hs => tc_nv_id iN hs hf)
    have h := H kp nc rf ob ao
    rw [e, tc_lv_id iL, tc_clr_congr c2, tc_clr_id hF] at h
    refine h ?_ (tr_xN_c hN c2) (fun s f hs hf => by rw [tc_nv_id iN hs hf]; exact hX s f hs hf) hO hA
    unfold tc_lk
    rw [z, if_neg (by decide)]
    exact hK
  | some x =>
    have hx := tc_yes iL z
    refine br_f (nI_ge (a := x) (b := 8) hx.2.1 (by decide)) (xw_fg hc hs ?_)
    refine xw_aa hc hO hA hX hN hF iL iN (fun nc' rf' ob' ao' h1 h2 h3 h4 => ?_)
    refine xw_lv3 hc hs (H _ nc' rf' ob' ao' ?_ h1 h2 h3 h4)
    unfold tc_lk
    rw [z, if_pos (show (some x).isSome = true from rfl), ← tc_kf_c (m := bt 255) (fun p hp => by rw [b_255]; exact decide_eq_true hp)]
    exact tr_xK_f hK (c * 4 + s) 255
end
end
section
/-! withdraw: ghosts, and the component's loops -/
def tw_h (w : Bool) : Option Nat → Bool
  | none => false
  | some k => w || decide (k % 2 = 1)
def tw_A (E : Nat → Option Nat) (s a b : Nat) (w : Bool) (p : Nat) : Bool := decide (a ≤ p ∧ p ≤ b) && tw_h w (E (s * 8 + p))
def tw_E (E : Nat → Option Nat) (s : Nat) (A : Nat → Bool) (w : Bool) : Nat → Option Nat := fun i => if i / 8 = s ∧ A (i % 8) = true then (if w = true then none else (E i).map (fun k => k / 2 * 2)) else E i
def tw_K (K R : Nat → Option Nat) (s n : Nat) : Nat → Option Nat := fun i => if i / 8 % 4 = s ∧ i / 32 < n ∧ ¬ R (i / 32) = some s then none else K i
theorem tw_E_sp {E : Nat → Option Nat} {s t q : Nat} {A : Nat → Bool} {w : Bool} (hq : q < 8) : tw_E E s A w (t * 8 + q) = if t = s ∧ A q = true then (if w = true then none else (E (t * 8 + q)).map (fun k => k / 2 * 2)) else E (t * 8 + q) := by
  unfold tw_E
  rw [show (t * 8 + q) / 8 = t from by omega, show (t * 8 + q) % 8 = q from by omega]
theorem tw_E_um {E : Nat → Option Nat} {s : Nat} {A : Nat → Bool} : tc_um E s A 8 = tw_E E s A true := by
  funext i
  unfold tc_um tw_E
  by_cases e : i / 8 = s ∧ A (i % 8) = true
  · rw [if_pos e, if_pos ⟨e.1, by omega, e.2⟩, if_pos rfl]
  · rw [if_neg e]
    exact if_neg (fun z => e ⟨z.1, z.2.2⟩)
theorem tw_E_nm {E : Nat → Option Nat} {s : Nat} {A : Nat → Bool} {i f : Nat} : tc_nm (tw_E E s A false i) f = tc_nm (E i) f := by
  unfold tw_E
  by_cases e : i / 8 = s ∧ A (i % 8) = true
  · rw [if_pos e, if_neg (by decide)]
    cases z : E i with
    | none => rfl
    | some k =>
      show decide (k / 2 * 2 / 2 = f) = decide (k / 2 = f)
      rw [show k / 2 * 2 / 2 = k / 2 from by omega]
  · rw [if_neg e]
theorem tw_E_le {E : Nat → Option Nat} {s : Nat} {A : Nat → Bool} {w : Bool} {i f : Nat} (h : tc_nm (tw_E E s A w i) f = true) : tc_nm (E i) f = true := by
  cases w with
  | false => rw [tw_E_nm] at h; exact h
  | true =>
    unfold tw_E at h
    by_cases e : i / 8 = s ∧ A (i % 8) = true
    · rw [if_pos e, if_pos rfl] at h; cases h
    · rw [if_neg e] at h; exact h
theorem tw_A_so {E : Nat → Option Nat} {s a b p : Nat} {w : Bool} (h : tw_A E s a b w p = true) : a ≤ p ∧ p ≤ b ∧ ∃ k, E (s * 8 + p) = some k := by
  have h1 := Bool.and_eq_true_iff.mp h
  have h2 := of_decide_eq_true h1.1
  refine ⟨h2.1, h2.2, ?_⟩
  cases z : E (s * 8 + p) with
  | none => rw [z] at h1; cases h1.2
  | some k => exact ⟨k, rfl⟩
theorem tw_xE {E : Nat → Option Nat} {mp wp ef : Nat → Int32} (h : tr_xE E mp wp ef) {s a b : Nat} {w : Bool} {x6 : Int32} (hb : b < 8) (hx : ∀ q, bt x6 q = tw_A E s a b w q) : tr_xE (tw_E E s (tw_A E s a b w) w) (if w = true then upd mp s (mp s &&& (x6 ^^^ (-1))) else mp) (upd wp s (wp s &&& (x6 ^^^ (-1)))) ef := by
  refine ⟨fun t q ht hq => ?_, fun t q ht hq => ?_, fun t q ht hq => ?_, fun i k hi e => ?_⟩
  · rw [tw_E_sp hq]
    cases w with
    | false =>
      rw [if_neg (by decide), h.1 t q ht hq]
      by_cases e : t = s ∧ tw_A E s a b false q = true
      · rw [if_pos e, if_neg (c := false = true) (by decide)]; cases E (t * 8 + q) <;> rfl
      · rw [if_neg e]
    | true =>
      rw [if_pos rfl, if_pos rfl]
      by_cases e : t = s
      · subst e
        rw [pk_us, tb_andn, hx q, h.1 t q ht hq]
        cases z : tw_A E t a b true q with
        | true => rw [if_pos ⟨rfl, rfl⟩]; simp
        | false => rw [if_neg (fun y => by cases y.2)]; simp
      · rw [pk_un e, if_neg (fun y => e y.1), h.1 t q ht hq]
  · rw [tw_E_sp hq]
    by_cases e : t = s
    · subst e
      rw [pk_us, tb_andn, hx q, h.2.1 t q ht hq]
      cases z : tw_A E t a b w q with
      | true =>
        rw [if_pos ⟨rfl, rfl⟩, Bool.not_true, Bool.and_false]
        cases w with
        | true => rfl
        | false =>
          rw [if_neg (by decide)]
          cases y : E (t * 8 + q) with
          | none => rfl
          | some k =>
            show false = decide (k / 2 * 2 % 2 = 1)
            rw [decide_eq_false (by omega)]
      | false => rw [if_neg (fun y => by cases y.2)]; simp
    · rw [pk_un e, if_neg (fun y => e y.1), h.2.1 t q ht hq]
  · cases w with
    | false => exact h.2.2.1 t q ht hq
    | true =>
      rw [if_pos rfl]
      by_cases e : t = s
      · subst e
        rw [pk_us, tb_andn, h.2.2.1 t q ht hq]; rfl
      · rw [pk_un e, h.2.2.1 t q ht hq]
  · unfold tw_E at e
    by_cases z : i / 8 = s ∧ tw_A E s a b w (i % 8) = true
    · rw [if_pos z] at e
      cases w with
      | true => rw [if_pos rfl] at e; cases e
      | false =>
        rw [if_neg (by decide)] at e
        cases y : E i with
        | none => rw [y] at e; cases e
        | some k0 =>
          rw [y] at e
          have e2 : k0 / 2 * 2 = k := Option.some.inj e
          rw [h.2.2.2 i k0 hi y, ← e2]
          exact congrArg nI (by omega)
    · rw [if_neg z] at e
      exact h.2.2.2 i k hi e
theorem tw_K_0 {K R : Nat → Option Nat} {s : Nat} : tw_K K R s 0 = K := by
  funext i
  exact if_neg (fun z => by omega)
theorem tw_K_f {K R : Nat → Option Nat} {s n : Nat} (h : R n = some s) : tw_K K R s (n + 1) = tw_K K R s n := by
  funext i
  unfold tw_K
  by_cases e : i / 8 % 4 = s ∧ i / 32 < n ∧ ¬ R (i / 32) = some s
  · rw [if_pos e, if_pos ⟨e.1, by omega, e.2.2⟩]
  · rw [if_neg e]
    refine if_neg (fun z => e ⟨z.1, ?_, z.2.2⟩)
    have : i / 32 ≠ n := fun w => by rw [w] at z; exact z.2.2 h
    omega
theorem tw_K_t {K R : Nat → Option Nat} {s n : Nat} (hs : s < 4) (h : ¬ R n = some s) : tc_kf (tw_K K R s n) (n * 4 + s) (fun _ => true) = tw_K K R s (n + 1) := by
  funext i
  unfold tc_kf tw_K
  by_cases e : i / 32 = n ∧ i / 8 % 4 = s
  · rw [if_pos ⟨by omega, rfl⟩, if_pos ⟨e.2, by omega, by rw [e.1]; exact h⟩]
  · rw [if_neg (fun z => e (by omega))]
    by_cases y : i / 8 % 4 = s ∧ i / 32 < n ∧ ¬ R (i / 32) = some s
    · rw [if_pos y, if_pos ⟨y.1, by omega, y.2.2⟩]
    · rw [if_neg y]
      exact (if_neg (fun z => y ⟨z.1, by have := z.1; have := z.2.1; omega, z.2.2⟩)).symm
theorem tw_K_sp {K R : Nat → Option Nat} {s n c t q : Nat} (ht : t < 4) (hq : q < 8) : tw_K K R s n ((c * 4 + t) * 8 + q) = if t = s ∧ c < n ∧ ¬ R c = some s then none else K ((c * 4 + t) * 8 + q) := by
  unfold tw_K
  rw [show ((c * 4 + t) * 8 + q) / 8 % 4 = t from by omega, show ((c * 4 + t) * 8 + q) / 32 = c from by omega]
section
variable {cC sC pC fC oC : Int32} {mp wp ef nc ct so wk wc rn kp kc rs rp rf ob ao : Nat → Int32}
theorem xw_fo_l {post : Int32 → Prop} {E : Nat → Option Nat} {s : Nat} {A : Nat → Bool} {x2 : Int32} (hs : s < 4) (hx : ∀ q, q < 8 → bt x2 q = A q) (hE : ∀ p, p < 8 → A p = true → ∃ k, k < 32 ∧ E (s * 8 + p) = some k ∧ ef (s * 8 + p) = nI (k / 2)) (H : ∀ r, (∀ f, bt r f = tc_nf E s A 8 f) → post r) : ∀ d p, p + d = 8 → ∀ x3, (∀ f, bt x3 f = tc_nf E s A p f) → wX_framesOf_5 post (nI s) x2 cC sC pC fC oC mp wp ef nc ct so wk wc rn kp kc rs rp rf ob ao (d + 1) x3 (nI p) := by
  intro d
  induction d with
  | zero =>
    intro p e x3 h
    obtain rfl : p = 8 := by omega
    exact br_t (nI_le (Nat.le_refl 8) (by decide)) (H x3 h)
  | succ d ih =>
    intro p e x3 h
    refine br_f (nI_ge (a := p) (b := 8) (by omega) (by decide)) ?_
    cases z : A p with
    | false =>
      refine br_t (tb_zf (by omega) (by rw [hx p (by omega), z])) (nm_r (nI_1 p) (ih (p + 1) (by omega) x3 (fun f => ?_)))
      rw [h f]
      show _ = (tc_nf E s A p f || (A p && tc_nm (E (s * 8 + p)) f))
      rw [z, Bool.false_and, Bool.or_false]
    | true =>
      obtain ⟨k, hk, e1, e2⟩ := hE p (by omega) z
      refine br_f (tb_zt (by omega) (by rw [hx p (by omega), z])) (And.intro (tb_in8 (by omega) (by omega)) (nm_r (e' := x3 ||| ((1 : Int32) <<< (nI (k / 2) &&& 31))) (by rw [tb_rd8 ef (by omega), e2]) (nm_r (nI_1 p) (ih (p + 1) (by omega) _ (fun f => ?_)))))
      rw [tb_or1 _ (by omega), h f]
      show _ = (tc_nf E s A p f || (A p && tc_nm (E (s * 8 + p)) f))
      rw [z, Bool.true_and, e1]
      show (_ || decide (f = k / 2)) = (_ || decide (k / 2 = f))
      rw [decide_eq_decide.mpr (eq_comm (a := f) (b := k / 2))]
theorem xw_fo {post : Int32 → Prop} {E : Nat → Option Nat} {s : Nat} {A : Nat → Bool} {x2 : Int32} (hs : s < 4) (hx : ∀ q, q < 8 → bt x2 q = A q) (hE : ∀ p, p < 8 → A p = true → ∃ k, k < 32 ∧ E (s * 8 + p) = some k ∧ ef (s * 8 + p) = nI (k / 2)) (H : ∀ r, (∀ f, bt r f = tc_nf E s A 8 f) → post r) : wpX_framesOf post (cC, sC, pC, fC, oC, mp, wp, ef, nc, ct, so, wk, wc, rn, kp, kc, rs, rp, rf, ob, ao) (nI s) x2 :=
  Exists.intro 9 (xw_fo_l (post := post) hs hx hE H 8 0 (by omega) 0 (fun f => by rw [b_0]; rfl))
theorem xw_or6 {post : Int32 → SX → Prop} {E : Nat → Option Nat} {N : Nat → Nat → Bool} {M : Nat → Bool} {t n : Nat} {x3 : Int32} (ht : t < 8) (hn : n < 8) (hx : ∀ f, f < 16 → bt x3 f = M f) (hN0 : ∀ f, f < 16 → N t f = false) (H : ∀ nc', tr_xN E (tc_ad N t M 16) nc' → post (nI t) (cC, sC, pC, fC, nI (n + 1), mp, wp, ef, nc', ct, so, wk, wc, rn, kp, kc, rs, rp, rf, ob, upd ao n (nI t))) : ∀ d i, i + d = 16 → ∀ nc', tr_xN E (tc_ad N t M i) nc' → wX_openRequest_66 post x3 (nI t) cC sC pC fC (nI n) (d + 1) (nI i) mp wp ef nc' ct so wk wc rn kp kc rs rp rf ob ao := by
  intro d
  induction d with
  | zero =>
    intro i e nc' h
    obtain rfl : i = 16 := by omega
    exact br_t (nI_le (Nat.le_refl 16) (by decide)) (And.intro (vp_in_nI hn (by omega)) (nm_r (tb_up ao _ (by omega)) (nm_r (nI_1 n) (H nc' h))))
  | succ d ih =>
    intro i e nc' h
    have hi : i < 16 := by omega
    have c1 : tc_c E (tc_ad N t M (i + 1)) i = tc_c E (tc_ad N t M i) i + (M i).toNat := by
      have := tc_c_nN (E := E) (N := tc_ad N t M i) (N' := tc_ad N t M (i + 1)) i ht (fun s _ hs => tc_ad_n (fun w => hs w.1))
      rw [tc_ad_at, hN0 i hi, tc_ad_t (by omega)] at this
      exact this
    have c2 : ∀ f, f ≠ i → tc_c E (tc_ad N t M (i + 1)) f = tc_c E (tc_ad N t M i) f := fun f hf => tc_c_congr (fun _ _ => rfl) (fun s _ => tc_ad_n (fun w => hf w.2))
    refine br_f (nI_ge (a := i) (b := 16) (by omega) (by decide)) (And.intro (vp_in_nI hi (by omega)) (And.intro (vp_in_nI hi (by omega)) (nm_r (e' := upd nc' i (nI (tc_c E (tc_ad N t M (i + 1)) i))) ?_ (nm_r (nI_1 i) (ih (i + 1) (by omega) _ (fun f hf => ?_))))))
    · rw [nI_clamp (by omega), tb_sr _ (by omega), hx i hi, h i hi, nI_add, c1]
    · by_cases w : f = i
      · subst w; rw [pk_us]
      · rw [pk_un w, c2 f w]; exact h f hf
theorem xw_or2 {post : Int32 → SX → Prop} {E : Nat → Option Nat} {N : Nat → Nat → Bool} {M : Nat → Bool} {t n s : Nat} {x2 x3 : Int32} (ht : t < 8) (hn : n < 8) (hs : s < 4) (hx : ∀ f, f < 16 → bt x3 f = M f) (hN0 : ∀ f, f < 16 → N t f = false) (hN : tr_xN E N nc) (H : ∀ nc', tr_xN E (tc_ad N t M 16) nc' → post (nI t) (cC, sC, pC, fC, nI (n + 1), mp, wp, ef, nc', ct, so, wk, wc, rn, kp, kc, upd rs t (nI s), upd rp t x2, upd rf t x3, upd ob t (rn s), upd ao n (nI t))) : wX_openRequest_26 post (nI s) x2 x3 (nI t) cC sC pC fC (nI n) mp wp ef nc ct so wk wc rn kp kc rs rp rf ob ao := by
  have hin : vp_in (nI t) 8 := vp_in_nI ht (by omega)
  refine And.intro hin (nm_r (tb_up rs _ (by omega)) (And.intro hin (nm_r (tb_up rp _ (by omega)) (And.intro hin (nm_r (tb_up rf _ (by omega)) (And.intro (vp_in_nI hs (by omega)) (And.intro hin (nm_r (e' := upd ob t (rn s)) (by rw [nI_clamp (by omega), nI_clamp (by omega)]) ?_))))))))
  exact Exists.intro 17 (xw_or6 (post := post) ht hn hx hN0 H 16 0 (by omega) nc (by rw [tc_ad_0]; exact hN))
theorem xw_or3 {post : Int32 → SX → Prop} {t s : Nat} {x2 x3 : Int32} (ht : t < 8) (h0 : ob t = 0) (hj : ∀ j, j < t → ¬ ob j = 0) (H : wX_openRequest_26 post (nI s) x2 x3 (nI t) cC sC pC fC oC mp wp ef nc ct so wk wc rn kp kc rs rp rf ob ao) : ∀ d i, i + d = t → wX_openRequest_3 post (nI s) x2 x3 cC sC pC fC oC mp wp ef nc ct so wk wc rn kp kc rs rp rf ob ao (d + 1) (nI i) := by
  intro d
  induction d with
  | zero =>
    intro i e
    obtain rfl : i = t := by omega
    by_cases z : i = 7
    · exact br_t (nI_le (a := 7) (by omega) (by omega)) H
    · exact br_f (nI_ge (a := i) (b := 7) (by omega) (by decide)) (And.intro (vp_in_nI ht (by omega)) (br_t (by rw [tb_rd ob (by omega)]; exact h0) H))
  | succ d ih =>
    intro i e
    exact br_f (nI_ge (a := i) (b := 7) (by omega) (by decide)) (And.intro (vp_in_nI (by omega) (by omega)) (br_f (by rw [tb_rd ob (by omega)]; exact hj i (by omega)) (nm_r (nI_1 i) (ih (i + 1) (by omega)))))
theorem xw_or {post : Int32 → SX → Prop} {E : Nat → Option Nat} {N : Nat → Nat → Bool} {M : Nat → Bool} {t n s : Nat} {x2 x3 : Int32} (ht : t < 8) (hn : n < 8) (hs : s < 4) (h0 : ob t = 0) (hj : ∀ j, j < t → ¬ ob j = 0) (hx : ∀ f, f < 16 → bt x3 f = M f) (hN0 : ∀ f, f < 16 → N t f = false) (hN : tr_xN E N nc) (H : ∀ nc', tr_xN E (tc_ad N t M 16) nc' → post (nI t) (cC, sC, pC, fC, nI (n + 1), mp, wp, ef, nc', ct, so, wk, wc, rn, kp, kc, upd rs t (nI s), upd rp t x2, upd rf t x3, upd ob t (rn s), upd ao n (nI t))) : wpX_openRequest post (cC, sC, pC, fC, nI n, mp, wp, ef, nc, ct, so, wk, wc, rn, kp, kc, rs, rp, rf, ob, ao) (nI s) x2 x3 :=
  Exists.intro (t + 1) (xw_or3 (post := post) ht h0 hj (xw_or2 ht hn hs hx hN0 hN H) t 0 (by omega))
theorem xw_um_l {post : SX → Prop} {E : Nat → Option Nat} {N : Nat → Nat → Bool} {s : Nat} {A : Nat → Bool} {x2 : Int32} (hs : s < 4) (hx : ∀ q, q < 8 → bt x2 q = A q) (hE : ∀ p, p < 8 → A p = true → ∃ k, k < 32 ∧ E (s * 8 + p) = some k ∧ ef (s * 8 + p) = nI (k / 2)) (H : ∀ nc', tr_xN (tc_um E s A 8) N nc' → post (cC, sC, pC, fC, oC, mp, wp, ef, nc', tc_clr (tc_um E s A 8) N ct, so, wk, wc, rn, kp, kc, rs, rp, rf, ob, ao)) : ∀ d p, p + d = 8 → ∀ nc', tr_xN (tc_um E s A p) N nc' → wX_unmapPages_14 post (nI s) x2 (d + 1) (nI p) cC sC pC fC oC mp wp ef nc' (tc_clr (tc_um E s A p) N ct) so wk wc rn kp kc rs rp rf ob ao := by
  intro d
  induction d with
  | zero =>
    intro p e nc' h
    obtain rfl : p = 8 := by omega
    exact br_t (nI_le (Nat.le_refl 8) (by decide)) (H nc' h)
  | succ d ih =>
    intro p e nc' h
    refine br_f (nI_ge (a := p) (b := 8) (by omega) (by decide)) ?_
    cases z : A p with
    | false =>
      have h1 := ih (p + 1) (by omega) nc' (by rw [tc_um_f z]; exact h)
      rw [tc_um_f z] at h1
      exact br_t (tb_zf (by omega) (by rw [hx p (by omega), z])) (nm_r (nI_1 p) h1)
    | true =>
      obtain ⟨k, hk, e1, e2⟩ := hE p (by omega) z
      have cc := tc_c_rm (E := tc_um E s A p) (E' := tc_um E s A (p + 1)) (N := N) (j := s * 8 + p) (k := k) (by omega) (fun i _ hi => tc_um_n hi) (by rw [tc_um_at (by omega)]; exact e1) (tc_um_t (by omega) z)
      refine br_f (tb_zt (by omega) (by rw [hx p (by omega), z])) (And.intro (tb_in8 (by omega) (by omega)) ?_)
      refine xw_rel (f := k / 2) (m := tc_c (tc_um E s A (p + 1)) N (k / 2)) (ct' := tc_clr (tc_um E s A (p + 1)) N ct) (by rw [tb_rd8 ef (by omega), e2]) (by omega) (by rw [h (k / 2) (by omega), cc.2]) (by have := tc_c_le (tc_um E s A (p + 1)) N (k / 2); omega) (tc_clr_rel (by omega) (fun f _ hf => cc.1 f hf) (by have := cc.2; omega)) ?_
      refine nm_r (nI_1 p) (ih (p + 1) (by omega) _ (fun f hf => ?_))
      by_cases w : f = k / 2
      · subst w; rw [pk_us]
      · rw [pk_un w, cc.1 f w]; exact h f hf
theorem xw_um {post : SX → Prop} {E : Nat → Option Nat} {N : Nat → Nat → Bool} {s : Nat} {A : Nat → Bool} {x2 : Int32} (hs : s < 4) (hx : ∀ q, q < 8 → bt x2 q = A q) (hE : ∀ p, p < 8 → A p = true → ∃ k, k < 32 ∧ E (s * 8 + p) = some k ∧ ef (s * 8 + p) = nI (k / 2)) (hN : tr_xN E N nc) (hF : tr_iF E N ct) (H : ∀ nc', tr_xN (tc_um E s A 8) N nc' → post (cC, sC, pC, fC, oC, upd mp s (mp s &&& (x2 ^^^ (-1))), wp, ef, nc', tc_clr (tc_um E s A 8) N ct, so, wk, wc, rn, kp, kc, rs, rp, rf, ob, ao)) : wpX_unmapPages post (cC, sC, pC, fC, oC, mp, wp, ef, nc, ct, so, wk, wc, rn, kp, kc, rs, rp, rf, ob, ao) (nI s) x2 := by
  refine And.intro (vp_in_nI hs (by omega)) (And.intro (vp_in_nI hs (by omega)) (nm_r (e' := upd mp s (mp s &&& (x2 ^^^ (-1)))) (by rw [nI_clamp (by omega)]) ?_))
  have h0 := xw_um_l (post := post) (E := E) (N := N) (mp := upd mp s (mp s &&& (x2 ^^^ (-1)))) hs hx hE H 8 0 (by omega) nc (by rw [tc_um_0]; exact hN)
  rw [tc_um_0, tc_clr_id hF] at h0
  exact Exists.intro 9 h0
theorem xw_fe_l {post : SX → Prop} {K R : Nat → Option Nat} {s : Nat} (hs : s < 4) (hR : tr_R R so) (hR4 : ∀ c j, c < 4 → R c = some j → j < 2 ^ 31) (H : ∀ kp', tr_xK (tw_K K R s 4) kp' kc → post (cC, sC, pC, fC, oC, mp, wp, ef, nc, ct, so, wk, wc, rn, kp', kc, rs, rp, rf, ob, ao)) : ∀ d c, c + d = 4 → ∀ kp', tr_xK (tw_K K R s c) kp' kc → wX_forgetElsewhere_2 post (nI s) (d + 1) (nI c) cC sC pC fC oC mp wp ef nc ct so wk wc rn kp' kc rs rp rf ob ao := by
  intro d
  induction d with
  | zero =>
    intro c e kp' h
    obtain rfl : c = 4 := by omega
    exact br_t (nI_le (Nat.le_refl 4) (by decide)) (H kp' h)
  | succ d ih =>
    intro c e kp' h
    have hc : c < 4 := by omega
    refine br_f (nI_ge (a := c) (b := 4) hc (by decide)) (And.intro (vp_in_nI hc (by omega)) ?_)
    rw [tb_rd so (by omega), hR c hc]
    by_cases z : R c = some s
    · refine br_t (by rw [z]; rfl) (nm_r (nI_1 c) (ih (c + 1) (by omega) kp' ?_))
      rw [tw_K_f z]
      exact h
    · refine br_f (fun w => z ((tc_o_eq (hR4 c · hc) (by omega)).mp w)) (xw_fg hc hs (nm_r (nI_1 c) (ih (c + 1) (by omega) _ ?_)))
      rw [← tw_K_t hs z, ← tc_kf_c (m := bt 255) (fun p hp => by rw [b_255]; exact decide_eq_true hp)]
      exact tr_xK_f h (c * 4 + s) 255
theorem xw_fe {post : SX → Prop} {K R : Nat → Option Nat} {s : Nat} (hs : s < 4) (hR : tr_R R so) (hR4 : ∀ c j, c < 4 → R c = some j → j < 2 ^ 31) (hK : tr_xK K kp kc) (H : ∀ kp', tr_xK (tw_K K R s 4) kp' kc → post (cC, sC, pC, fC, oC, mp, wp, ef, nc, ct, so, wk, wc, rn, kp', kc, rs, rp, rf, ob, ao)) : wpX_forgetElsewhere post (cC, sC, pC, fC, oC, mp, wp, ef, nc, ct, so, wk, wc, rn, kp, kc, rs, rp, rf, ob, ao) (nI s) :=
  Exists.intro 5 (xw_fe_l (post := post) hs hR hR4 H 4 0 (by omega) kp (by rw [tw_K_0]; exact hK))
theorem xw_wd2 {post : Int32 → SX → Prop} {E K R : Nat → Option Nat} {N : Nat → Nat → Bool} {s a b : Nat} {w : Bool} {x6 x8 : Int32} (hs : s < 4) (hb : b < 8) (hx : ∀ q, bt x6 q = tw_A E s a b w q) (hE : tr_xE E mp wp ef) (iE : tr_iE E) (hN : tr_xN E N nc) (hF : tr_iF E N ct) (hK : tr_xK K kp kc) (hR : tr_R R so) (hR4 : ∀ c j, c < 4 → R c = some j → j < 2 ^ 31) (H : ∀ mp' wp' nc' kp', tr_xE (tw_E E s (tw_A E s a b w) w) mp' wp' ef → tr_xN (tw_E E s (tw_A E s a b w) w) N nc' → tr_xK (tw_K K R s 4) kp' kc → post x8 (cC, sC, pC, fC, oC, mp', wp', ef, nc', tc_clr (tw_E E s (tw_A E s a b w) w) N ct, so, wk, wc, rn, kp', kc, rs, rp, rf, ob, ao)) : wX_withdraw_134 post (nI s) (tc_b w) x6 x8 cC sC pC fC oC mp wp ef nc ct so wk wc rn kp kc rs rp rf ob ao := by
  have hE' := tw_xE (w := w) hE hb hx
  refine And.intro (vp_in_nI hs (by omega)) (And.intro (vp_in_nI hs (by omega)) (nm_r (e' := upd wp s (wp s &&& (x6 ^^^ (-1)))) (by rw [nI_clamp (by omega)]) ?_))
  cases w with
  | false =>
    have c2 : ∀ f, f < 16 → tc_c (tw_E E s (tw_A E s a b false) false) N f = tc_c E N f := fun f _ => tc_c_congr (fun i _ => tw_E_nm) (fun _ _ => rfl)
    refine br_t rfl ?_
    unfold wX_withdraw_159
    refine xw_fe hs hR hR4 hK (fun kp' hk => ?_)
    have h := H mp _ nc kp' hE' (tr_xN_c hN c2) hk
    rw [tc_clr_congr c2, tc_clr_id hF] at h
    exact h
  | true =>
    refine br_f (by decide) ?_
    refine xw_um (E := E) (N := N) (A := tw_A E s a b true) hs (fun q _ => hx q) (fun p hp z => ?_) hN hF (fun nc' hn => ?_)
    · obtain ⟨_, _, k, e⟩ := tw_A_so z
      exact ⟨k, iE _ k (by omega) e, e, hE.2.2.2 _ k (by omega) e⟩
    · rw [tw_E_um] at hn ⊢
      unfold wX_withdraw_159
      exact xw_fe hs hR hR4 hK (fun kp' hk => H _ _ nc' kp' hE' hn hk)
end
end
section
/-! the model's helpers -/
theorem tb_n0 : vp_nar .boolean 0 = 0 := rfl
theorem tb_n1 : vp_nar .boolean 1 = 1 := rfl
theorem tb_nb (b : Bool) : vp_nar .boolean (tc_b b) = tc_b b := by cases b <;> rfl
theorem tr_yK_c {K K' : Nat → Option Nat} {kn : Nat → Int32} (h : tr_yK K kn) (g : ∀ i, i < 128 → K' i = K i) : tr_yK K' kn := fun i hi => by rw [h i hi, g i hi]
section
variable {fc fs fp ff : Int32} {fo : Int64} {en kn ru yk yc yt op qs qf ql : Nat → Int32} {bo : Nat → Int64} {nm ow zh : Nat → Int32}
theorem yw_b_ok {post : Int32 → Prop} {u : SY} {j n : Nat} (h : j < n) (hn : n < 2 ^ 31) (H : post 0) : wpY_bad post u (nI j) (nI n) := by
  obtain ⟨fc, fs, fp, ff, fo, en, kn, ru, yk, yc, yt, op, qs, qf, ql, bo, nm, ow, zh⟩ := u
  exact br_f (nI_pos (by omega)) (br_t (nI_lt h hn) H)
theorem yw_b_no {post : Int32 → Prop} {u : SY} {v : Int32} {n : Nat} (h : ¬ tb_ok v n) (hn : n < 2 ^ 31) (H : post 1) : wpY_bad post u v (nI n) := by
  obtain ⟨fc, fs, fp, ff, fo, en, kn, ru, yk, yc, yt, op, qs, qf, ql, bo, nm, ow, zh⟩ := u
  by_cases z : v < 0
  · exact br_t z H
  · rcases pk_ix v hn with e | e | e
    · exact absurd e z
    · exact br_f z (br_f (Int32.not_lt.mpr e) H)
    · exact absurd e h
theorem yw_en_b {post : Int32 → Prop} {S P : Nat} {v w : Int32} (h : ¬ (tb_ok v S ∧ tb_ok w P)) (hS : S ≤ 4) (hP : P ≤ 8) (H : post (-1)) : wpY_entry post (fc, nI S, nI P, ff, fo, en, kn, ru, yk, yc, yt, op, qs, qf, ql, bo, nm, ow, zh) v w := by
  unfold wpY_entry
  by_cases e : tb_ok v S
  · obtain ⟨s, hs, rfl⟩ := e
    refine yw_b_ok hs (by omega) (br_t rfl ?_)
    exact yw_b_no (fun z => h ⟨⟨s, hs, rfl⟩, z⟩) (by omega) (br_f (by decide) H)
  · exact yw_b_no e (by omega) (br_f (by decide) H)
theorem yw_en_n {post : Int32 → Prop} {E : Nat → Option Nat} {S P s p : Nat} (hE : tr_yE E en) (hs : s < S) (hS : S ≤ 4) (hp : p < P) (hP : P ≤ 8) (e : E (s * 8 + p) = none) (H : post (-3)) : wpY_entry post (fc, nI S, nI P, ff, fo, en, kn, ru, yk, yc, yt, op, qs, qf, ql, bo, nm, ow, zh) (nI s) (nI p) := by
  unfold wpY_entry
  refine yw_b_ok hs (by omega) (br_t rfl ?_)
  refine yw_b_ok hp (by omega) (br_t rfl (And.intro (tb_in8 (by omega) (by omega)) (br_f ?_ H)))
  rw [tb_rd8 en (by omega), hE _ (by omega), e]
  decide
theorem yw_en_s {post : Int32 → Prop} {E : Nat → Option Nat} {S P s p k : Nat} (hE : tr_yE E en) (iE : tr_iE E) (hs : s < S) (hS : S ≤ 4) (hp : p < P) (hP : P ≤ 8) (e : E (s * 8 + p) = some k) (H : post (nI k)) : wpY_entry post (fc, nI S, nI P, ff, fo, en, kn, ru, yk, yc, yt, op, qs, qf, ql, bo, nm, ow, zh) (nI s) (nI p) := by
  have hk : k < 32 := iE _ k (by omega) e
  unfold wpY_entry
  refine yw_b_ok hs (by omega) (br_t rfl ?_)
  refine yw_b_ok hp (by omega) (br_t rfl (And.intro (tb_in8 (by omega) (by omega)) ?_))
  rw [tb_rd8 en (by omega), hE _ (by omega), e]
  exact br_t (nI_pos' (by omega)) (And.intro (tb_in8 (by omega) (by omega)) H)
theorem yw_fr9 {post : Int32 → Prop} {D N : Nat → Nat → Bool} {f : Nat} (hO : tr_yO D op) (hN : tr_yN N nm) (iN : tr_iN D N) (hf : f < 16) : ∀ d t, t + d = 8 → ((∀ j, t ≤ j → j < 8 → N j f = false) → post 1) → ((∃ j, t ≤ j ∧ j < 8 ∧ N j f = true) → post 0) → wY_isFree_39 post (nI f) fc fs fp ff fo en kn ru yk yc yt op qs qf ql bo nm ow zh (d + 1) (nI t) := by
  intro d
  induction d with
  | zero =>
    intro t e H _
    obtain rfl : t = 8 := by omega
    exact br_t (nI_le (Nat.le_refl 8) (by decide)) (H (fun j h1 h2 => by omega))
  | succ d ih =>
    intro t e H1 H0
    have ht : t < 8 := by omega
    refine br_f (nI_ge (a := t) (b := 8) ht (by decide)) (And.intro (vp_in_nI ht (by omega)) ?_)
    have go : N t f = false → wY_isFree_39 post (nI f) fc fs fp ff fo en kn ru yk yc yt op qs qf ql bo nm ow zh (d + 1) (nI (t + 1)) := fun z => ih (t + 1) (by omega) (fun h => H1 (fun j h1 h2 => by
      by_cases w : j = t
      · rw [w]; exact z
      · exact h j (by omega) h2)) (fun ⟨j, h1, h2, h3⟩ => H0 ⟨j, by omega, h2, h3⟩)
    rw [tb_rd op (by omega), hO t ht]
    cases z : tc_an (D t) with
    | false =>
      refine br_t rfl (nm_r (nI_1 t) (go ?_))
      cases w : N t f with
      | false => rfl
      | true => rw [iN t f ht hf w] at z; cases z
    | true =>
      refine br_f (by decide) (And.intro (tb_in16 (by omega) (by omega)) ?_)
      rw [tb_rd16 nm (by omega), hN t f ht hf]
      cases w : N t f with
      | false => exact br_t rfl (nm_r (nI_1 t) (go w))
      | true => exact br_f (by decide) (H0 ⟨t, Nat.le_refl t, ht, w⟩)
theorem yw_fr2 {post : Int32 → Prop} {E : Nat → Option Nat} {f : Nat} (hE : tr_yE E en) (iE : tr_iE E) (hf : f < 16) : ∀ d i, i + d = 32 → ((∀ j, i ≤ j → j < 32 → tc_nm (E j) f = false) → ∃ n, wY_isFree_39 post (nI f) fc fs fp ff fo en kn ru yk yc yt op qs qf ql bo nm ow zh n 0) → ((∃ j, i ≤ j ∧ j < 32 ∧ tc_nm (E j) f = true) → post 0) → wY_isFree_2 post (nI f) fc fs fp ff fo en kn ru yk yc yt op qs qf ql bo nm ow zh (d + 1) (nI i) := by
  intro d
  induction d with
  | zero =>
    intro i e H _
    obtain rfl : i = 32 := by omega
    exact br_t (nI_le (Nat.le_refl 32) (by decide)) (H (fun j h1 h2 => by omega))
  | succ d ih =>
    intro i e H1 H0
    have hi : i < 32 := by omega
    refine br_f (nI_ge (a := i) (b := 32) hi (by decide)) (And.intro (vp_in_nI hi (by omega)) ?_)
    have go : tc_nm (E i) f = false → wY_isFree_2 post (nI f) fc fs fp ff fo en kn ru yk yc yt op qs qf ql bo nm ow zh (d + 1) (nI (i + 1)) := fun z => ih (i + 1) (by omega) (fun h => H1 (fun j h1 h2 => by
      by_cases w : j = i
      · rw [w]; exact z
      · exact h j (by omega) h2)) (fun ⟨j, h1, h2, h3⟩ => H0 ⟨j, by omega, h2, h3⟩)
    rw [tb_rd en (by omega), hE i hi]
    cases z : E i with
    | none =>
      refine br_t (by decide) (nm_r (nI_1 i) (go ?_))
      rw [z]; rfl
    | some k =>
      have hk : k < 32 := iE i k hi z
      refine br_f (nI_pos (by omega)) (And.intro (vp_in_nI hi (by omega)) (And.intro (by decide) ?_))
      rw [tc_o_s, tb_d2 (by omega)]
      by_cases w : k / 2 = f
      · exact br_t (congrArg nI w) (H0 ⟨i, Nat.le_refl i, hi, by rw [z]; exact tc_nm_s.mpr w⟩)
      · refine br_f (fun y => w ((nI_eq (by omega) (by omega)).mp y)) (nm_r (nI_1 i) (go ?_))
        rw [z]; exact decide_eq_false w
theorem yw_fr_t {post : Int32 → Prop} {E : Nat → Option Nat} {D N : Nat → Nat → Bool} {f : Nat} (hE : tr_yE E en) (iE : tr_iE E) (hO : tr_yO D op) (hN : tr_yN N nm) (iN : tr_iN D N) (hf : f < 16) (z : tc_c E N f = 0) (H : post 1) : wpY_isFree post (fc, fs, fp, ff, fo, en, kn, ru, yk, yc, yt, op, qs, qf, ql, bo, nm, ow, zh) (nI f) := by
  have z2 := tc_c_0.mp z
  refine Exists.intro 33 (yw_fr2 (post := post) hE iE hf 32 0 (by omega) (fun _ => ⟨9, yw_fr9 (post := post) hO hN iN hf 8 0 (by omega) (fun _ => H) (fun ⟨j, _, h2, h3⟩ => ?_)⟩) (fun ⟨j, _, h2, h3⟩ => ?_))
  · rw [z2.2 j h2] at h3; cases h3
  · rw [z2.1 j h2] at h3; cases h3
theorem yw_fr_f {post : Int32 → Prop} {E : Nat → Option Nat} {D N : Nat → Nat → Bool} {f : Nat} (hE : tr_yE E en) (iE : tr_iE E) (hO : tr_yO D op) (hN : tr_yN N nm) (iN : tr_iN D N) (hf : f < 16) (z : ¬ tc_c E N f = 0) (H : post 0) : wpY_isFree post (fc, fs, fp, ff, fo, en, kn, ru, yk, yc, yt, op, qs, qf, ql, bo, nm, ow, zh) (nI f) :=
  Exists.intro 33 (yw_fr2 (post := post) hE iE hf 32 0 (by omega) (fun h1 => ⟨9, yw_fr9 (post := post) hO hN iN hf 8 0 (by omega) (fun h2 => absurd (tc_c_0.mpr ⟨fun i hi => h1 i (by omega) hi, fun s hs => h2 s (by omega) hs⟩) z) (fun _ => H)⟩) (fun _ => H))
def tc_clp (E : Nat → Option Nat) (N : Nat → Nat → Bool) (ct : Nat → Int32) (n : Nat) : Nat → Int32 := fun f => if f < n ∧ tc_c E N f = 0 then 0 else ct f
theorem yw_cf_l {post : SY → Prop} {E : Nat → Option Nat} {D N : Nat → Nat → Bool} (hE : tr_yE E en) (iE : tr_iE E) (hO : tr_yO D op) (hN : tr_yN N nm) (iN : tr_iN D N) (H : post (fc, fs, fp, ff, fo, en, kn, ru, yk, yc, tc_clr E N yt, op, qs, qf, ql, bo, nm, ow, zh)) : ∀ d f, f + d = 16 → wY_clearFree_2 post fc fs fp ff fo (d + 1) (nI f) en kn ru yk yc (tc_clp E N yt f) op qs qf ql bo nm ow zh := by
  intro d
  induction d with
  | zero =>
    intro f e
    obtain rfl : f = 16 := by omega
    exact br_t (nI_le (Nat.le_refl 16) (by decide)) H
  | succ d ih =>
    intro f e
    have hf : f < 16 := by omega
    refine br_f (nI_ge (a := f) (b := 16) hf (by decide)) ?_
    by_cases z : tc_c E N f = 0
    · have e2 : upd (tc_clp E N yt f) f 0 = tc_clp E N yt (f + 1) := by
        funext g
        unfold upd tc_clp
        by_cases w : g = f
        · rw [if_pos w, if_pos ⟨by omega, by rw [w]; exact z⟩]
        · rw [if_neg w]
          by_cases y : g < f ∧ tc_c E N g = 0
          · rw [if_pos y, if_pos ⟨by omega, y.2⟩]
          · rw [if_neg y]
            exact (if_neg (fun v => y ⟨by omega, v.2⟩)).symm
      refine yw_fr_t hE iE hO hN iN hf z (br_f (by decide) (And.intro (vp_in_nI hf (by omega)) (nm_r (e' := tc_clp E N yt (f + 1)) (by rw [nI_clamp (by omega), e2]) (nm_r (nI_1 f) (ih (f + 1) (by omega))))))
    · have e2 : tc_clp E N yt f = tc_clp E N yt (f + 1) := by
        funext g
        unfold tc_clp
        by_cases y : g < f ∧ tc_c E N g = 0
        · rw [if_pos y, if_pos ⟨by omega, y.2⟩]
        · rw [if_neg y]
          refine (if_neg (fun v => y ⟨?_, v.2⟩)).symm
          have : g ≠ f := fun w => by rw [w] at v; exact z v.2
          omega
      refine yw_fr_f hE iE hO hN iN hf z (br_t rfl (nm_r (nI_1 f) ?_))
      rw [e2]
      exact ih (f + 1) (by omega)
theorem yw_cf {post : SY → Prop} {E : Nat → Option Nat} {D N : Nat → Nat → Bool} (hE : tr_yE E en) (iE : tr_iE E) (hO : tr_yO D op) (hN : tr_yN N nm) (iN : tr_iN D N) (H : post (fc, fs, fp, ff, fo, en, kn, ru, yk, yc, tc_clr E N yt, op, qs, qf, ql, bo, nm, ow, zh)) : wpY_clearFree post (fc, fs, fp, ff, fo, en, kn, ru, yk, yc, yt, op, qs, qf, ql, bo, nm, ow, zh) := by
  have h := yw_cf_l (post := post) (yt := yt) hE iE hO hN iN H 16 0 (by omega)
  have e : tc_clp E N yt 0 = yt := by
    funext g
    exact if_neg (fun v => by omega)
  rw [e] at h
  exact Exists.intro 17 h
def tw_bs (D : Nat → Nat → Bool) (B : Nat → Nat) (c best t : Nat) : Prop := (best = 8 ∧ ∀ j, j < t → D j c = false) ∨ (best < 8 ∧ D best c = true ∧ ∀ j, j < t → D j c = true → B best ≤ B j)
theorem tw_bs_f {D : Nat → Nat → Bool} {B : Nat → Nat} {c best t : Nat} (h : tw_bs D B c best t) (z : D t c = false) : tw_bs D B c best (t + 1) := by
  rcases h with ⟨h1, h2⟩ | ⟨h1, h2, h3⟩
  · refine Or.inl ⟨h1, fun j hj => ?_⟩
    by_cases w : j = t
    · rw [w]; exact z
    · exact h2 j (by omega)
  · refine Or.inr ⟨h1, h2, fun j hj g => ?_⟩
    by_cases w : j = t
    · rw [w, z] at g; cases g
    · exact h3 j (by omega) g
theorem yw_ol_l {post : Int32 → Prop} {D : Nat → Nat → Bool} {L : List Nat} {B : Nat → Nat} {c o : Nat} (hO : tr_yO D op) (hD : tr_yD D ow) (hB : tr_yB L B bo) (iL : tr_iL L D) (iB : tr_iB L B o) (ho : o < 2 ^ 31) (hc : c < 4) (H : post (nI ((L.find? (fun t => D t c)).getD 8))) : ∀ d t, t + d = 8 → ∀ best, tw_bs D B c best t → wY_oldest_5 post (nI c) fc fs fp ff fo en kn ru yk yc yt op qs qf ql bo nm ow zh (d + 1) (nI best) (nI t) := by
  have mm : ∀ s, s < 8 → D s c = true → s ∈ L := fun s hs g => (iL.2 s).mpr ⟨hs, tc_an_t.mpr ⟨c, hc, g⟩⟩
  intro d
  induction d with
  | zero =>
    intro t e best h
    obtain rfl : t = 8 := by omega
    have e2 : best = (L.find? (fun t => D t c)).getD 8 := by
      cases z : L.find? (fun t => D t c) with
      | none =>
        rcases h with ⟨h1, _⟩ | ⟨h1, h2, _⟩
        · exact h1
        · rw [tc_no iL hc z best h1] at h2; cases h2
      | some x =>
        have hx := tc_yes iL z
        rcases h with ⟨_, h1⟩ | ⟨h1, h2, h3⟩
        · rw [h1 x hx.2.1] at hx; cases hx.2.2
        · rcases tl_find iB.1 z best (mm best h1 h2) h2 with w | w
          · exact w
          · have := h3 x hx.2.1 hx.2.2
            omega
    rw [← e2] at H
    exact br_t (nI_le (Nat.le_refl 8) (by decide)) H
  | succ d ih =>
    intro t e best h
    have ht : t < 8 := by omega
    refine br_f (nI_ge (a := t) (b := 8) ht (by decide)) (And.intro (vp_in_nI ht (by omega)) ?_)
    rw [tb_rd op (by omega), hO t ht]
    cases z : tc_an (D t) with
    | false => exact br_t rfl (nm_r (nI_1 t) (ih (t + 1) (by omega) best (tw_bs_f h (tc_an_f.mp z c hc))))
    | true =>
      refine br_f (by decide) (And.intro (tb_in4 (by omega) (by omega)) ?_)
      rw [tb_rd4 ow (by omega), hD t c ht hc]
      cases w : D t c with
      | false => exact br_t rfl (nm_r (nI_1 t) (ih (t + 1) (by omega) best (tw_bs_f h w)))
      | true =>
        refine br_f (by decide) ?_
        rcases h with ⟨h1, h2⟩ | ⟨h1, h2, h3⟩
        · subst h1
          refine br_t rfl (nm_r (nI_1 t) (ih (t + 1) (by omega) t (Or.inr ⟨ht, w, fun j hj g => ?_⟩)))
          by_cases y : j = t
          · rw [y]; exact Nat.le_refl _
          · rw [h2 j (by omega)] at g; cases g
        · have b1 : bo best = lN (B best) := hB best (mm best h1 h2)
          have b2 : bo t = lN (B t) := hB t (mm t ht w)
          have l1 := iB.2 best (mm best h1 h2)
          have l2 := iB.2 t (mm t ht w)
          refine br_f (fun y => by have := (nI_eq (a := best) (b := 8) (by omega) (by omega)).mp y; omega) (And.intro (vp_in_nI ht (by omega)) (And.intro (vp_in_nI h1 (by omega)) ?_))
          rw [nI_clamp (n := best) (by omega), nI_clamp (n := t) (by omega), b1, b2, lN_le (by omega) (by omega)]
          refine br_c (fun y => nm_r (nI_1 t) (ih (t + 1) (by omega) best (Or.inr ⟨h1, h2, fun j hj g => ?_⟩))) (fun y => nm_r (nI_1 t) (ih (t + 1) (by omega) t (Or.inr ⟨ht, w, fun j hj g => ?_⟩)))
          · by_cases v : j = t
            · rw [v]; exact y
            · exact h3 j (by omega) g
          · by_cases v : j = t
            · rw [v]; exact Nat.le_refl _
            · have := h3 j (by omega) g; omega
theorem yw_ol {post : Int32 → Prop} {D : Nat → Nat → Bool} {L : List Nat} {B : Nat → Nat} {c o : Nat} (hO : tr_yO D op) (hD : tr_yD D ow) (hB : tr_yB L B bo) (iL : tr_iL L D) (iB : tr_iB L B o) (ho : o < 2 ^ 31) (hc : c < 4) (H : post (nI ((L.find? (fun t => D t c)).getD 8))) : wpY_oldest post (fc, fs, fp, ff, fo, en, kn, ru, yk, yc, yt, op, qs, qf, ql, bo, nm, ow, zh) (nI c) :=
  Exists.intro 9 (yw_ol_l (post := post) hO hD hB iL iB ho hc H 8 0 (by omega) 8 (Or.inl ⟨rfl, fun j hj => by omega⟩))
end
end
section
/-! the model's loops over requests -/
theorem tr_yD_dk {D : Nat → Nat → Bool} {ow : Nat → Int32} (h : tr_yD D ow) {c t : Nat} (hc : c < 4) : tr_yD (tc_dk D c t) (upd ow (t * 4 + c) 0) := by
  intro s b hs hb
  by_cases e : s = t ∧ b = c
  · obtain ⟨rfl, rfl⟩ := e
    rw [pk_us, tc_dk_t]; rfl
  · rw [tc_dk_n e, pk_un (fun z => e (by omega)), h s b hs hb]
section
variable {fc fs fp ff : Int32} {fo : Int64} {en kn ru yk yc yt op qs qf ql : Nat → Int32} {bo : Nat → Int64} {nm ow zh : Nat → Int32}
theorem yw_ak9 {post : SY → Prop} {E : Nat → Option Nat} {D N : Nat → Nat → Bool} {t : Nat} (ht : t < 8) (hE : tr_yE E en) (iE : tr_iE E) (hO : tr_yO D op) (iN : tr_iN D (tc_cl N t 16)) (H : ∀ nm', tr_yN (tc_cl N t 16) nm' → post (fc, fs, fp, ff, fo, en, kn, ru, yk, yc, tc_clr E (tc_cl N t 16) yt, op, qs, qf, ql, bo, nm', ow, zh)) : ∀ d i, i + d = 16 → ∀ nm', tr_yN (tc_cl N t i) nm' → wY_acknowledge_59 post (nI t) fc fs fp ff fo (d + 1) (nI i) en kn ru yk yc yt op qs qf ql bo nm' ow zh := by
  intro d
  induction d with
  | zero =>
    intro i e nm' h
    obtain rfl : i = 16 := by omega
    refine br_t (nI_le (Nat.le_refl 16) (by decide)) ?_
    exact yw_cf hE iE hO h iN (H nm' h)
  | succ d ih =>
    intro i e nm' h
    have hi : i < 16 := by omega
    refine br_f (nI_ge (a := i) (b := 16) hi (by decide)) (And.intro (tb_in16 (by omega) (by omega)) (nm_r (e' := upd nm' (t * 16 + i) 0) (by rw [tb_n0, tb_up16 _ _ (by omega)]) (nm_r (nI_1 i) (ih (i + 1) (by omega) _ (fun s f hs hf => ?_)))))
    by_cases w : s = t ∧ f = i
    · obtain ⟨rfl, rfl⟩ := w
      rw [pk_us, tc_cl_t]; rfl
    · rw [tc_cl_n w, pk_un (fun z => w (by omega)), h s f hs hf]
theorem yw_ak6 {post : SY → Prop} {D : Nat → Nat → Bool} {t : Nat} (ht : t < 8) (hD : tr_yD D ow) (H1 : tc_an (D t) = true → post (fc, fs, fp, ff, fo, en, kn, ru, yk, yc, yt, op, qs, qf, ql, bo, nm, ow, zh)) (H0 : tc_an (D t) = false → ∃ n, wY_acknowledge_59 post (nI t) fc fs fp ff fo n 0 en kn ru yk yc yt (upd op t 0) qs qf ql bo nm ow zh) : ∀ d b, b + d = 4 → ∀ g : Bool, (g = true → tc_an (D t) = true) → (g = false → ∀ j, j < b → D t j = false) → wY_acknowledge_16 post (nI t) fc fs fp ff fo en kn ru yk yc yt op qs qf ql bo nm ow zh (d + 1) (tc_b g) (nI b) := by
  intro d
  induction d with
  | zero =>
    intro b e g h1 h0
    obtain rfl : b = 4 := by omega
    refine br_t (nI_le (Nat.le_refl 4) (by decide)) ?_
    cases g with
    | true => exact br_f (by decide) (H1 (h1 rfl))
    | false => exact br_t rfl (And.intro (vp_in_nI ht (by omega)) (nm_r (e' := upd op t 0) (by rw [tb_n0, tb_up _ _ (by omega)]) (H0 (tc_an_f.mpr (h0 rfl)))))
  | succ d ih =>
    intro b e g h1 h0
    have hb : b < 4 := by omega
    refine br_f (nI_ge (a := b) (b := 4) hb (by decide)) (And.intro (tb_in4 (by omega) (by omega)) ?_)
    rw [tb_rd4 ow (by omega), hD t b ht hb]
    cases w : D t b with
    | false =>
      refine br_t rfl (nm_r (nI_1 b) (ih (b + 1) (by omega) g h1 (fun z j hj => ?_)))
      by_cases y : j = b
      · rw [y]; exact w
      · exact h0 z j (by omega)
    | true => exact br_f (by decide) (nm_r (nI_1 b) (ih (b + 1) (by omega) true (fun _ => tc_an_t.mpr ⟨b, hb, w⟩) (fun z => by cases z)))
theorem yw_ak {post : SY → Prop} {E : Nat → Option Nat} {D N : Nat → Nat → Bool} {c t : Nat} (hc : c < 4) (ht : t < 8) (hE : tr_yE E en) (iE : tr_iE E) (hO : tr_yO D op) (hD : tr_yD D ow) (hN : tr_yN N nm) (hF : tr_iF E N yt) (iN : tr_iN D N) (H : ∀ op' nm' ow', tr_yO (tc_dk D c t) op' → tr_yN (tc_nv (tc_dk D c t) N) nm' → tr_yD (tc_dk D c t) ow' → post (fc, fs, fp, ff, fo, en, kn, ru, yk, yc, tc_clr E (tc_nv (tc_dk D c t) N) yt, op', qs, qf, ql, bo, nm', ow', zh)) : wpY_acknowledge post (fc, fs, fp, ff, fo, en, kn, ru, yk, yc, yt, op, qs, qf, ql, bo, nm, ow, zh) (nI c) (nI t) := by
  have hD' := tr_yD_dk (t := t) hD hc
  refine And.intro (tb_in4 (by omega) (by omega)) (nm_r (e' := upd ow (t * 4 + c) 0) (by rw [tb_n0, tb_up4 _ _ (by omega)]) ?_)
  refine Exists.intro 5 (yw_ak6 (post := post) ht hD' (fun z => ?_) (fun z => ?_) 4 0 (by omega) false (fun y => by cases y) (fun _ j hj => by omega))
  · have c2 : ∀ f, f < 16 → tc_c E (tc_nv (tc_dk D c t) N) f = tc_c E N f := fun f hf => tc_c_congr (fun _ _ => rfl) (fun s hs => tc_nv_k iN z hs hf)
    have h := H op nm _ (fun s hs => ?_) (fun s f hs hf => by rw [tc_nv_k iN z hs hf]; exact hN s f hs hf) hD'
    · rw [tc_clr_congr c2, tc_clr_id hF] at h
      exact h
    · rw [hO s hs]
      by_cases w : s = t
      · rw [w, z]
        have : tc_an (D t) = true := tc_sub_an tc_sub_dk z
        rw [this]
      · rw [tc_dk_an w]
  · have hO' : tr_yO (tc_dk D c t) (upd op t 0) := by
      intro s hs
      by_cases w : s = t
      · rw [w, pk_us, z]; rfl
      · rw [pk_un w, tc_dk_an w, hO s hs]
    have iN' : tr_iN (tc_dk D c t) (tc_cl N t 16) := by
      intro s f hs hf h
      unfold tc_cl at h
      by_cases w : s = t
      · rw [if_pos ⟨w, hf⟩] at h; cases h
      · rw [if_neg (fun v => w v.1)] at h
        rw [tc_dk_an w]
        exact iN s f hs hf h
    have c2 : ∀ f, f < 16 → tc_c E (tc_nv (tc_dk D c t) N) f = tc_c E (tc_cl N t 16) f := fun f hf => tc_c_congr (fun _ _ => rfl) (fun s hs => tc_nv_c iN z hs hf)
    refine ⟨17, yw_ak9 (post := post) ht hE iE hO' iN' (fun nm' h => ?_) 16 0 (by omega) nm (by rw [tc_cl_0]; exact hN)⟩
    have h2 := H (upd op t 0) nm' _ hO' (fun s f hs hf => by rw [tc_nv_c iN z hs hf]; exact h s f hs hf) hD'
    rw [tc_clr_congr c2] at h2
    exact h2
theorem yw_fg_l {post : SY → Prop} {K : Nat → Option Nat} {c s a b : Nat} (hc : c < 4) (hs : s < 4) (ha : a < 2 ^ 31) (hb : b < 2 ^ 31) (H : ∀ kn', tr_yK (tc_kf K (c * 4 + s) (fun p => decide (a ≤ p ∧ p ≤ b))) kn' → post (fc, fs, fp, ff, fo, en, kn', ru, yk, yc, yt, op, qs, qf, ql, bo, nm, ow, zh)) : ∀ d p, p + d = 8 → ∀ kn', tr_yK (tc_kf K (c * 4 + s) (fun q => decide (q < p) && decide (a ≤ q ∧ q ≤ b))) kn' → wY_forget_3 post (nI c) (nI s) (nI a) (nI b) fc fs fp ff fo (d + 1) (nI p) en kn' ru yk yc yt op qs qf ql bo nm ow zh := by
  intro d
  induction d with
  | zero =>
    intro p e kn' h
    obtain rfl : p = 8 := by omega
    refine br_t (nI_le (Nat.le_refl 8) (by decide)) (H kn' ?_)
    rw [tc_kf_c (m' := fun q => decide (q < 8) && decide (a ≤ q ∧ q ≤ b)) (fun q hq => by rw [decide_eq_true hq]; rfl)]
    exact h
  | succ d ih =>
    intro p e kn' h
    have hp : p < 8 := by omega
    refine br_f (nI_ge (a := p) (b := 8) hp (by decide)) ?_
    have go : ¬ (a ≤ p ∧ p ≤ b) → wY_forget_3 post (nI c) (nI s) (nI a) (nI b) fc fs fp ff fo (d + 1) (nI (p + 1)) en kn' ru yk yc yt op qs qf ql bo nm ow zh := fun z => ih (p + 1) (by omega) kn' (by
      rw [tc_kf_c (m' := fun q => decide (q < p) && decide (a ≤ q ∧ q ≤ b)) (fun q hq => ?_)]
      · exact h
      · show (decide (q < p + 1) && decide (a ≤ q ∧ q ≤ b)) = (decide (q < p) && decide (a ≤ q ∧ q ≤ b))
        by_cases w : q = p
        · rw [w, decide_eq_false z, Bool.and_false, Bool.and_false]
        · rw [decide_eq_decide.mpr (show q < p + 1 ↔ q < p from by omega)])
    by_cases z1 : p < a
    · exact br_t (nI_lt z1 ha) (nm_r (nI_1 p) (go (by omega)))
    · refine br_f (nI_nlt (by omega) (by omega)) ?_
      by_cases z2 : b < p
      · exact br_t (nI_lt z2 (by omega)) (nm_r (nI_1 p) (go (by omega)))
      · refine br_f (nI_nlt (by omega) hb) (And.intro (tb_in48 (by omega) (by omega)) (nm_r (tb_up48 kn' _ (by omega)) (nm_r (nI_1 p) (ih (p + 1) (by omega) _ ?_))))
        refine tr_yK_c (tr_yK_u h ((c * 4 + s) * 8 + p) none) (fun i _ => ?_)
        by_cases w : i = (c * 4 + s) * 8 + p
        · have y : (decide (p < p + 1) && decide (a ≤ p ∧ p ≤ b)) = true := by
            rw [decide_eq_true (p := p < p + 1) (by omega), decide_eq_true (p := a ≤ p ∧ p ≤ b) (by omega)]; rfl
          rw [w, tc_us, tc_kf_sp hp]
          exact if_pos ⟨rfl, y⟩
        · rw [tc_un w]
          unfold tc_kf
          by_cases y : i / 8 = c * 4 + s
          · simp only [show decide (i % 8 < p + 1) = decide (i % 8 < p) from decide_eq_decide.mpr (by omega)]
          · rw [if_neg (fun v => y v.1), if_neg (fun v => y v.1)]
theorem yw_fg {post : SY → Prop} {K : Nat → Option Nat} {c s a b : Nat} (hc : c < 4) (hs : s < 4) (ha : a < 2 ^ 31) (hb : b < 2 ^ 31) (hK : tr_yK K kn) (H : ∀ kn', tr_yK (tc_kf K (c * 4 + s) (fun p => decide (a ≤ p ∧ p ≤ b))) kn' → post (fc, fs, fp, ff, fo, en, kn', ru, yk, yc, yt, op, qs, qf, ql, bo, nm, ow, zh)) : wpY_forget post (fc, fs, fp, ff, fo, en, kn, ru, yk, yc, yt, op, qs, qf, ql, bo, nm, ow, zh) (nI c) (nI s) (nI a) (nI b) := by
  refine Exists.intro 9 (yw_fg_l (post := post) hc hs ha hb H 8 0 (by omega) kn ?_)
  refine tr_yK_c hK (fun i _ => ?_)
  exact if_neg (fun v => by have := (Bool.and_eq_true_iff.mp v.2).1; have := of_decide_eq_true this; omega)
theorem yw_lv_l {post : SY → Prop} {E : Nat → Option Nat} {D N : Nat → Nat → Bool} {c : Nat} (hc : c < 4) (hE : tr_yE E en) (iE : tr_iE E) (H : ∀ op' nm' ow', tr_yO (tc_da D c 8) op' → tr_yN (tc_nv (tc_da D c 8) N) nm' → tr_yD (tc_da D c 8) ow' → post (fc, fs, fp, ff, fo, en, kn, ru, yk, yc, tc_clr E (tc_nv (tc_da D c 8) N) yt, op', qs, qf, ql, bo, nm', ow', zh)) : ∀ d t, t + d = 8 → ∀ op' nm' ow', tr_yO (tc_da D c t) op' → tr_yN (tc_nv (tc_da D c t) N) nm' → tr_yD (tc_da D c t) ow' → wY_leave_33 post (nI c) (d + 1) (nI t) fc fs fp ff fo en kn ru yk yc (tc_clr E (tc_nv (tc_da D c t) N) yt) op' qs qf ql bo nm' ow' zh := by
  intro d
  induction d with
  | zero =>
    intro t e op' nm' ow' h1 h2 h3
    obtain rfl : t = 8 := by omega
    exact br_t (nI_le (Nat.le_refl 8) (by decide)) (H op' nm' ow' h1 h2 h3)
  | succ d ih =>
    intro t e op' nm' ow' h1 h2 h3
    have ht : t < 8 := by omega
    refine br_f (nI_ge (a := t) (b := 8) ht (by decide)) (And.intro (vp_in_nI ht (by omega)) ?_)
    have go : D t c = false → wY_leave_33 post (nI c) (d + 1) (nI (t + 1)) fc fs fp ff fo en kn ru yk yc (tc_clr E (tc_nv (tc_da D c t) N) yt) op' qs qf ql bo nm' ow' zh := fun z => by
      have h := ih (t + 1) (by omega) op' nm' ow'
      rw [tc_da_f z] at h
      exact h h1 h2 h3
    rw [tb_rd op' (by omega), h1 t ht]
    cases z : tc_an (tc_da D c t t) with
    | false =>
      refine br_t rfl (nm_r (nI_1 t) (go ?_))
      rw [← tc_da_at (D := D) (c := c) (n := t)]
      exact tc_an_f.mp z c hc
    | true =>
      refine br_f (by decide) (And.intro (tb_in4 (by omega) (by omega)) ?_)
      rw [tb_rd4 ow' (by omega), h3 t c ht hc, tc_da_at]
      cases w : D t c with
      | false => exact br_t rfl (nm_r (nI_1 t) (go w))
      | true =>
        refine br_f (by decide) ?_
        have s1 : tc_sub (tc_da D c (t + 1)) (tc_da D c t) := by rw [← tc_da_t]; exact tc_sub_dk
        refine yw_ak hc ht hE iE h1 h3 h2 tc_clr_ok tr_iN_s (fun op2 nm2 ow2 g1 g2 g3 => ?_)
        rw [tc_da_t] at g1 g3
        rw [tc_da_t, tc_nv_nv s1] at g2
        rw [tc_da_t, tc_nv_nv s1, tc_clr_clr (fun f _ => tc_c_mono (fun _ _ w => w) (fun s hs w => by
          have w2 := Bool.and_eq_true_iff.mp w
          exact Bool.and_eq_true_iff.mpr ⟨w2.1, tc_sub_an s1 w2.2⟩))]
        exact nm_r (nI_1 t) (ih (t + 1) (by omega) op2 nm2 ow2 g1 g2 g3)
theorem yw_lv0 {post : SY → Prop} {E : Nat → Option Nat} {D N : Nat → Nat → Bool} {c : Nat} (hc : c < 4) (hE : tr_yE E en) (iE : tr_iE E) (hO : tr_yO D op) (hD : tr_yD D ow) (hN : tr_yN N nm) (hF : tr_iF E N yt) (iN : tr_iN D N) (H : ∀ op' nm' ow', tr_yO (tc_da D c 8) op' → tr_yN (tc_nv (tc_da D c 8) N) nm' → tr_yD (tc_da D c 8) ow' → post (fc, fs, fp, ff, fo, en, kn, ru, yk, yc, tc_clr E (tc_nv (tc_da D c 8) N) yt, op', qs, qf, ql, bo, nm', ow', zh)) : ∃ n, wY_leave_33 post (nI c) n 0 fc fs fp ff fo en kn ru yk yc yt op qs qf ql bo nm ow zh := by
  have c2 : ∀ f, f < 16 → tc_c E (tc_nv D N) f = tc_c E N f := fun f hf => tc_c_congr (fun _ _ => rfl) (fun s hs => tc_nv_id iN hs hf)
  have h := yw_lv_l (post := post) (yt := yt) hc hE iE H 8 0 (by omega) op nm ow
  rw [tc_da_0, tc_clr_congr c2, tc_clr_id hF] at h
  exact ⟨9, h hO (fun s f hs hf => by rw [tc_nv_id iN hs hf]; exact hN s f hs hf) hD⟩
theorem yw_lv {post : SY → Prop} {E K : Nat → Option Nat} {D N : Nat → Nat → Bool} {L : List Nat} {B : Nat → Nat} {c s o : Nat} (hc : c < 4) (hs : s < 4) (hru : ru c = nI s) (hE : tr_yE E en) (iE : tr_iE E) (hK : tr_yK K kn) (hO : tr_yO D op) (hD : tr_yD D ow) (hN : tr_yN N nm) (hB : tr_yB L B bo) (hF : tr_iF E N yt) (iL : tr_iL L D) (iN : tr_iN D N) (iB : tr_iB L B o) (ho : o < 2 ^ 31) (H : ∀ kn' op' nm' ow', tr_yK (tc_lk K L D c s) kn' → tr_yO (tc_da D c 8) op' → tr_yN (tc_nv (tc_da D c 8) N) nm' → tr_yD (tc_da D c 8) ow' → post (fc, fs, fp, ff, fo, en, kn', ru, upd yk c (-1), yc, tc_clr E (tc_nv (tc_da D c 8) N) yt, op', qs, qf, ql, bo, nm', ow', zh)) : wpY_leave post (fc, fs, fp, ff, fo, en, kn, ru, yk, yc, yt, op, qs, qf, ql, bo, nm, ow, zh) (nI c) := by
  refine And.intro (vp_in_nI hc (by omega)) (nm_r (tb_up yk _ (by omega)) ?_)
  refine yw_ol hO hD hB iL iB ho hc ?_
  cases z : L.find? (fun t => D t c) with
  | none =>
    refine br_t (nI_le (Nat.le_refl 8) (by decide)) (yw_lv0 hc hE iE hO hD hN hF iN (H kn · · · ?_))
    unfold tc_lk
    rw [z, if_neg (by decide)]
    exact hK
  | some x =>
    have hx := tc_yes iL z
    refine br_f (nI_ge (a := x) (b := 8) hx.2.1 (by decide)) (And.intro (vp_in_nI hc (by omega)) ?_)
    rw [tb_rd ru (by omega), hru]
    refine yw_fg (K := K) (a := 0) (b := 7) hc hs (by decide) (by decide) hK (fun kn' h => ?_)
    refine yw_lv0 hc hE iE hO hD hN hF iN (H kn' · · · ?_)
    unfold tc_lk
    rw [z, if_pos (show (some x).isSome = true from rfl), ← tc_kf_c (m := fun p => decide (0 ≤ p ∧ p ≤ 7)) (fun p hp => decide_eq_true (by omega))]
    exact h
end
end
section
/-! the model's withdraw -/
def tw_En (E : Nat → Option Nat) (s : Nat) (A : Nat → Bool) (w : Bool) (n : Nat) : Nat → Option Nat := fun i => if i / 8 = s ∧ i % 8 < n ∧ A (i % 8) = true then (if w = true then none else (E i).map (fun k => k / 2 * 2)) else E i
theorem tw_En_0 {E : Nat → Option Nat} {s : Nat} {A : Nat → Bool} {w : Bool} : tw_En E s A w 0 = E := by
  funext i
  exact if_neg (fun z => by omega)
theorem tw_En_8 {E : Nat → Option Nat} {s : Nat} {A : Nat → Bool} {w : Bool} : tw_En E s A w 8 = tw_E E s A w := by
  funext i
  unfold tw_En tw_E
  by_cases e : i / 8 = s ∧ A (i % 8) = true
  · rw [if_pos e, if_pos ⟨e.1, by omega, e.2⟩]
  · rw [if_neg e]
    exact if_neg (fun z => e ⟨z.1, z.2.2⟩)
theorem tw_En_n {E : Nat → Option Nat} {s : Nat} {A : Nat → Bool} {w : Bool} {p i : Nat} (h : i ≠ s * 8 + p) : tw_En E s A w (p + 1) i = tw_En E s A w p i := by
  unfold tw_En
  by_cases e : i / 8 = s ∧ i % 8 < p ∧ A (i % 8) = true
  · rw [if_pos e, if_pos ⟨e.1, by omega, e.2.2⟩]
  · rw [if_neg e]
    exact if_neg (fun z => e ⟨z.1, by omega, z.2.2⟩)
theorem tw_En_at {E : Nat → Option Nat} {s : Nat} {A : Nat → Bool} {w : Bool} {p : Nat} (hp : p < 8) : tw_En E s A w p (s * 8 + p) = E (s * 8 + p) := if_neg (fun z => by omega)
theorem tw_En_t {E : Nat → Option Nat} {s : Nat} {A : Nat → Bool} {w : Bool} {p : Nat} (hp : p < 8) : tw_En E s A w (p + 1) (s * 8 + p) = if A p = true then (if w = true then none else (E (s * 8 + p)).map (fun k => k / 2 * 2)) else E (s * 8 + p) := by
  unfold tw_En
  rw [show (s * 8 + p) / 8 = s from by omega, show (s * 8 + p) % 8 = p from by omega]
  by_cases e : A p = true
  · rw [if_pos e, if_pos ⟨rfl, by omega, e⟩]
  · rw [if_neg e]
    exact if_neg (fun z => e z.2.2)
theorem tr_yE_n {E : Nat → Option Nat} {s : Nat} {A : Nat → Bool} {w : Bool} {p : Nat} {en : Nat → Int32} (hp : p < 8) (h : tr_yE (tw_En E s A w p) en) (x : Int32) (hx : x = tc_o (tw_En E s A w (p + 1) (s * 8 + p))) : tr_yE (tw_En E s A w (p + 1)) (upd en (s * 8 + p) x) := by
  intro i hi
  by_cases e : i = s * 8 + p
  · subst e; rw [pk_us, hx]
  · rw [pk_un e, tw_En_n e, h i hi]
theorem tr_yE_k {E : Nat → Option Nat} {s : Nat} {A : Nat → Bool} {w : Bool} {p : Nat} {en : Nat → Int32} (hp : p < 8) (h : tr_yE (tw_En E s A w p) en) (hA : A p = false) : tr_yE (tw_En E s A w (p + 1)) en := by
  intro i hi
  by_cases e : i = s * 8 + p
  · subst e; rw [h _ hi, tw_En_at hp, tw_En_t hp, if_neg (by rw [hA]; decide)]
  · rw [tw_En_n e, h i hi]
theorem tw_iE {E : Nat → Option Nat} {s : Nat} {A : Nat → Bool} {w : Bool} (h : tr_iE E) : tr_iE (tw_E E s A w) := by
  intro i k hi e
  unfold tw_E at e
  by_cases z : i / 8 = s ∧ A (i % 8) = true
  · rw [if_pos z] at e
    cases w with
    | true => rw [if_pos rfl] at e; cases e
    | false =>
      rw [if_neg (by decide)] at e
      cases y : E i with
      | none => rw [y] at e; cases e
      | some k0 =>
        rw [y] at e
        have e2 : k0 / 2 * 2 = k := Option.some.inj e
        have := h i k0 hi y
        omega
  · rw [if_neg z] at e
    exact h i k hi e
def tw_d : Nat → Int32
  | 0 => -1
  | m + 1 => nI m
theorem tw_d_s (m : Nat) : nI m + (-1) = tw_d m := by
  cases m with
  | zero => rfl
  | succ m => exact pk_m1 m
def tw_q (L : List Nat) (m : Nat) : Option Nat → Prop
  | none => ∀ j, m ≤ j → j < 8 → j ∈ L
  | some t => m ≤ t ∧ t < 8 ∧ ¬ t ∈ L ∧ ∀ j, m ≤ j → j < t → j ∈ L
def tw_D (D : Nat → Nat → Bool) (R : Nat → Option Nat) (s t n : Nat) : Nat → Nat → Bool := fun u b => if u = t ∧ b < n then decide (R b = some s) else D u b
theorem tw_D_t {D : Nat → Nat → Bool} {R : Nat → Option Nat} {s t n b : Nat} (h : b < n) : tw_D D R s t n t b = decide (R b = some s) := if_pos ⟨rfl, h⟩
theorem tw_D_o {D : Nat → Nat → Bool} {R : Nat → Option Nat} {s t n u b : Nat} (h : u ≠ t) : tw_D D R s t n u b = D u b := if_neg (fun z => h z.1)
section
variable {fc fs fp ff : Int32} {fo : Int64} {en kn ru yk yc yt op qs qf ql : Nat → Int32} {bo : Nat → Int64} {nm ow zh : Nat → Int32}
theorem yw_111 {post : Int32 → SY → Prop} {J : Int32 → Int32 → (Nat → Int32) → (Nat → Int32) → (Nat → Int32) → (Nat → Int32) → (Nat → Int32) → (Nat → Int32) → (Nat → Int32) → (Nat → Int32) → (Nat → Int32) → (Nat → Int32) → (Nat → Int64) → (Nat → Int32) → (Nat → Int32) → (Nat → Int32) → Prop} {x1 x2 x3 x4 : Int32} {g b : Bool} {p : Nat} (hp : p < 8) (H : J (tc_b (g || b)) (nI (p + 1)) en kn ru yk yc yt op qs qf ql bo nm ow (upd zh p (tc_b b))) : wY_withdraw_111 post J x1 x2 x3 x4 (tc_b g) (nI p) (tc_b b) (nI p) fc fs fp ff fo en kn ru yk yc yt op qs qf ql bo nm ow zh := by
  refine And.intro (vp_in_nI hp (by omega)) (nm_r (e' := upd zh p (tc_b b)) (by rw [tb_nb, tb_up _ _ (by omega)]) (And.intro (vp_in_nI hp (by omega)) ?_))
  rw [tb_rd (upd zh p (tc_b b)) (by omega), pk_us]
  cases b with
  | false =>
    rw [Bool.or_false] at H
    exact br_t rfl (nm_r (nI_1 p) H)
  | true =>
    rw [Bool.or_true] at H
    exact br_f (by decide) (nm_r (nI_1 p) H)
theorem yw_49 {post : Int32 → SY → Prop} {E : Nat → Option Nat} {s a b : Nat} {w : Bool} (hs : s < 4) (ha : a < 8) (hb : b < 8) (hE : tr_yE E en) (iE : tr_iE E) (H0 : (∀ j, j < 8 → tw_A E s a b w j = false) → ∀ zh', post (-3) (fc, fs, fp, ff, fo, en, kn, ru, yk, yc, yt, op, qs, qf, ql, bo, nm, ow, zh')) (H1 : (∃ j, j < 8 ∧ tw_A E s a b w j = true) → ∀ zh', (∀ j, j < 8 → zh' j = tc_b (tw_A E s a b w j)) → ∃ n, wY_withdraw_145 post (nI s) (nI a) (nI b) (tc_b w) fc fs fp ff fo en kn ru yk yc yt op qs qf ql bo nm ow zh' n 0 0) : ∀ d p, p + d = 8 → ∀ (g : Bool) zh', (g = true → ∃ j, j < 8 ∧ tw_A E s a b w j = true) → (g = false → ∀ j, j < p → tw_A E s a b w j = false) → (∀ j, j < p → zh' j = tc_b (tw_A E s a b w j)) → wY_withdraw_49 post (nI s) (nI a) (nI b) (tc_b w) fc fs fp ff fo (d + 1) (tc_b g) (nI p) en kn ru yk yc yt op qs qf ql bo nm ow zh' := by
  intro d
  induction d with
  | zero =>
    intro p e g zh' h1 h0 hz
    obtain rfl : p = 8 := by omega
    refine br_t (nI_le (Nat.le_refl 8) (by decide)) ?_
    cases g with
    | true => exact br_f (by decide) (H1 (h1 rfl) zh' hz)
    | false => exact br_t rfl (H0 (h0 rfl) zh')
  | succ d ih =>
    intro p e g zh' h1 h0 hz
    have hp : p < 8 := by omega
    refine br_f (nI_ge (a := p) (b := 8) hp (by decide)) (And.intro (tb_in8 (by omega) (by omega)) (nm_r (e' := tc_o (E (s * 8 + p))) (by rw [tb_rd8 en (by omega), hE _ (by omega)]) ?_))
    have go : ∀ v, tw_A E s a b w p = v → wY_withdraw_111 post (wY_withdraw_49 post (nI s) (nI a) (nI b) (tc_b w) fc fs fp ff fo (d + 1)) (nI s) (nI a) (nI b) (tc_b w) (tc_b g) (nI p) (tc_b v) (nI p) fc fs fp ff fo en kn ru yk yc yt op qs qf ql bo nm ow zh' := fun v hv => yw_111 hp (ih (p + 1) (by omega) (g || v) _ (fun y => by
        cases v with
        | true => exact ⟨p, hp, hv⟩
        | false => rw [Bool.or_false] at y; exact h1 y) (fun y j hj => by
        have y2 := Bool.or_eq_false_iff.mp y
        by_cases q : j = p
        · rw [q, hv]; exact y2.2
        · exact h0 y2.1 j (by omega)) (fun j hj => by
        by_cases q : j = p
        · rw [q, pk_us, hv]
        · rw [pk_un q]; exact hz j (by omega)))
    by_cases z1 : p < a
    · exact br_t (nI_lt z1 (by omega)) (go false (by unfold tw_A; rw [decide_eq_false (by omega)]; rfl))
    · refine br_f (nI_nlt (by omega) (by omega)) ?_
      by_cases z2 : b < p
      · exact br_t (nI_lt z2 (by omega)) (go false (by unfold tw_A; rw [decide_eq_false (by omega)]; rfl))
      · refine br_f (nI_nlt (by omega) (by omega)) ?_
        have e2 : tw_A E s a b w p = tw_h w (E (s * 8 + p)) := by unfold tw_A; rw [decide_eq_true (by omega)]; rfl
        cases z : E (s * 8 + p) with
        | none => exact br_t (by decide) (go false (by rw [e2, z]; rfl))
        | some k =>
          have hk : k < 32 := iE _ k (by omega) z
          refine br_f (nI_pos (by omega)) ?_
          rw [tc_o_s, tb_r2 (by omega)]
          rw [z] at e2
          cases w with
          | true => exact br_f (by decide) (go true e2)
          | false =>
            refine br_t rfl (And.intro (by decide) ?_)
            by_cases y : k % 2 = 1
            · exact br_t (congrArg nI y) (go true (by rw [e2]; exact decide_eq_true y))
            · exact br_f (fun v => y ((nI_eq (a := k % 2) (b := 1) (by omega) (by omega)).mp v)) (go false (by rw [e2]; exact decide_eq_false y))
theorem yw_145 {post : Int32 → SY → Prop} {R : Nat → Option Nat} {C S s : Nat} {x2 x3 x4 : Int32} (hC : C ≤ 4) (hS : S ≤ 4) (hs : s < 4) (hR : tr_R R ru) (iR : tr_iR C S R) (H1 : (∃ c, c < 4 ∧ R c = some s) → ∃ n, wY_withdraw_181 post (nI s) x2 x3 x4 1 (nI C) fs fp ff fo en kn ru yk yc yt op qs qf ql bo nm ow zh n (-1) 7) (H0 : (∀ c, c < 4 → ¬ R c = some s) → ∃ n, wY_withdraw_181 post (nI s) x2 x3 x4 0 (nI C) fs fp ff fo en kn ru yk yc yt op qs qf ql bo nm ow zh n (-1) 7) : ∀ d c, c + d = C → ∀ g : Bool, (g = true → ∃ c, c < 4 ∧ R c = some s) → (g = false → ∀ j, j < c → ¬ R j = some s) → wY_withdraw_145 post (nI s) x2 x3 x4 (nI C) fs fp ff fo en kn ru yk yc yt op qs qf ql bo nm ow zh (d + 1) (tc_b g) (nI c) := by
  intro d
  induction d with
  | zero =>
    intro c e g h1 h0
    obtain rfl : c = C := by omega
    refine br_t (nI_le (Nat.le_refl c) (by omega)) ?_
    cases g with
    | true => exact H1 (h1 rfl)
    | false => exact H0 (fun j hj y => h0 rfl j (iR j s hj y).1 y)
  | succ d ih =>
    intro c e g h1 h0
    have hc : c < 4 := by omega
    refine br_f (nI_ge (by omega) (by omega)) (And.intro (vp_in_nI hc (by omega)) ?_)
    rw [tb_rd ru (by omega), hR c hc]
    by_cases z : R c = some s
    · exact br_t (by rw [z]; rfl) (nm_r (nI_1 c) (ih (c + 1) (by omega) true (fun _ => ⟨c, hc, z⟩) (fun y => by cases y)))
    · refine br_f (fun y => z ((tc_o_eq (fun j hj => by have := (iR c j hc hj).2; omega) (by omega)).mp y)) (nm_r (nI_1 c) (ih (c + 1) (by omega) g h1 (fun y j hj => ?_)))
      by_cases q : j = c
      · rw [q]; exact z
      · exact h0 y j (by omega)
theorem yw_181 {post : Int32 → SY → Prop} {D : Nat → Nat → Bool} {L : List Nat} {x1 x2 x3 x4 x6 : Int32} (hO : tr_yO D op) (iL : tr_iL L D) (H : ∀ q, tw_q L 0 q → ((x6 = 0 → (∃ n222 : Nat, wY_withdraw_222 post x1 x2 x3 x4 x6 (tc_o q) fc fs fp ff fo n222 0 en kn ru yk yc yt op qs qf ql bo nm ow zh)) ∧ (¬ x6 = 0 → (((0 ≤ tc_o q → (∃ n222 : Nat, wY_withdraw_222 post x1 x2 x3 x4 x6 (tc_o q) fc fs fp ff fo n222 0 en kn ru yk yc yt op qs qf ql bo nm ow zh)) ∧ (¬ 0 ≤ tc_o q → (post (-8) (fc, fs, fp, ff, fo, en, kn, ru, yk, yc, yt, op, qs, qf, ql, bo, nm, ow, zh)))))))) : ∀ m, m ≤ 8 → ∀ q, tw_q L m q → wY_withdraw_181 post x1 x2 x3 x4 x6 fc fs fp ff fo en kn ru yk yc yt op qs qf ql bo nm ow zh (m + 1) (tc_o q) (tw_d m) := by
  intro m
  induction m with
  | zero =>
    intro _ q h
    exact br_t (by decide) (H q h)
  | succ m ih =>
    intro hm q h
    have hm8 : m < 8 := by omega
    refine br_f (nI_pos (n := m) (by omega)) (And.intro (vp_in_nI (n := m) hm8 (by omega)) ?_)
    have e1 : op (tw_d (m + 1)).toNatClampNeg = tc_b (tc_an (D m)) := by
      show op (nI m).toNatClampNeg = _
      rw [tb_rd op (by omega), hO m hm8]
    rw [e1]
    cases z : tc_an (D m) with
    | false =>
      have nL : ¬ m ∈ L := fun y => by rw [((iL.2 m).mp y).2] at z; cases z
      exact br_t rfl (nm_r (tw_d_s m) (ih (by omega) (some m) ⟨Nat.le_refl m, hm8, nL, fun j h1 h2 => by omega⟩))
    | true =>
      have mL : m ∈ L := (iL.2 m).mpr ⟨hm8, z⟩
      refine br_f (by decide) (nm_r (tw_d_s m) (ih (by omega) q ?_))
      cases q with
      | none =>
        intro j h1 h2
        by_cases y : j = m
        · rw [y]; exact mL
        · exact h j (by omega) h2
      | some t =>
        refine ⟨by have := h.1; omega, h.2.1, h.2.2.1, fun j h1 h2 => ?_⟩
        by_cases y : j = m
        · rw [y]; exact mL
        · exact h.2.2.2 j (by omega) h2
theorem yw_274 {post : Int32 → SY → Prop} {J : Int32 → (Nat → Int32) → (Nat → Int32) → (Nat → Int32) → (Nat → Int32) → (Nat → Int32) → (Nat → Int32) → (Nat → Int32) → (Nat → Int32) → (Nat → Int32) → (Nat → Int32) → (Nat → Int64) → (Nat → Int32) → (Nat → Int32) → (Nat → Int32) → Prop} {E : Nat → Option Nat} {A : Nat → Bool} {s p : Nat} {w : Bool} {x2 x3 x6 x7 : Int32} (hs : s < 4) (hp : p < 8) (iE : tr_iE E) (hA : ∀ j, j < 8 → A j = true → ∃ k, E (s * 8 + j) = some k) (hz : ∀ j, j < 8 → zh j = tc_b (A j)) (hE : tr_yE (tw_En E s A w p) en) (H : ∀ en', tr_yE (tw_En E s A w (p + 1)) en' → J (nI (p + 1)) en' kn ru yk yc yt op qs qf ql bo nm ow zh) : wY_withdraw_274 post J (nI s) x2 x3 (tc_b w) x6 x7 (nI p) (tc_o (E (s * 8 + p))) fc fs fp ff fo en kn ru yk yc yt op qs qf ql bo nm ow zh := by
  refine And.intro (vp_in_nI hp (by omega)) ?_
  rw [tb_rd zh (by omega), hz p hp]
  cases z : A p with
  | false => exact br_t rfl (nm_r (nI_1 p) (H en (tr_yE_k hp hE z)))
  | true =>
    obtain ⟨k, e⟩ := hA p hp z
    have hk : k < 32 := iE _ k (by omega) e
    refine br_f (by decide) ?_
    cases w with
    | true =>
      refine br_f (by decide) (And.intro (tb_in8 (by omega) (by omega)) (nm_r (tb_up8 en _ (by omega)) (nm_r (nI_1 p) (H _ (tr_yE_n hp hE (-1) ?_)))))
      rw [tw_En_t hp, if_pos z, if_pos rfl]; rfl
    | false =>
      refine br_t rfl (And.intro (by decide) (And.intro (tb_in8 (by omega) (by omega)) (nm_r (tb_up8 en _ (by omega)) (nm_r (nI_1 p) (H _ (tr_yE_n hp hE _ ?_))))))
      rw [tw_En_t hp, if_pos z, if_neg (by decide), e, tc_o_s, tb_d2 (by omega), tb_x2]
      rfl
theorem yw_222_0 {post : Int32 → SY → Prop} {E : Nat → Option Nat} {A : Nat → Bool} {s : Nat} {w : Bool} {x2 x3 x7 : Int32} (hs : s < 4) (iE : tr_iE E) (hA : ∀ j, j < 8 → A j = true → ∃ k, E (s * 8 + j) = some k) (hz : ∀ j, j < 8 → zh j = tc_b (A j)) (H : ∀ en', tr_yE (tw_E E s A w) en' → ∃ n, wY_withdraw_320 post (nI s) x2 x3 0 x7 n 0 fc fs fp ff fo en' kn ru yk yc yt op qs qf ql bo nm ow zh) : ∀ d p, p + d = 8 → ∀ en', tr_yE (tw_En E s A w p) en' → wY_withdraw_222 post (nI s) x2 x3 (tc_b w) 0 x7 fc fs fp ff fo (d + 1) (nI p) en' kn ru yk yc yt op qs qf ql bo nm ow zh := by
  intro d
  induction d with
  | zero =>
    intro p e en' h
    obtain rfl : p = 8 := by omega
    rw [tw_En_8] at h
    exact br_t (nI_le (Nat.le_refl 8) (by decide)) (H en' h)
  | succ d ih =>
    intro p e en' h
    have hp : p < 8 := by omega
    refine br_f (nI_ge (a := p) (b := 8) hp (by decide)) (And.intro (tb_in8 (by omega) (by omega)) (nm_r (e' := tc_o (E (s * 8 + p))) (by rw [tb_rd8 en' (by omega), h _ (by omega), tw_En_at hp]) (And.intro (vp_in_nI hp (by omega)) ?_)))
    have go : wY_withdraw_274 post (wY_withdraw_222 post (nI s) x2 x3 (tc_b w) 0 x7 fc fs fp ff fo (d + 1)) (nI s) x2 x3 (tc_b w) 0 x7 (nI p) (tc_o (E (s * 8 + p))) fc fs fp ff fo en' kn ru yk yc yt op qs qf ql bo nm ow zh := yw_274 (post := post) hs hp iE hA hz h (fun en2 h2 => ih (p + 1) (by omega) en2 h2)
    exact br_c (fun _ => go) (fun _ => br_t rfl go)
theorem yw_222_1 {post : Int32 → SY → Prop} {E : Nat → Option Nat} {N : Nat → Nat → Bool} {A : Nat → Bool} {s t : Nat} {w : Bool} {x2 x3 : Int32} (hs : s < 4) (ht : t < 8) (iE : tr_iE E) (hA : ∀ j, j < 8 → A j = true → ∃ k, E (s * 8 + j) = some k) (hz : ∀ j, j < 8 → zh j = tc_b (A j)) (H : ∀ en' nm', tr_yE (tw_E E s A w) en' → tr_yN (tc_ad N t (tc_nf E s A 8) 16) nm' → ∃ n, wY_withdraw_320 post (nI s) x2 x3 1 (nI t) n 0 fc fs fp ff fo en' kn ru yk yc yt op qs qf ql bo nm' ow zh) : ∀ d p, p + d = 8 → ∀ en' nm', tr_yE (tw_En E s A w p) en' → tr_yN (tc_ad N t (tc_nf E s A p) 16) nm' → wY_withdraw_222 post (nI s) x2 x3 (tc_b w) 1 (nI t) fc fs fp ff fo (d + 1) (nI p) en' kn ru yk yc yt op qs qf ql bo nm' ow zh := by
  intro d
  induction d with
  | zero =>
    intro p e en' nm' h hn
    obtain rfl : p = 8 := by omega
    rw [tw_En_8] at h
    exact br_t (nI_le (Nat.le_refl 8) (by decide)) (H en' nm' h hn)
  | succ d ih =>
    intro p e en' nm' h hn
    have hp : p < 8 := by omega
    refine br_f (nI_ge (a := p) (b := 8) hp (by decide)) (And.intro (tb_in8 (by omega) (by omega)) (nm_r (e' := tc_o (E (s * 8 + p))) (by rw [tb_rd8 en' (by omega), h _ (by omega), tw_En_at hp]) (And.intro (vp_in_nI hp (by omega)) ?_)))
    have go : ∀ nm2, tr_yN (tc_ad N t (tc_nf E s A (p + 1)) 16) nm2 → wY_withdraw_274 post (wY_withdraw_222 post (nI s) x2 x3 (tc_b w) 1 (nI t) fc fs fp ff fo (d + 1)) (nI s) x2 x3 (tc_b w) 1 (nI t) (nI p) (tc_o (E (s * 8 + p))) fc fs fp ff fo en' kn ru yk yc yt op qs qf ql bo nm2 ow zh := fun nm2 hn2 => yw_274 (post := post) hs hp iE hA hz h (fun en2 h2 => ih (p + 1) (by omega) en2 nm2 h2 hn2)
    rw [tb_rd zh (by omega), hz p hp]
    cases z : A p with
    | false =>
      refine br_t rfl (go nm' (fun u f hu hf => ?_))
      rw [hn u f hu hf]
      unfold tc_ad
      rw [show tc_nf E s A (p + 1) f = tc_nf E s A p f from by
        show (tc_nf E s A p f || (A p && tc_nm (E (s * 8 + p)) f)) = _
        rw [z, Bool.false_and, Bool.or_false]]
    | true =>
      obtain ⟨k, ek⟩ := hA p hp z
      have hk : k < 32 := iE _ k (by omega) ek
      refine br_f (by decide) (br_f (by decide) (And.intro (by decide) ?_))
      have hx : tc_o (E (s * 8 + p)) / 2 = nI (k / 2) := by rw [ek, tc_o_s, tb_d2 (by omega)]
      rw [hx]
      refine And.intro (tb_in16 (by omega) (by omega)) (nm_r (e' := upd nm' (t * 16 + k / 2) 1) (by rw [tb_n1, tb_up16 _ _ (by omega)]) (go _ (fun u f hu hf => ?_)))
      have nf1 : tc_nf E s A (p + 1) f = (tc_nf E s A p f || decide (k / 2 = f)) := by
        show (tc_nf E s A p f || (A p && tc_nm (E (s * 8 + p)) f)) = _
        rw [z, Bool.true_and, ek]; rfl
      by_cases q : u = t
      · subst q
        rw [tc_ad_t hf, nf1]
        by_cases q2 : f = k / 2
        · subst q2
          rw [pk_us, decide_eq_true rfl, Bool.or_true]; rfl
        · rw [pk_un (by omega), hn u f hu hf, tc_ad_t hf, decide_eq_false (fun y => q2 y.symm), Bool.or_false]
      · rw [pk_un (by omega), hn u f hu hf, tc_ad_o q, tc_ad_o q]
theorem yw_320 {post : Int32 → SY → Prop} {K R : Nat → Option Nat} {C S s : Nat} {x2 x3 x6 x7 : Int32} (hC : C ≤ 4) (hS : S ≤ 4) (hs : s < 4) (hR : tr_R R ru) (iR : tr_iR C S R) (H : ∀ kn', tr_yK (tw_K K R s C) kn' → wY_withdraw_320 post (nI s) x2 x3 x6 x7 1 (nI C) (nI C) fs fp ff fo en kn' ru yk yc yt op qs qf ql bo nm ow zh) : ∀ d c, c + d = C → ∀ kn', tr_yK (tw_K K R s c) kn' → wY_withdraw_320 post (nI s) x2 x3 x6 x7 (d + 1) (nI c) (nI C) fs fp ff fo en kn' ru yk yc yt op qs qf ql bo nm ow zh := by
  intro d
  induction d with
  | zero =>
    intro c e kn' h
    obtain rfl : c = C := by omega
    exact H kn' h
  | succ d ih =>
    intro c e kn' h
    have hc : c < 4 := by omega
    refine br_f (nI_ge (by omega) (by omega)) (And.intro (vp_in_nI hc (by omega)) ?_)
    rw [tb_rd ru (by omega), hR c hc]
    by_cases z : R c = some s
    · refine br_t (by rw [z]; rfl) (nm_r (nI_1 c) (ih (c + 1) (by omega) kn' ?_))
      rw [tw_K_f z]
      exact h
    · refine br_f (fun y => z ((tc_o_eq (fun j hj => by have := (iR c j hc hj).2; omega) (by omega)).mp y)) ?_
      refine yw_fg (K := tw_K K R s c) (a := 0) (b := 7) hc hs (by decide) (by decide) h (fun kn2 h2 => ?_)
      refine nm_r (nI_1 c) (ih (c + 1) (by omega) kn2 ?_)
      rw [← tw_K_t hs z, ← tc_kf_c (m := fun p => decide (0 ≤ p ∧ p ≤ 7)) (fun p hp => decide_eq_true (by omega))]
      exact h2
theorem yw_414 {post : Int32 → SY → Prop} {D : Nat → Nat → Bool} {R : Nat → Option Nat} {C S s t : Nat} {x6 : Int32} (hC : C ≤ 4) (hS : S ≤ 4) (hs : s < 4) (ht : t < 8) (hR : tr_R R ru) (iR : tr_iR C S R) (H : ∀ ow', tr_yD (tw_D D R s t C) ow' → wY_withdraw_457 post x6 (nI t) (nI C) fs fp ff fo en kn ru yk yc yt op qs qf ql bo nm ow' zh) : ∀ d c, c + d = C → ∀ ow', tr_yD (tw_D D R s t c) ow' → wY_withdraw_414 post (nI s) x6 (nI t) (nI C) fs fp ff fo (d + 1) (nI c) en kn ru yk yc yt op qs qf ql bo nm ow' zh := by
  intro d
  induction d with
  | zero =>
    intro c e ow' h
    obtain rfl : c = C := by omega
    exact br_t (nI_le (Nat.le_refl c) (by omega)) (H ow' h)
  | succ d ih =>
    intro c e ow' h
    have hc : c < 4 := by omega
    refine br_f (nI_ge (by omega) (by omega)) (And.intro (vp_in_nI hc (by omega)) ?_)
    rw [tb_rd ru (by omega), hR c hc]
    have go : ∀ v : Bool, decide (R c = some s) = v → tr_yD (tw_D D R s t (c + 1)) (upd ow' (t * 4 + c) (tc_b v)) := fun v hv u b hu hb => by
      by_cases q : u = t ∧ b = c
      · obtain ⟨rfl, rfl⟩ := q
        rw [pk_us, tw_D_t (by omega), hv]
      · rw [pk_un (fun y => q (by omega)), h u b hu hb]
        unfold tw_D
        by_cases y : u = t ∧ b < c
        · rw [if_pos y, if_pos ⟨y.1, by omega⟩]
        · rw [if_neg y, if_neg (fun v => y ⟨v.1, by have := v.2; have : b ≠ c := fun r => q ⟨v.1, r⟩; omega⟩)]
    by_cases z : R c = some s
    · exact br_t (by rw [z]; rfl) (And.intro (tb_in4 (by omega) (by omega)) (nm_r (e' := upd ow' (t * 4 + c) (tc_b true)) (by rw [tb_n1, tb_up4 _ _ (by omega)]; rfl) (nm_r (nI_1 c) (ih (c + 1) (by omega) _ (go true (decide_eq_true z))))))
    · exact br_f (fun y => z ((tc_o_eq (fun j hj => by have := (iR c j hc hj).2; omega) (by omega)).mp y)) (And.intro (tb_in4 (by omega) (by omega)) (nm_r (e' := upd ow' (t * 4 + c) (tc_b false)) (by rw [tb_n0, tb_up4 _ _ (by omega)]; rfl) (nm_r (nI_1 c) (ih (c + 1) (by omega) _ (go false (decide_eq_false z))))))
end
end
section
/-! withdraw, both sides, by its four cases -/
theorem tw_A_8 {E : Nat → Option Nat} {s a b p : Nat} {w : Bool} (hb : b < 8) (hp : 8 ≤ p) : tw_A E s a b w p = false := by
  unfold tw_A
  rw [decide_eq_false (by omega)]; rfl
theorem tw_A_0 {E : Nat → Option Nat} {s a b : Nat} {w : Bool} {x6 : Int32} (hb : b < 8) (hx : ∀ q, bt x6 q = tw_A E s a b w q) : x6 = 0 ↔ ∀ j, j < 8 → tw_A E s a b w j = false := by
  rw [tb_0]
  constructor
  · intro h j hj
    rw [← hx j]; exact h j (by omega)
  · intro h q _
    rw [hx q]
    by_cases e : q < 8
    · exact h q e
    · exact tw_A_8 hb (by omega)
theorem tr_xR_0 {R : Nat → Option Nat} {rn : Nat → Int32} (h : tr_xR R rn) {s : Nat} (hs : s < 4) : rn s = 0 ↔ ∀ c, c < 4 → ¬ R c = some s := by
  rw [tb_0]
  constructor
  · intro g c hc e
    have := g c (by omega)
    rw [h s c hs, decide_eq_true hc, decide_eq_true e] at this
    cases this
  · intro g q _
    rw [h s q hs]
    by_cases e : q < 4
    · rw [decide_eq_false (g q e), Bool.and_false]
    · rw [decide_eq_false e, Bool.false_and]
section
variable {cC sC pC fC oC : Int32} {mp wp ef nc ct so wk wc rn kp kc rs rp rf ob ao : Nat → Int32}
theorem xw_wd_b {post : Int32 → SX → Prop} {S P : Nat} {v1 v2 v3 v4 : Int32} (hS : S ≤ 4) (hP : P ≤ 8) (h : ¬ (tb_ok v1 S ∧ tb_ok v2 P ∧ tb_ok v3 P ∧ v2 ≤ v3)) (H : post (-1) (cC, nI S, nI P, fC, oC, mp, wp, ef, nc, ct, so, wk, wc, rn, kp, kc, rs, rp, rf, ob, ao)) : wpX_withdraw post (cC, nI S, nI P, fC, oC, mp, wp, ef, nc, ct, so, wk, wc, rn, kp, kc, rs, rp, rf, ob, ao) v1 v2 v3 v4 := by
  unfold wpX_withdraw
  by_cases e : tb_ok v1 S ∧ tb_ok v2 P
  · obtain ⟨⟨s, hs, rfl⟩, ⟨a, ha, rfl⟩⟩ := e
    refine xw_be_ok hs hS ha hP (br_t rfl ?_)
    by_cases e2 : tb_ok v3 P
    · obtain ⟨b, hb, rfl⟩ := e2
      refine xw_b_ok hb (by omega) (br_t rfl ?_)
      exact br_f (fun z => h ⟨⟨s, hs, rfl⟩, ⟨a, ha, rfl⟩, ⟨b, hb, rfl⟩, z⟩) H
    · exact xw_b_no e2 (by omega) (br_f (by decide) H)
  · exact xw_be_no e hS hP (br_f (by decide) H)
theorem xw_wd1 {post : Int32 → SX → Prop} {E : Nat → Option Nat} {S P s a b : Nat} {w : Bool} (hs : s < S) (hS : S ≤ 4) (ha : a < P) (hb : b < P) (hP : P ≤ 8) (hab : a ≤ b) (hE : tr_xE E mp wp ef) (H : ∀ x5 x6, (∀ p, bt x5 p = decide (a ≤ p ∧ p ≤ b)) → (∀ q, bt x6 q = tw_A E s a b w q) → wX_withdraw_64 post (nI s) (tc_b w) x5 x6 cC (nI S) (nI P) fC oC mp wp ef nc ct so wk wc rn kp kc rs rp rf ob ao) : wpX_withdraw post (cC, nI S, nI P, fC, oC, mp, wp, ef, nc, ct, so, wk, wc, rn, kp, kc, rs, rp, rf, ob, ao) (nI s) (nI a) (nI b) (tc_b w) := by
  unfold wpX_withdraw
  refine xw_be_ok hs hS ha hP (br_t rfl ?_)
  refine xw_b_ok hb (by omega) (br_t rfl ?_)
  refine br_t (nI_le hab (by omega)) (fun x5 e5 => And.intro (vp_in_nI (by omega) (by omega)) (nm_r (e' := mp s &&& x5) (by rw [nI_clamp (by omega)]) ?_))
  have h5 : ∀ p, bt x5 p = decide (a ≤ p ∧ p ≤ b) := fun p => by rw [e5]; exact tb_rng (by omega) hab p
  cases w with
  | false =>
    refine br_t rfl (And.intro (vp_in_nI (by omega) (by omega)) (nm_r (e' := (mp s &&& x5) &&& wp s) (by rw [nI_clamp (by omega)]) (H x5 _ h5 (fun q => ?_))))
    rw [b_and, b_and, h5 q]
    by_cases e : q < 8
    · rw [hE.1 s q (by omega) e, hE.2.1 s q (by omega) e]
      unfold tw_A
      cases E (s * 8 + q) with
      | none => simp [tw_h]
      | some k => simp [tw_h, tc_w]
    · rw [hE.2.2.1 s q (by omega) (by omega), tw_A_8 (by omega) (by omega)]; rfl
  | true =>
    refine br_f (by decide) (H x5 _ h5 (fun q => ?_))
    rw [b_and, h5 q]
    by_cases e : q < 8
    · rw [hE.1 s q (by omega) e]
      unfold tw_A
      cases E (s * 8 + q) with
      | none => simp [tw_h]
      | some k => simp [tw_h]
    · rw [hE.2.2.1 s q (by omega) (by omega), tw_A_8 (by omega) (by omega)]; rfl
theorem xw_wd_n {post : Int32 → SX → Prop} {E : Nat → Option Nat} {S P s a b : Nat} {w : Bool} (hs : s < S) (hS : S ≤ 4) (ha : a < P) (hb : b < P) (hP : P ≤ 8) (hab : a ≤ b) (hE : tr_xE E mp wp ef) (hn : ∀ j, j < 8 → tw_A E s a b w j = false) (H : post (-3) (cC, nI S, nI P, fC, oC, mp, wp, ef, nc, ct, so, wk, wc, rn, kp, kc, rs, rp, rf, ob, ao)) : wpX_withdraw post (cC, nI S, nI P, fC, oC, mp, wp, ef, nc, ct, so, wk, wc, rn, kp, kc, rs, rp, rf, ob, ao) (nI s) (nI a) (nI b) (tc_b w) := by
  refine xw_wd1 hs hS ha hb hP hab hE (fun x5 x6 _ h6 => ?_)
  exact br_t ((tw_A_0 (by omega) h6).mpr hn) H
theorem xw_wd_f {post : Int32 → SX → Prop} {E R : Nat → Option Nat} {S P s a b n : Nat} {w : Bool} (hs : s < S) (hS : S ≤ 4) (ha : a < P) (hb : b < P) (hP : P ≤ 8) (hab : a ≤ b) (hE : tr_xE E mp wp ef) (hR : tr_xR R rn) (hy : ¬ ∀ j, j < 8 → tw_A E s a b w j = false) (hr : ¬ ∀ c, c < 4 → ¬ R c = some s) (h8 : 8 ≤ n) (hn : n < 2 ^ 31) (H : post (-8) (cC, nI S, nI P, fC, nI n, mp, wp, ef, nc, ct, so, wk, wc, rn, kp, kc, rs, rp, rf, ob, ao)) : wpX_withdraw post (cC, nI S, nI P, fC, nI n, mp, wp, ef, nc, ct, so, wk, wc, rn, kp, kc, rs, rp, rf, ob, ao) (nI s) (nI a) (nI b) (tc_b w) := by
  refine xw_wd1 hs hS ha hb hP hab hE (fun x5 x6 _ h6 => ?_)
  refine br_f (fun z => hy ((tw_A_0 (by omega) h6).mp z)) (And.intro (vp_in_nI (by omega) (by omega)) (br_f ?_ ?_))
  · rw [tb_rd rn (by omega)]
    exact fun z => hr ((tr_xR_0 hR (by omega)).mp z)
  · exact br_f (by decide) (br_f (nI_nlt (b := 8) h8 hn) H)
theorem xw_wd_0 {post : Int32 → SX → Prop} {E K R : Nat → Option Nat} {N : Nat → Nat → Bool} {S P s a b : Nat} {w : Bool} (hs : s < S) (hS : S ≤ 4) (ha : a < P) (hb : b < P) (hP : P ≤ 8) (hab : a ≤ b) (hE : tr_xE E mp wp ef) (iE : tr_iE E) (hN : tr_xN E N nc) (hF : tr_iF E N ct) (hK : tr_xK K kp kc) (hR : tr_R R so) (hR4 : ∀ c j, c < 4 → R c = some j → j < 2 ^ 31) (hR2 : tr_xR R rn) (hy : ¬ ∀ j, j < 8 → tw_A E s a b w j = false) (hr : ∀ c, c < 4 → ¬ R c = some s) (H : ∀ mp' wp' nc' kp', tr_xE (tw_E E s (tw_A E s a b w) w) mp' wp' ef → tr_xN (tw_E E s (tw_A E s a b w) w) N nc' → tr_xK (tw_K K R s 4) kp' kc → post 8 (cC, nI S, nI P, fC, oC, mp', wp', ef, nc', tc_clr (tw_E E s (tw_A E s a b w) w) N ct, so, wk, wc, rn, kp', kc, rs, rp, rf, ob, ao)) : wpX_withdraw post (cC, nI S, nI P, fC, oC, mp, wp, ef, nc, ct, so, wk, wc, rn, kp, kc, rs, rp, rf, ob, ao) (nI s) (nI a) (nI b) (tc_b w) := by
  refine xw_wd1 hs hS ha hb hP hab hE (fun x5 x6 _ h6 => ?_)
  refine br_f (fun z => hy ((tw_A_0 (by omega) h6).mp z)) (And.intro (vp_in_nI (by omega) (by omega)) (br_t ?_ ?_))
  · rw [tb_rd rn (by omega)]
    exact (tr_xR_0 hR2 (by omega)).mpr hr
  · refine br_t rfl (br_t rfl ?_)
    exact xw_wd2 (by omega) (by omega) h6 hE iE hN hF hK hR hR4 H
theorem xw_wd_1 {post : Int32 → SX → Prop} {E K R : Nat → Option Nat} {N : Nat → Nat → Bool} {S P s a b n t : Nat} {w : Bool} (hs : s < S) (hS : S ≤ 4) (ha : a < P) (hb : b < P) (hP : P ≤ 8) (hab : a ≤ b) (hE : tr_xE E mp wp ef) (iE : tr_iE E) (hN : tr_xN E N nc) (hF : tr_iF E N ct) (hK : tr_xK K kp kc) (hR : tr_R R so) (hR4 : ∀ c j, c < 4 → R c = some j → j < 2 ^ 31) (hR2 : tr_xR R rn) (hy : ¬ ∀ j, j < 8 → tw_A E s a b w j = false) (hr : ¬ ∀ c, c < 4 → ¬ R c = some s) (hn : n < 8) (ht : t < 8) (h0 : ob t = 0) (hj : ∀ j, j < t → ¬ ob j = 0) (hN0 : ∀ f, f < 16 → N t f = false) (H : ∀ x5 x3 mp' wp' nc' kp', (∀ p, bt x5 p = decide (a ≤ p ∧ p ≤ b)) → (∀ f, bt x3 f = tc_nf E s (tw_A E s a b w) 8 f) → tr_xE (tw_E E s (tw_A E s a b w) w) mp' wp' ef → tr_xN (tw_E E s (tw_A E s a b w) w) (tc_ad N t (tc_nf E s (tw_A E s a b w) 8) 16) nc' → tr_xK (tw_K K R s 4) kp' kc → post (nI t) (cC, nI S, nI P, fC, nI (n + 1), mp', wp', ef, nc', tc_clr (tw_E E s (tw_A E s a b w) w) (tc_ad N t (tc_nf E s (tw_A E s a b w) 8) 16) ct, so, wk, wc, rn, kp', kc, upd rs t (nI s), upd rp t x5, upd rf t x3, upd ob t (rn s), upd ao n (nI t))) : wpX_withdraw post (cC, nI S, nI P, fC, nI n, mp, wp, ef, nc, ct, so, wk, wc, rn, kp, kc, rs, rp, rf, ob, ao) (nI s) (nI a) (nI b) (tc_b w) := by
  refine xw_wd1 hs hS ha hb hP hab hE (fun x5 x6 h5 h6 => ?_)
  refine br_f (fun z => hy ((tw_A_0 (by omega) h6).mp z)) (And.intro (vp_in_nI (by omega) (by omega)) (br_f ?_ ?_))
  · rw [tb_rd rn (by omega)]
    exact fun z => hr ((tr_xR_0 hR2 (by omega)).mp z)
  · refine br_f (by decide) (br_t (nI_lt (b := 8) hn (by decide)) (br_f (by decide) ?_))
    refine xw_fo (E := E) (A := tw_A E s a b w) (by omega) (fun q _ => h6 q) (fun p hp z => ?_) (fun x3 h3 => ?_)
    · obtain ⟨_, _, k, e⟩ := tw_A_so z
      exact ⟨k, iE _ k (by omega) e, e, hE.2.2.2 _ k (by omega) e⟩
    · refine xw_or (E := E) (N := N) (M := tc_nf E s (tw_A E s a b w) 8) ht hn (by omega) h0 hj (fun f _ => h3 f) hN0 hN (fun nc' hn' => ?_)
      refine xw_wd2 (by omega) (by omega) h6 hE iE hn' (fun f hf z => hF f hf (tc_c_mono (fun _ _ y => y) (fun u hu y => ?_) z)) hK hR hR4 (fun mp' wp' nc2 kp' g1 g2 g3 => H x5 x3 mp' wp' nc2 kp' h5 h3 g1 g2 g3)
      by_cases q : u = t
      · rw [q, hN0 f hf] at y; cases y
      · rw [tc_ad_o q]; exact y
end
section
variable {fc fs fp ff : Int32} {fo : Int64} {en kn ru yk yc yt op qs qf ql : Nat → Int32} {bo : Nat → Int64} {nm ow zh : Nat → Int32}
theorem yw_wd_b {post : Int32 → SY → Prop} {S P : Nat} {v1 v2 v3 v4 : Int32} (hS : S ≤ 4) (hP : P ≤ 8) (h : ¬ (tb_ok v1 S ∧ tb_ok v2 P ∧ tb_ok v3 P ∧ v2 ≤ v3)) (H : post (-1) (fc, nI S, nI P, ff, fo, en, kn, ru, yk, yc, yt, op, qs, qf, ql, bo, nm, ow, zh)) : wpY_withdraw post (fc, nI S, nI P, ff, fo, en, kn, ru, yk, yc, yt, op, qs, qf, ql, bo, nm, ow, zh) v1 v2 v3 v4 := by
  unfold wpY_withdraw
  by_cases e : tb_ok v1 S
  · obtain ⟨s, hs, rfl⟩ := e
    refine yw_b_ok hs (by omega) (br_t rfl ?_)
    by_cases e1 : tb_ok v2 P
    · obtain ⟨a, ha, rfl⟩ := e1
      refine yw_b_ok ha (by omega) (br_t rfl ?_)
      by_cases e2 : tb_ok v3 P
      · obtain ⟨b, hb, rfl⟩ := e2
        refine yw_b_ok hb (by omega) (br_t rfl ?_)
        exact br_f (fun z => h ⟨⟨s, hs, rfl⟩, ⟨a, ha, rfl⟩, ⟨b, hb, rfl⟩, z⟩) H
      · exact yw_b_no e2 (by omega) (br_f (by decide) H)
    · exact yw_b_no e1 (by omega) (br_f (by decide) H)
  · exact yw_b_no e (by omega) (br_f (by decide) H)
theorem yw_wd1 {post : Int32 → SY → Prop} {S P s a b : Nat} {w : Bool} (hs : s < S) (hS : S ≤ 4) (ha : a < P) (hb : b < P) (hP : P ≤ 8) (hab : a ≤ b) (H : ∃ n, wY_withdraw_49 post (nI s) (nI a) (nI b) (tc_b w) fc (nI S) (nI P) ff fo n 0 0 en kn ru yk yc yt op qs qf ql bo nm ow zh) : wpY_withdraw post (fc, nI S, nI P, ff, fo, en, kn, ru, yk, yc, yt, op, qs, qf, ql, bo, nm, ow, zh) (nI s) (nI a) (nI b) (tc_b w) := by
  unfold wpY_withdraw
  refine yw_b_ok hs (by omega) (br_t rfl ?_)
  refine yw_b_ok ha (by omega) (br_t rfl ?_)
  refine yw_b_ok hb (by omega) (br_t rfl ?_)
  exact br_t (nI_le hab (by omega)) H
theorem yw_wd2 {post : Int32 → SY → Prop} {E : Nat → Option Nat} {S P s a b : Nat} {w : Bool} (hs : s < S) (hS : S ≤ 4) (ha : a < P) (hb : b < P) (hP : P ≤ 8) (hab : a ≤ b) (hE : tr_yE E en) (iE : tr_iE E) (H0 : (∀ j, j < 8 → tw_A E s a b w j = false) → ∀ zh', post (-3) (fc, nI S, nI P, ff, fo, en, kn, ru, yk, yc, yt, op, qs, qf, ql, bo, nm, ow, zh')) (H1 : (∃ j, j < 8 ∧ tw_A E s a b w j = true) → ∀ zh', (∀ j, j < 8 → zh' j = tc_b (tw_A E s a b w j)) → ∃ n, wY_withdraw_145 post (nI s) (nI a) (nI b) (tc_b w) fc (nI S) (nI P) ff fo en kn ru yk yc yt op qs qf ql bo nm ow zh' n 0 0) : wpY_withdraw post (fc, nI S, nI P, ff, fo, en, kn, ru, yk, yc, yt, op, qs, qf, ql, bo, nm, ow, zh) (nI s) (nI a) (nI b) (tc_b w) :=
  yw_wd1 hs hS ha hb hP hab ⟨9, yw_49 (post := post) (E := E) (by omega) (by omega) (by omega) hE iE H0 H1 8 0 (by omega) false zh (fun y => by cases y) (fun _ j hj => by omega) (fun j hj => by omega)⟩
theorem yw_wd_n {post : Int32 → SY → Prop} {E : Nat → Option Nat} {S P s a b : Nat} {w : Bool} (hs : s < S) (hS : S ≤ 4) (ha : a < P) (hb : b < P) (hP : P ≤ 8) (hab : a ≤ b) (hE : tr_yE E en) (iE : tr_iE E) (hn : ∀ j, j < 8 → tw_A E s a b w j = false) (H : ∀ zh', post (-3) (fc, nI S, nI P, ff, fo, en, kn, ru, yk, yc, yt, op, qs, qf, ql, bo, nm, ow, zh')) : wpY_withdraw post (fc, nI S, nI P, ff, fo, en, kn, ru, yk, yc, yt, op, qs, qf, ql, bo, nm, ow, zh) (nI s) (nI a) (nI b) (tc_b w) :=
  yw_wd2 hs hS ha hb hP hab hE iE (fun _ => H) (fun ⟨j, h1, h2⟩ => by rw [hn j h1] at h2; cases h2)
theorem yw_wd_f {post : Int32 → SY → Prop} {E R : Nat → Option Nat} {D : Nat → Nat → Bool} {L : List Nat} {C S P s a b : Nat} {w : Bool} (hC : C ≤ 4) (hs : s < S) (hS : S ≤ 4) (ha : a < P) (hb : b < P) (hP : P ≤ 8) (hab : a ≤ b) (hE : tr_yE E en) (iE : tr_iE E) (hR : tr_R R ru) (iR : tr_iR C S R) (hO : tr_yO D op) (iL : tr_iL L D) (hy : ¬ ∀ j, j < 8 → tw_A E s a b w j = false) (hr : ¬ ∀ c, c < 4 → ¬ R c = some s) (h8 : ∀ j, j < 8 → j ∈ L) (H : ∀ zh', post (-8) (nI C, nI S, nI P, ff, fo, en, kn, ru, yk, yc, yt, op, qs, qf, ql, bo, nm, ow, zh')) : wpY_withdraw post (nI C, nI S, nI P, ff, fo, en, kn, ru, yk, yc, yt, op, qs, qf, ql, bo, nm, ow, zh) (nI s) (nI a) (nI b) (tc_b w) := by
  refine yw_wd2 hs hS ha hb hP hab hE iE (fun y => absurd y hy) (fun _ zh' _ => ?_)
  refine ⟨C + 1, yw_145 (post := post) hC hS (by omega) hR iR (fun _ => ?_) (fun y => absurd y hr) C 0 (by omega) false (fun y => by cases y) (fun _ j hj => by omega)⟩
  refine ⟨9, yw_181 (post := post) (L := L) hO iL (fun q hq => ?_) 8 (Nat.le_refl 8) none (fun j h1 h2 => by omega)⟩
  refine br_f (by decide) ?_
  cases q with
  | none => exact br_f (by decide) (H zh')
  | some t => exact absurd (h8 t hq.2.1) hq.2.2.1
theorem yw_wd_0 {post : Int32 → SY → Prop} {E K R : Nat → Option Nat} {D N : Nat → Nat → Bool} {L : List Nat} {C S P s a b : Nat} {w : Bool} (hC : C ≤ 4) (hs : s < S) (hS : S ≤ 4) (ha : a < P) (hb : b < P) (hP : P ≤ 8) (hab : a ≤ b) (hE : tr_yE E en) (iE : tr_iE E) (hK : tr_yK K kn) (hR : tr_R R ru) (iR : tr_iR C S R) (hO : tr_yO D op) (hN : tr_yN N nm) (iL : tr_iL L D) (iN : tr_iN D N) (hy : ¬ ∀ j, j < 8 → tw_A E s a b w j = false) (hr : ∀ c, c < 4 → ¬ R c = some s) (H : ∀ en' kn' zh', tr_yE (tw_E E s (tw_A E s a b w) w) en' → tr_yK (tw_K K R s C) kn' → post 8 (nI C, nI S, nI P, ff, fo, en', kn', ru, yk, yc, tc_clr (tw_E E s (tw_A E s a b w) w) N yt, op, qs, qf, ql, bo, nm, ow, zh')) : wpY_withdraw post (nI C, nI S, nI P, ff, fo, en, kn, ru, yk, yc, yt, op, qs, qf, ql, bo, nm, ow, zh) (nI s) (nI a) (nI b) (tc_b w) := by
  refine yw_wd2 hs hS ha hb hP hab hE iE (fun y => absurd y hy) (fun _ zh' hz => ?_)
  refine ⟨C + 1, yw_145 (post := post) hC hS (by omega) hR iR (fun ⟨c, y1, y2⟩ => absurd y2 (hr c y1)) (fun _ => ?_) C 0 (by omega) false (fun y => by cases y) (fun _ j hj => by omega)⟩
  refine ⟨9, yw_181 (post := post) (L := L) hO iL (fun q hq => ?_) 8 (Nat.le_refl 8) none (fun j h1 h2 => by omega)⟩
  refine br_t rfl ⟨9, yw_222_0 (post := post) (E := E) (A := tw_A E s a b w) (by omega) iE (fun j _ z => (tw_A_so z).2.2) hz (fun en' h1 => ?_) 8 0 (by omega) en (by rw [tw_En_0]; exact hE)⟩
  refine ⟨C + 1, yw_320 (post := post) (K := K) hC hS (by omega) hR iR (fun kn' h2 => ?_) C 0 (by omega) kn (by rw [tw_K_0]; exact hK)⟩
  refine br_t (nI_le (Nat.le_refl C) (by omega)) (br_t rfl ?_)
  unfold wY_withdraw_457
  refine yw_cf h1 (tw_iE iE) hO hN iN ?_
  exact br_t rfl (H en' kn' zh' h1 h2)
theorem yw_wd_1 {post : Int32 → SY → Prop} {E K R : Nat → Option Nat} {D N : Nat → Nat → Bool} {L : List Nat} {C S P s a b o t : Nat} {w : Bool} (hC : C ≤ 4) (hs : s < S) (hS : S ≤ 4) (ha : a < P) (hb : b < P) (hP : P ≤ 8) (hab : a ≤ b) (hE : tr_yE E en) (iE : tr_iE E) (hK : tr_yK K kn) (hR : tr_R R ru) (iR : tr_iR C S R) (hO : tr_yO D op) (hD : tr_yD D ow) (hN : tr_yN N nm) (iL : tr_iL L D) (iN : tr_iN D N) (hy : ¬ ∀ j, j < 8 → tw_A E s a b w j = false) (hr : ¬ ∀ c, c < 4 → ¬ R c = some s) (ht : t < 8) (htL : ¬ t ∈ L) (htj : ∀ j, j < t → j ∈ L) (H : ∀ en' kn' op' nm' ow' zh', tr_yE (tw_E E s (tw_A E s a b w) w) en' → tr_yK (tw_K K R s C) kn' → tr_yO (tw_D D R s t 4) op' → tr_yN (tc_ad N t (tc_nf E s (tw_A E s a b w) 8) 16) nm' → tr_yD (tw_D D R s t 4) ow' → post (nI t) (nI C, nI S, nI P, ff, lN (o + 1), en', kn', ru, yk, yc, tc_clr (tw_E E s (tw_A E s a b w) w) (tc_ad N t (tc_nf E s (tw_A E s a b w) 8) 16) yt, op', upd qs t (nI s), upd qf t (nI a), upd ql t (nI b), vp_updL bo t (lN o), nm', ow', zh')) : wpY_withdraw post (nI C, nI S, nI P, ff, lN o, en, kn, ru, yk, yc, yt, op, qs, qf, ql, bo, nm, ow, zh) (nI s) (nI a) (nI b) (tc_b w) := by
  have hin : vp_in (nI t) 8 := vp_in_nI ht (by omega)
  have anT : tc_an (tw_D D R s t 4 t) = true := Classical.byContradiction (fun z => hr (fun c hc e => z (tc_an_t.mpr ⟨c, hc, by rw [tw_D_t hc]; exact decide_eq_true e⟩)))
  have anF : tc_an (D t) = false := by
    cases z : tc_an (D t) with
    | false => rfl
    | true => exact absurd ((iL.2 t).mpr ⟨ht, z⟩) htL
  have hN0 : ∀ f, f < 16 → N t f = false := fun f hf => by
    cases z : N t f with
    | false => rfl
    | true => rw [iN t f ht hf z] at anF; cases anF
  have hO' : tr_yO (tw_D D R s t 4) (upd op t 1) := by
    intro u hu
    by_cases q : u = t
    · rw [q, pk_us, anT]; rfl
    · rw [pk_un q, hO u hu, tc_an_c (g' := D u) (fun b _ => tw_D_o q)]
  have iN' : tr_iN (tw_D D R s t 4) (tc_ad N t (tc_nf E s (tw_A E s a b w) 8) 16) := by
    intro u f hu hf z
    by_cases q : u = t
    · rw [q]; exact anT
    · rw [tc_ad_o q] at z
      rw [tc_an_c (g' := D u) (fun b _ => tw_D_o q)]
      exact iN u f hu hf z
  refine yw_wd2 hs hS ha hb hP hab hE iE (fun y => absurd y hy) (fun _ zh' hz => ?_)
  refine ⟨C + 1, yw_145 (post := post) hC hS (by omega) hR iR (fun _ => ?_) (fun y => absurd y hr) C 0 (by omega) false (fun y => by cases y) (fun _ j hj => by omega)⟩
  refine ⟨9, yw_181 (post := post) (L := L) hO iL (fun q hq => ?_) 8 (Nat.le_refl 8) none (fun j h1 h2 => by omega)⟩
  refine br_f (by decide) ?_
  have eq : q = some t := by
    cases q with
    | none => exact absurd (hq t (Nat.zero_le t) ht) htL
    | some t' =>
      have h1 : ¬ t' < t := fun z => hq.2.2.1 (htj t' z)
      have h2 : ¬ t < t' := fun z => htL (hq.2.2.2 t (Nat.zero_le t) z)
      rw [show t' = t from by omega]
  subst eq
  refine br_t (nI_pos' (by omega)) ⟨9, yw_222_1 (post := post) (E := E) (N := N) (A := tw_A E s a b w) (by omega) ht iE (fun j _ z => (tw_A_so z).2.2) hz (fun en' nm' h1 h3 => ?_) 8 0 (by omega) en nm (by rw [tw_En_0]; exact hE) (fun u f hu hf => ?_)⟩
  · refine ⟨C + 1, yw_320 (post := post) (K := K) hC hS (by omega) hR iR (fun kn' h2 => ?_) C 0 (by omega) kn (by rw [tw_K_0]; exact hK)⟩
    refine br_t (nI_le (Nat.le_refl C) (by omega)) (br_f (by decide) ?_)
    refine And.intro hin (nm_r (e' := upd op t 1) (by rw [tb_n1, tb_up _ _ (by omega)]) (And.intro hin (nm_r (tb_up qs _ (by omega)) (And.intro hin (nm_r (tb_up qf _ (by omega)) (And.intro hin (nm_r (tb_up ql _ (by omega)) (nm_r (lN_1 o) (And.intro hin (nm_r (e' := vp_updL bo t (lN o)) (by rw [nI_clamp (by omega)]) ?_))))))))))
    refine ⟨C + 1, yw_414 (post := post) (D := D) hC hS (by omega) ht hR iR (fun ow' h4 => ?_) C 0 (by omega) ow (fun u b hu hb => ?_)⟩
    · unfold wY_withdraw_457
      refine yw_cf h1 (tw_iE iE) hO' h3 iN' ?_
      refine br_f (by decide) (H en' kn' _ nm' ow' zh' h1 h2 hO' h3 (fun u b hu hb => ?_))
      rw [h4 u b hu hb]
      unfold tw_D
      by_cases q : u = t
      · rw [if_pos (c := u = t ∧ b < 4) ⟨q, hb⟩]
        by_cases q2 : b < C
        · rw [if_pos ⟨q, q2⟩]
        · rw [if_neg (fun y => q2 y.2), q, tc_an_f.mp anF b hb, decide_eq_false (fun y => q2 (iR b s hb y).1)]
      · rw [if_neg (fun y => q y.1), if_neg (fun y => q y.1)]
    · rw [hD u b hu hb]
      exact congrArg tc_b (if_neg (fun y => by omega)).symm
  · rw [hN u f hu hf]
    by_cases q : u = t
    · rw [q, tc_ad_t hf, hN0 f hf]; rfl
    · rw [tc_ad_o q]
end
end
section
/-! the reading calls -/
def tw_s (g : Nat → Bool) : Nat → Int32
  | 0 => 0
  | c + 1 => tw_s g c + (if g c = true then (1 : Int32) <<< (nI c &&& 31) else 0)
theorem tw_s4 : ∀ b0 b1 b2 b3 : Bool, ∀ q, q < 32 → bt ((((0 + (if b0 = true then (1 : Int32) <<< (nI 0 &&& 31) else 0)) + (if b1 = true then (1 : Int32) <<< (nI 1 &&& 31) else 0)) + (if b2 = true then (1 : Int32) <<< (nI 2 &&& 31) else 0)) + (if b3 = true then (1 : Int32) <<< (nI 3 &&& 31) else 0)) q = (if q = 0 then b0 else if q = 1 then b1 else if q = 2 then b2 else if q = 3 then b3 else false) := by decide +kernel
theorem tw_s_ob {D : Nat → Nat → Bool} {ob : Nat → Int32} (h : tr_xO D ob) {t : Nat} (ht : t < 8) : tw_s (D t) 4 = ob t := by
  apply b_ext
  intro q hq
  rw [h t q ht]
  show bt ((((0 + (if D t 0 = true then (1 : Int32) <<< (nI 0 &&& 31) else 0)) + (if D t 1 = true then (1 : Int32) <<< (nI 1 &&& 31) else 0)) + (if D t 2 = true then (1 : Int32) <<< (nI 2 &&& 31) else 0)) + (if D t 3 = true then (1 : Int32) <<< (nI 3 &&& 31) else 0)) q = _
  rw [tw_s4 (D t 0) (D t 1) (D t 2) (D t 3) q hq]
  by_cases e0 : q = 0
  · subst e0; rfl
  · by_cases e1 : q = 1
    · subst e1; rfl
    · by_cases e2 : q = 2
      · subst e2; rfl
      · by_cases e3 : q = 3
        · subst e3; rfl
        · rw [if_neg e0, if_neg e1, if_neg e2, if_neg e3, decide_eq_false (by omega)]; rfl
section
variable {fc fs fp ff : Int32} {fo : Int64} {en kn ru yk yc yt op qs qf ql : Nat → Int32} {bo : Nat → Int64} {nm ow zh : Nat → Int32}
theorem yw_wt {post : Int32 → Prop} {D : Nat → Nat → Bool} {t : Nat} (ht : t < 8) (hO : tr_yO D op) (hD : tr_yD D ow) (H : post (tw_s (D t) 4)) : ∀ d c, c + d = 4 → wY_waiting_16 post (nI t) fc fs fp ff fo en kn ru yk yc yt op qs qf ql bo nm ow zh (d + 1) (tw_s (D t) c) (nI c) := by
  intro d
  induction d with
  | zero =>
    intro c e
    obtain rfl : c = 4 := by omega
    exact br_t (nI_le (Nat.le_refl 4) (by decide)) H
  | succ d ih =>
    intro c e
    have hc : c < 4 := by omega
    have go : D t c = false → wY_waiting_16 post (nI t) fc fs fp ff fo en kn ru yk yc yt op qs qf ql bo nm ow zh (d + 1) (tw_s (D t) c) (nI (c + 1)) := fun z => by
      have h := ih (c + 1) (by omega)
      have e2 : tw_s (D t) (c + 1) = tw_s (D t) c := by
        show tw_s (D t) c + (if D t c = true then (1 : Int32) <<< (nI c &&& 31) else 0) = _
        rw [z, if_neg (by decide), Int32.add_zero]
      rw [e2] at h
      exact h
    refine br_f (nI_ge (a := c) (b := 4) hc (by decide)) (And.intro (vp_in_nI ht (by omega)) ?_)
    rw [tb_rd op (by omega), hO t ht]
    cases z : tc_an (D t) with
    | false => exact br_t rfl (nm_r (nI_1 c) (go (tc_an_f.mp z c hc)))
    | true =>
      refine br_f (by decide) (And.intro (tb_in4 (by omega) (by omega)) ?_)
      rw [tb_rd4 ow (by omega), hD t c ht hc]
      cases w : D t c with
      | false => exact br_t rfl (nm_r (nI_1 c) (go w))
      | true =>
        refine br_f (by decide) (nm_r (e' := tw_s (D t) (c + 1)) ?_ (nm_r (nI_1 c) (ih (c + 1) (by omega))))
        show _ = tw_s (D t) c + (if D t c = true then (1 : Int32) <<< (nI c &&& 31) else 0)
        rw [w, if_pos rfl]
end
theorem i_vc_entry {k : Nat} {u : SX} {v : SY} (I : i_Rel k u v) (hk : k + 5 ≤ 2564) (v1 : Int32) (v2 : Int32) : wpX_entry (fun r => wpY_entry (fun r' => r' = r ∧ i_Rel (k + 5) u v) v v1 v2) u v1 v2 := by
  refine tr_el (M := fun u v => wpX_entry (fun r => wpY_entry (fun r' => r' = r ∧ i_Rel (k + 5) u v) v v1 v2) u v1 v2) I ?_
  intro C S P F E K V R L D N sp fi la B o mp wp ef nc ct so wk wc rn kp kc rs rp rf ob ao en kn yk op qf ql bo nm ow zh ho a
  have a0 := a
  obtain ⟨hd, hE, gE, iE, hN, hF, hR, hQ, iR, hV, gV, hK, gK, hA, hO, hX, hP, gO, gD, gN, gP, gB, iL, iN, iP, iB, sK, sW⟩ := a
  obtain ⟨c1, c4, s1, s4, p1, p8, f1, f16⟩ := id hd
  have J := i_up (tr_in (zh := zh) ho a0)
  unfold wpX_entry
  by_cases h : tb_ok v1 S ∧ tb_ok v2 P
  · obtain ⟨⟨s, hs, rfl⟩, ⟨p, hp, rfl⟩⟩ := h
    refine xw_be_ok hs s4 hp p8 (br_t rfl ?_)
    have hb := hE.1 s p (by omega) (by omega)
    cases e : E (s * 8 + p) with
    | none =>
      rw [e] at hb
      refine xw_im_f (by omega) (by omega) hb (br_t rfl ?_)
      exact yw_en_n gE hs s4 hp p8 e ⟨rfl, J⟩
    | some q =>
      rw [e] at hb
      refine xw_im_t (by omega) (by omega) hb (br_f (by decide) ?_)
      refine xw_ec (k := q) (by omega) (by omega) (iE _ q (by omega) e) (hE.2.2.2 _ q (by omega) e) ?_ ?_
      · rw [hE.2.1 s p (by omega) (by omega), e]; rfl
      · exact yw_en_s gE iE hs s4 hp p8 e ⟨rfl, J⟩
  · refine xw_be_no h s4 p8 (br_f (by decide) ?_)
    exact yw_en_b h s4 p8 ⟨rfl, J⟩
theorem i_vc_knows {k : Nat} {u : SX} {v : SY} (I : i_Rel k u v) (hk : k + 5 ≤ 2564) (v1 : Int32) (v2 : Int32) (v3 : Int32) : wpX_knows (fun r => wpY_knows (fun r' => r' = r ∧ i_Rel (k + 5) u v) v v1 v2 v3) u v1 v2 v3 := by
  refine tr_el (M := fun u v => wpX_knows (fun r => wpY_knows (fun r' => r' = r ∧ i_Rel (k + 5) u v) v v1 v2 v3) u v1 v2 v3) I ?_
  intro C S P F E K V R L D N sp fi la B o mp wp ef nc ct so wk wc rn kp kc rs rp rf ob ao en kn yk op qf ql bo nm ow zh ho a
  have a0 := a
  obtain ⟨hd, hE, gE, iE, hN, hF, hR, hQ, iR, hV, gV, hK, gK, hA, hO, hX, hP, gO, gD, gN, gP, gB, iL, iN, iP, iB, sK, sW⟩ := a
  obtain ⟨c1, c4, s1, s4, p1, p8, f1, f16⟩ := id hd
  have J := i_up (tr_in (zh := zh) ho a0)
  unfold wpX_knows wpY_knows
  by_cases h1 : tb_ok v1 C
  · obtain ⟨c, hc, rfl⟩ := h1
    refine xw_b_ok hc (by omega) (br_t rfl ?_)
    by_cases h : tb_ok v2 S ∧ tb_ok v3 P
    · obtain ⟨⟨s, hs, rfl⟩, ⟨p, hp, rfl⟩⟩ := h
      refine xw_be_ok hs s4 hp p8 (br_t rfl ?_)
      have hb := hK.1 (c * 4 + s) p (by omega) (by omega)
      have hy : kn ((nI c * 4 + nI s) * 8 + nI p).toNatClampNeg = tc_o (K ((c * 4 + s) * 8 + p)) := by rw [tb_rd48 kn (by omega), gK _ (by omega)]
      cases e : K ((c * 4 + s) * 8 + p) with
      | none =>
        rw [e] at hb hy
        refine xw_ho_f (by omega) (by omega) (by omega) hb (br_t rfl ?_)
        refine yw_b_ok hc (by omega) (br_t rfl ?_)
        refine yw_b_ok hs (by omega) (br_t rfl ?_)
        refine yw_b_ok hp (by omega) (br_t rfl ?_)
        exact And.intro (tb_in48 (by omega) (by omega)) (nm_r hy (br_f (by decide) ⟨rfl, J⟩))
      | some q =>
        have hq := (sK c s p q (by omega) (by omega) (by omega) e).1
        rw [e] at hb hy
        refine xw_ho_t (by omega) (by omega) (by omega) hb (br_f (by decide) ?_)
        refine xw_hc (by omega) (by omega) (by omega) ?_
        rw [hK.2 _ q (by omega) e]
        refine yw_b_ok hc (by omega) (br_t rfl ?_)
        refine yw_b_ok hs (by omega) (br_t rfl ?_)
        refine yw_b_ok hp (by omega) (br_t rfl ?_)
        exact And.intro (tb_in48 (by omega) (by omega)) (nm_r hy (br_t (nI_pos' (by omega)) ⟨rfl, J⟩))
    · refine xw_be_no h s4 p8 (br_f (by decide) ?_)
      refine yw_b_ok hc (by omega) (br_t rfl ?_)
      by_cases h2 : tb_ok v2 S
      · obtain ⟨s, hs, rfl⟩ := h2
        refine yw_b_ok hs (by omega) (br_t rfl ?_)
        exact yw_b_no (fun z => h ⟨⟨s, hs, rfl⟩, z⟩) (by omega) (br_f (by decide) ⟨rfl, J⟩)
      · exact yw_b_no h2 (by omega) (br_f (by decide) ⟨rfl, J⟩)
  · refine xw_b_no h1 (by omega) (br_f (by decide) ?_)
    exact yw_b_no h1 (by omega) (br_f (by decide) ⟨rfl, J⟩)
theorem i_vc_waiting {k : Nat} {u : SX} {v : SY} (I : i_Rel k u v) (hk : k + 5 ≤ 2564) (v1 : Int32) : wpX_waiting (fun r => wpY_waiting (fun r' => r' = r ∧ i_Rel (k + 5) u v) v v1) u v1 := by
  refine tr_el (M := fun u v => wpX_waiting (fun r => wpY_waiting (fun r' => r' = r ∧ i_Rel (k + 5) u v) v v1) u v1) I ?_
  intro C S P F E K V R L D N sp fi la B o mp wp ef nc ct so wk wc rn kp kc rs rp rf ob ao en kn yk op qf ql bo nm ow zh ho a
  have a0 := a
  obtain ⟨hd, hE, gE, iE, hN, hF, hR, hQ, iR, hV, gV, hK, gK, hA, hO, hX, hP, gO, gD, gN, gP, gB, iL, iN, iP, iB, sK, sW⟩ := a
  obtain ⟨c1, c4, s1, s4, p1, p8, f1, f16⟩ := id hd
  have J := i_up (tr_in (zh := zh) ho a0)
  unfold wpX_waiting wpY_waiting
  by_cases h : tb_ok v1 8
  · obtain ⟨t, ht, rfl⟩ := h
    refine xw_b_ok (n := 8) ht (by omega) (br_t rfl (And.intro (vp_in_nI ht (by omega)) ?_))
    refine yw_b_ok (n := 8) ht (by omega) (br_t rfl ?_)
    refine ⟨5, yw_wt ht gO gD ⟨?_, J⟩ 4 0 (by omega)⟩
    rw [tw_s_ob hO ht, tb_rd ob (by omega)]
  · refine xw_b_no (n := 8) h (by omega) (br_f (by decide) ?_)
    exact yw_b_no (n := 8) h (by omega) (br_f (by decide) ⟨rfl, J⟩)
theorem i_vc_frame {k : Nat} {u : SX} {v : SY} (I : i_Rel k u v) (hk : k + 5 ≤ 2564) (v1 : Int32) : wpX_frame (fun r => wpY_frame (fun r' => r' = r ∧ i_Rel (k + 5) u v) v v1) u v1 := by
  refine tr_el (M := fun u v => wpX_frame (fun r => wpY_frame (fun r' => r' = r ∧ i_Rel (k + 5) u v) v v1) u v1) I ?_
  intro C S P F E K V R L D N sp fi la B o mp wp ef nc ct so wk wc rn kp kc rs rp rf ob ao en kn yk op qf ql bo nm ow zh ho a
  have a0 := a
  obtain ⟨hd, hE, gE, iE, hN, hF, hR, hQ, iR, hV, gV, hK, gK, hA, hO, hX, hP, gO, gD, gN, gP, gB, iL, iN, iP, iB, sK, sW⟩ := a
  obtain ⟨c1, c4, s1, s4, p1, p8, f1, f16⟩ := id hd
  have J := i_up (tr_in (zh := zh) ho a0)
  unfold wpX_frame wpY_frame
  by_cases h : tb_ok v1 F
  · obtain ⟨f, hf, rfl⟩ := h
    refine xw_b_ok hf (by omega) (br_t rfl (And.intro (vp_in_nI (by omega) (by omega)) ?_))
    have hl := tc_c_le E N f
    by_cases z : tc_c E N f = 0
    · refine br_t (by rw [tb_rd nc (by omega), hN f (by omega), z]; rfl) ?_
      refine yw_b_ok hf (by omega) (br_t rfl ?_)
      exact yw_fr_t gE iE gO gN iN (by omega) z (br_f (by decide) ⟨rfl, J⟩)
    · refine br_f (by rw [tb_rd nc (by omega), hN f (by omega)]; exact nI_ne0 (by omega) (by omega)) (And.intro (vp_in_nI (by omega) (by omega)) ?_)
      refine yw_b_ok hf (by omega) (br_t rfl ?_)
      exact yw_fr_f gE iE gO gN iN (by omega) z (br_t rfl (And.intro (vp_in_nI (by omega) (by omega)) ⟨rfl, J⟩))
  · refine xw_b_no h (by omega) (br_f (by decide) ?_)
    exact yw_b_no h (by omega) (br_f (by decide) ⟨rfl, J⟩)
theorem i_vc_coreState {k : Nat} {u : SX} {v : SY} (I : i_Rel k u v) (hk : k + 5 ≤ 2564) (v1 : Int32) : wpX_coreState (fun r => wpY_coreState (fun r' => r' = r ∧ i_Rel (k + 5) u v) v v1) u v1 := by
  refine tr_el (M := fun u v => wpX_coreState (fun r => wpY_coreState (fun r' => r' = r ∧ i_Rel (k + 5) u v) v v1) u v1) I ?_
  intro C S P F E K V R L D N sp fi la B o mp wp ef nc ct so wk wc rn kp kc rs rp rf ob ao en kn yk op qf ql bo nm ow zh ho a
  have a0 := a
  obtain ⟨hd, hE, gE, iE, hN, hF, hR, hQ, iR, hV, gV, hK, gK, hA, hO, hX, hP, gO, gD, gN, gP, gB, iL, iN, iP, iB, sK, sW⟩ := a
  obtain ⟨c1, c4, s1, s4, p1, p8, f1, f16⟩ := id hd
  have J := i_up (tr_in (zh := zh) ho a0)
  unfold wpX_coreState wpY_coreState
  by_cases h : tb_ok v1 C
  · obtain ⟨c, hc, rfl⟩ := h
    have hc4 : c < 4 := by omega
    have hso := hR c hc4
    cases e : R c with
    | none =>
      rw [e] at hso
      refine xw_cr_i hc c4 hso (br_f (by decide) ?_)
      refine yw_b_ok hc (by omega) (br_t rfl (And.intro (vp_in_nI hc4 (by omega)) (br_f ?_ ⟨rfl, J⟩)))
      rw [tb_rd so (by omega), hso]; decide
    | some s =>
      have hs := iR c s hc4 e
      rw [e] at hso
      refine xw_cr_r hc c4 (s := s) (by omega) hso (br_t rfl ?_)
      refine xw_oo hO hA iL hc4 (And.intro (vp_in_nI hc4 (by omega)) (And.intro (vp_in_nI hc4 (by omega)) ?_))
      refine yw_b_ok hc (by omega) (br_t rfl (And.intro (vp_in_nI hc4 (by omega)) (br_t ?_ (And.intro (vp_in_nI hc4 (by omega)) ?_))))
      · rw [tb_rd so (by omega), hso]; exact nI_pos' (by omega)
      rw [tb_rd yk (by omega), gV c hc4, tb_rd wk (by omega), hV c hc4]
      cases w : V c with
      | none =>
        refine br_f (by decide) (And.intro (vp_in_nI hc4 (by omega)) ?_)
        exact yw_ol gO gD gB iL iB (by omega) hc4 ⟨rfl, J⟩
      | some p =>
        have hp := (sW c p hc4 w).1
        refine br_t (nI_pos' (by omega)) (And.intro (vp_in_nI hc4 (by omega)) (And.intro (vp_in_nI hc4 (by omega)) ?_))
        exact yw_ol gO gD gB iL iB (by omega) hc4 ⟨rfl, J⟩
  · refine xw_cr_b h c4 (br_f (by decide) ?_)
    exact yw_b_no h (by omega) (br_f (by decide) ⟨rfl, J⟩)
end
section
/-! map, share, grant -/
theorem tr_mk {C S P F : Nat} {E K V R : Nat → Option Nat} {L : List Nat} {D N : Nat → Nat → Bool} {sp fi la B : Nat → Nat} {o : Nat} {mp wp ef nc ct so wk wc rn kp kc rs rp rf ob ao en kn yk op qf ql : Nat → Int32} {bo : Nat → Int64} {nm ow : Nat → Int32} (hd : tr_d C S P F) (hE : tr_xE E mp wp ef) (gE : tr_yE E en) (iE : tr_iE E) (hN : tr_xN E N nc) (hF : tr_iF E N ct) (hR : tr_R R so) (hQ : tr_xR R rn) (iR : tr_iR C S R) (hV : tr_xW V wk) (gV : tr_yW V yk) (hK : tr_xK K kp kc) (gK : tr_yK K kn) (hA : tr_xA L ao) (hO : tr_xO D ob) (hX : tr_xF N rf) (hP : tr_xP L fi la rp) (gO : tr_yO D op) (gD : tr_yD D ow) (gN : tr_yN N nm) (gP : tr_yP L fi la qf ql) (gB : tr_yB L B bo) (iL : tr_iL L D) (iN : tr_iN D N) (iP : tr_iP L sp fi la rs) (iB : tr_iB L B o) (sK : tr_sK C E R K D N sp fi la) (sW : tr_sW E R V D N sp fi la wc) : tr_all C S P F E K V R L D N sp fi la B o mp wp ef nc ct so wk wc rn kp kc rs rp rf ob ao en kn yk op qf ql bo nm ow := by
  unfold tr_all
  exact ⟨hd, hE, gE, iE, hN, hF, hR, hQ, iR, hV, gV, hK, gK, hA, hO, hX, hP, gO, gD, gN, gP, gB, iL, iN, iP, iB, sK, sW⟩
theorem te_bz (v : Int32) : ∃ w : Bool, lw_bz v = tc_b w := by
  rcases lw_bz_01 v with h | h
  · exact ⟨false, h⟩
  · exact ⟨true, h⟩
theorem te_nm {E : Nat → Option Nat} {i q : Nat} (h : ∀ f, tc_nm (E i) f = true → q / 2 = f) : ∀ j f, tc_nm (E j) f = true → tc_nm (tc_u E i (some q) j) f = true := by
  intro j f z
  by_cases e : j = i
  · subst e; rw [tc_us]; exact tc_nm_s.mpr (h f z)
  · rw [tc_un e]; exact z
theorem te_sf {E E' R : Nat → Option Nat} {D N : Nat → Nat → Bool} {sp fi la : Nat → Nat} {c s p f : Nat} (h : ∀ j f, tc_nm (E j) f = true → tc_nm (E' j) f = true) (z : tr_sf E R D N sp fi la c s p f) : tr_sf E' R D N sp fi la c s p f := by
  rcases z with z | z
  · exact Or.inl (h _ f z)
  · exact Or.inr z
theorem te_sK {C : Nat} {E E' R K : Nat → Option Nat} {D N : Nat → Nat → Bool} {sp fi la : Nat → Nat} (h : ∀ j f, tc_nm (E j) f = true → tc_nm (E' j) f = true) (z : tr_sK C E R K D N sp fi la) : tr_sK C E' R K D N sp fi la :=
  fun c s p k h1 h2 h3 h4 => ⟨(z c s p k h1 h2 h3 h4).1, (z c s p k h1 h2 h3 h4).2.1, te_sf h (z c s p k h1 h2 h3 h4).2.2⟩
theorem te_sW {E E' R V : Nat → Option Nat} {D N : Nat → Nat → Bool} {sp fi la : Nat → Nat} {wc : Nat → Int32} (h : ∀ j f, tc_nm (E j) f = true → tc_nm (E' j) f = true) (z : tr_sW E R V D N sp fi la wc) : tr_sW E' R V D N sp fi la wc := by
  intro c p h1 h2
  obtain ⟨g1, s, k, g2, g3, g4, g5⟩ := z c p h1 h2
  exact ⟨g1, s, k, g2, g3, g4, te_sf h g5⟩
theorem te_yE {E : Nat → Option Nat} {en : Nat → Int32} (h : tr_yE E en) (i : Nat) (o : Option Nat) {x : Int32} (hx : x = tc_o o) : tr_yE (tc_u E i o) (upd en i x) := by
  intro j hj
  by_cases e : j = i
  · subst e; rw [pk_us, tc_us, hx]
  · rw [pk_un e, tc_un e, h j hj]
theorem te_iE {E : Nat → Option Nat} (h : tr_iE E) (i : Nat) {q : Nat} (hq : q < 32) : tr_iE (tc_u E i (some q)) := by
  intro j k hj e
  by_cases z : j = i
  · subst z; rw [tc_us] at e; cases e; exact hq
  · rw [tc_un z] at e; exact h j k hj e
theorem te_iF {E E' : Nat → Option Nat} {N : Nat → Nat → Bool} {ct : Nat → Int32} (h : ∀ j f, tc_nm (E j) f = true → tc_nm (E' j) f = true) (z : tr_iF E N ct) : tr_iF E' N ct :=
  fun f hf e => z f hf (tc_c_mono (fun j _ => h j f) (fun _ _ y => y) e)
theorem te_xN {E : Nat → Option Nat} {N : Nat → Nat → Bool} {nc : Nat → Int32} (h : tr_xN E N nc) {i f q : Nat} (hi : i < 32) (hf : f < 16) (e : E i = none) (hq : q / 2 = f) : tr_xN (tc_u E i (some q)) N (upd nc f (nc f + 1)) := by
  have cc := tc_c_rm (E := tc_u E i (some q)) (E' := E) (N := N) (j := i) (k := q) hi (fun j _ hj => (tc_un hj).symm) tc_us e
  intro g hg
  by_cases z : g = f
  · subst z; rw [pk_us, h g hg, nI_1]; subst hq; rw [cc.2]
  · rw [pk_un z, h g hg, cc.1 g (by omega)]
theorem te_xN_k {E : Nat → Option Nat} {N : Nat → Nat → Bool} {nc : Nat → Int32} (h : tr_xN E N nc) {i q k : Nat} (e : E i = some k) (hq : q / 2 = k / 2) : tr_xN (tc_u E i (some q)) N nc := by
  refine tr_xN_c h (fun f _ => tc_c_congr (fun j _ => ?_) (fun _ _ => rfl))
  by_cases z : j = i
  · subst z; rw [tc_us, e]
    show decide (q / 2 = f) = decide (k / 2 = f)
    rw [hq]
  · rw [tc_un z]
theorem te_xE {E : Nat → Option Nat} {mp wp ef : Nat → Int32} (h : tr_xE E mp wp ef) {s p f : Nat} {w : Bool} (hp : p < 8) (e : E (s * 8 + p) = none) : tr_xE (tc_u E (s * 8 + p) (some (f * 2 + w.toNat))) (upd mp s (mp s ||| ((1 : Int32) <<< (nI p &&& 31)))) (if w = true then upd wp s (wp s ||| ((1 : Int32) <<< (nI p &&& 31))) else wp) (upd ef (s * 8 + p) (nI f)) := by
  refine ⟨fun t q ht hq => ?_, fun t q ht hq => ?_, fun t q ht hq => ?_, fun i k hi z => ?_⟩
  · by_cases z : t = s
    · subst z
      rw [pk_us, tb_or1 _ (by omega), h.1 t q ht hq]
      by_cases y : q = p
      · subst y; rw [tc_us]; simp
      · rw [tc_un (by omega), decide_eq_false y, Bool.or_false]
    · rw [pk_un z, tc_un (by omega), h.1 t q ht hq]
  · by_cases z : t = s
    · subst z
      by_cases y : q = p
      · subst y
        rw [tc_us]
        cases w with
        | true =>
          rw [if_pos rfl, pk_us, tb_or1 _ (by omega), decide_eq_true rfl, Bool.or_true]
          exact (decide_eq_true (by show (f * 2 + 1) % 2 = 1; omega)).symm
        | false =>
          rw [if_neg (by decide), h.2.1 t q ht hq, e]
          exact (decide_eq_false (by show ¬ (f * 2 + 0) % 2 = 1; omega)).symm
      · rw [tc_un (by omega)]
        cases w with
        | true => rw [if_pos rfl, pk_us, tb_or1 _ (by omega), decide_eq_false y, Bool.or_false, h.2.1 t q ht hq]
        | false => rw [if_neg (by decide), h.2.1 t q ht hq]
    · rw [tc_un (by omega)]
      cases w with
      | true => rw [if_pos rfl, pk_un z, h.2.1 t q ht hq]
      | false => rw [if_neg (by decide), h.2.1 t q ht hq]
  · by_cases z : t = s
    · subst z
      rw [pk_us, tb_or1 _ (by omega), h.2.2.1 t q ht hq, decide_eq_false (by omega)]; rfl
    · rw [pk_un z, h.2.2.1 t q ht hq]
  · by_cases y : i = s * 8 + p
    · subst y
      rw [tc_us] at z
      cases z
      rw [pk_us]
      have : w.toNat ≤ 1 := Bool.toNat_le w
      exact congrArg nI (by omega)
    · rw [tc_un y] at z
      rw [pk_un y]
      exact h.2.2.2 i k hi z
theorem te_xE_g {E : Nat → Option Nat} {mp wp ef : Nat → Int32} (h : tr_xE E mp wp ef) {s p k : Nat} (hp : p < 8) (hi : s * 8 + p < 32) (e : E (s * 8 + p) = some k) : tr_xE (tc_u E (s * 8 + p) (some (k / 2 * 2 + 1))) mp (upd wp s (wp s ||| ((1 : Int32) <<< (nI p &&& 31)))) ef := by
  refine ⟨fun t q ht hq => ?_, fun t q ht hq => ?_, h.2.2.1, fun i j hi2 z => ?_⟩
  · rw [h.1 t q ht hq]
    by_cases y : t * 8 + q = s * 8 + p
    · rw [y, tc_us, e]; rfl
    · rw [tc_un y]
  · by_cases z : t = s
    · subst z
      rw [pk_us, tb_or1 _ (by omega), h.2.1 t q ht hq]
      by_cases y : q = p
      · subst y
        rw [tc_us, decide_eq_true rfl, Bool.or_true]
        exact (decide_eq_true (by omega)).symm
      · rw [tc_un (by omega), decide_eq_false y, Bool.or_false]
    · rw [pk_un z, tc_un (by omega), h.2.1 t q ht hq]
  · by_cases y : i = s * 8 + p
    · subst y
      rw [tc_us] at z
      cases z
      rw [h.2.2.2 _ k hi2 e]
      exact congrArg nI (by omega)
    · rw [tc_un y] at z
      exact h.2.2.2 i j hi2 z
section
variable {fc fs fp ff : Int32} {fo : Int64} {en kn ru yk yc yt op qs qf ql : Nat → Int32} {bo : Nat → Int64} {nm ow zh : Nat → Int32}
theorem yw_mp {post : Int32 → SY → Prop} {E : Nat → Option Nat} {D N : Nat → Nat → Bool} {F f s p : Nat} {w : Bool} (hE : tr_yE E en) (iE : tr_iE E) (hO : tr_yO D op) (hN : tr_yN N nm) (iN : tr_iN D N) (hf : f < F) (hF : F ≤ 16) (hs : s < 4) (hp : p < 8) (h0 : tc_c E N f = 0) (hj : ∀ j, j < f → ¬ tc_c E N j = 0) (H : post (nI f) (fc, fs, fp, nI F, fo, upd en (s * 8 + p) (nI (f * 2 + w.toNat)), kn, ru, yk, yc, yt, op, qs, qf, ql, bo, nm, ow, zh)) : ∀ d i, i + d = f → wY_map_27 post (nI s) (nI p) (tc_b w) fc fs fp (nI F) fo en kn ru yk yc yt op qs qf ql bo nm ow zh (d + 1) (nI i) := by
  intro d
  induction d with
  | zero =>
    intro i e
    obtain rfl : i = f := by omega
    refine br_f (nI_ge hf (by omega)) ?_
    refine yw_fr_t hE iE hO hN iN (by omega) h0 (br_f (by decide) ?_)
    cases w with
    | false => exact br_t rfl (And.intro (tb_in8 (by omega) (by omega)) (nm_r (e' := upd en (s * 8 + p) (nI (i * 2))) (by rw [tb_up8 _ _ (by omega), tb_x2, Int32.add_zero]) H))
    | true => exact br_f (by decide) (And.intro (tb_in8 (by omega) (by omega)) (nm_r (e' := upd en (s * 8 + p) (nI (i * 2 + 1))) (by rw [tb_up8 _ _ (by omega), tb_x2, nI_1]) H))
  | succ d ih =>
    intro i e
    refine br_f (nI_ge (by omega) (by omega)) ?_
    exact yw_fr_f hE iE hO hN iN (by omega) (hj i (by omega)) (br_t rfl (nm_r (nI_1 i) (ih (i + 1) (by omega))))
theorem yw_mp_n {post : Int32 → SY → Prop} {E : Nat → Option Nat} {D N : Nat → Nat → Bool} {F : Nat} {x1 x2 x3 : Int32} (hE : tr_yE E en) (iE : tr_iE E) (hO : tr_yO D op) (hN : tr_yN N nm) (iN : tr_iN D N) (hF : F ≤ 16) (hj : ∀ j, j < F → ¬ tc_c E N j = 0) (H : post (-7) (fc, fs, fp, nI F, fo, en, kn, ru, yk, yc, yt, op, qs, qf, ql, bo, nm, ow, zh)) : ∀ d i, i + d = F → wY_map_27 post x1 x2 x3 fc fs fp (nI F) fo en kn ru yk yc yt op qs qf ql bo nm ow zh (d + 1) (nI i) := by
  intro d
  induction d with
  | zero =>
    intro i e
    exact br_t (nI_le (by omega) (by omega)) H
  | succ d ih =>
    intro i e
    refine br_f (nI_ge (by omega) (by omega)) ?_
    exact yw_fr_f hE iE hO hN iN (by omega) (hj i (by omega)) (br_t rfl (nm_r (nI_1 i) (ih (i + 1) (by omega))))
end
theorem i_vc_map {k : Nat} {u : SX} {v : SY} (I : i_Rel k u v) (hk : k + 5 ≤ 2564) (v1 : Int32) (v2 : Int32) (v3 : Int32) : wpX_map (fun r u' => wpY_map (fun r' v' => r' = r ∧ i_Rel (k + 5) u' v') v v1 v2 (lw_bz v3)) u v1 v2 (lw_bz v3) := by
  obtain ⟨w, hw⟩ := te_bz v3
  rw [hw]
  refine tr_el (M := fun u v => wpX_map (fun r u' => wpY_map (fun r' v' => r' = r ∧ i_Rel (k + 5) u' v') v v1 v2 (tc_b w)) u v1 v2 (tc_b w)) I ?_
  intro C S P F E K V R L D N sp fi la B o mp wp ef nc ct so wk wc rn kp kc rs rp rf ob ao en kn yk op qf ql bo nm ow zh ho a
  have a0 := a
  obtain ⟨hd, hE, gE, iE, hN, hF, hR, hQ, iR, hV, gV, hK, gK, hA, hO, hX, hP, gO, gD, gN, gP, gB, iL, iN, iP, iB, sK, sW⟩ := a
  obtain ⟨c1, c4, s1, s4, p1, p8, f1, f16⟩ := id hd
  have J := i_up (tr_in (zh := zh) ho a0)
  unfold wpX_map wpY_map
  by_cases h : tb_ok v1 S ∧ tb_ok v2 P
  · obtain ⟨⟨s, hs, rfl⟩, ⟨p, hp, rfl⟩⟩ := h
    refine xw_be_ok hs s4 hp p8 (br_t rfl ?_)
    have hb := hE.1 s p (by omega) (by omega)
    cases e : E (s * 8 + p) with
    | none =>
      rw [e] at hb
      have z0 : ∀ f, f < 16 → (nc f = 0 ↔ tc_c E N f = 0) := fun f hf => by
        have := tc_c_le E N f
        rw [hN f hf, ← nI_0]
        exact nI_eq (by omega) (by omega)
      refine xw_im_f (by omega) (by omega) hb (br_t rfl ?_)
      refine xw_lf f16 (fun f hf h0 hj => ?_) (fun hj => ?_)
      · have h0' := (z0 f (by omega)).mp h0
        have hj' : ∀ j, j < f → ¬ tc_c E N j = 0 := fun j hj2 y => hj j hj2 ((z0 j (by omega)).mpr y)
        have w1 : w.toNat ≤ 1 := Bool.toNat_le w
        have mo : ∀ j g, tc_nm (E j) g = true → tc_nm (tc_u E (s * 8 + p) (some (f * 2 + w.toNat)) j) g = true := te_nm (fun g y => by rw [e] at y; cases y)
        have hE' := te_xE (f := f) (w := w) hE (by omega) e
        refine br_t (nI_pos' (by omega)) ?_
        have fin : ∀ wp', tr_xE (tc_u E (s * 8 + p) (some (f * 2 + w.toNat))) (upd mp s (mp s ||| ((1 : Int32) <<< (nI p &&& 31)))) wp' (upd ef (s * 8 + p) (nI f)) → i_Rel (k + 5) (nI C, nI S, nI P, nI F, nI L.length, upd mp s (mp s ||| ((1 : Int32) <<< (nI p &&& 31))), wp', upd ef (s * 8 + p) (nI f), upd nc f (nc f + 1), ct, so, wk, wc, rn, kp, kc, rs, rp, rf, ob, ao) (nI C, nI S, nI P, nI F, lN o, upd en (s * 8 + p) (nI (f * 2 + w.toNat)), kn, so, yk, wc, ct, op, rs, qf, ql, bo, nm, ow, zh) := fun wp' hw' => tr_in (by omega) (tr_mk hd hw' (te_yE gE _ _ rfl) (te_iE iE _ (by omega)) (te_xN hN (by omega) (by omega) e (by omega)) (te_iF mo hF) hR hQ iR hV gV hK gK hA hO hX hP gO gD gN gP gB iL iN iP iB (te_sK mo sK) (te_sW mo sW))
        cases w with
        | false => 
          refine xw_se0 (by omega) (by omega) (by omega) ?_
          exact yw_en_n gE hs s4 hp p8 e (br_f (by decide) (br_t (by decide) ⟨f + 1, yw_mp gE iE gO gN iN hf f16 (by omega) (by omega) h0' hj' ⟨rfl, fin _ hE'⟩ f 0 (by omega)⟩))
        | true => 
          refine xw_se1 (by omega) (by omega) (by omega) ?_
          exact yw_en_n gE hs s4 hp p8 e (br_f (by decide) (br_t (by decide) ⟨f + 1, yw_mp gE iE gO gN iN hf f16 (by omega) (by omega) h0' hj' ⟨rfl, fin _ hE'⟩ f 0 (by omega)⟩))
      · have hj' : ∀ j, j < F → ¬ tc_c E N j = 0 := fun j hj2 y => hj j hj2 ((z0 j (by omega)).mpr y)
        refine br_f (by decide) ?_
        exact yw_en_n gE hs s4 hp p8 e (br_f (by decide) (br_t (by decide) ⟨F + 1, yw_mp_n gE iE gO gN iN f16 hj' ⟨rfl, J⟩ F 0 (by omega)⟩))
    | some q =>
      have hq : q < 32 := iE _ q (by omega) e
      rw [e] at hb
      refine xw_im_t (by omega) (by omega) hb (br_f (by decide) ?_)
      exact yw_en_s gE iE hs s4 hp p8 e (br_f (fun y => tc_m1 (by omega) y.symm) (br_f (nI_pos (by omega)) ⟨rfl, J⟩))
  · refine xw_be_no h s4 p8 (br_f (by decide) ?_)
    exact yw_en_b h s4 p8 (br_t rfl ⟨rfl, J⟩)
theorem i_vc_share {k : Nat} {u : SX} {v : SY} (I : i_Rel k u v) (hk : k + 5 ≤ 2564) (v1 : Int32) (v2 : Int32) (v3 : Int32) (v4 : Int32) : wpX_share (fun r u' => wpY_share (fun r' v' => r' = r ∧ i_Rel (k + 5) u' v') v v1 v2 v3 v4) u v1 v2 v3 v4 := by
  refine tr_el (M := fun u v => wpX_share (fun r u' => wpY_share (fun r' v' => r' = r ∧ i_Rel (k + 5) u' v') v v1 v2 v3 v4) u v1 v2 v3 v4) I ?_
  intro C S P F E K V R L D N sp fi la B o mp wp ef nc ct so wk wc rn kp kc rs rp rf ob ao en kn yk op qf ql bo nm ow zh ho a
  have a0 := a
  obtain ⟨hd, hE, gE, iE, hN, hF, hR, hQ, iR, hV, gV, hK, gK, hA, hO, hX, hP, gO, gD, gN, gP, gB, iL, iN, iP, iB, sK, sW⟩ := a
  obtain ⟨c1, c4, s1, s4, p1, p8, f1, f16⟩ := id hd
  have J := i_up (tr_in (zh := zh) ho a0)
  unfold wpX_share wpY_share
  by_cases h : tb_ok v1 S ∧ tb_ok v2 P
  · obtain ⟨⟨s, hs, rfl⟩, ⟨p, hp, rfl⟩⟩ := h
    refine xw_be_ok hs s4 hp p8 (br_t rfl ?_)
    by_cases h2 : tb_ok v3 S ∧ tb_ok v4 P
    · obtain ⟨⟨t, ht, rfl⟩, ⟨q, hq, rfl⟩⟩ := h2
      refine xw_be_ok ht s4 hq p8 (br_t rfl ?_)
      have hb := hE.1 s p (by omega) (by omega)
      have hb2 := hE.1 t q (by omega) (by omega)
      cases e : E (s * 8 + p) with
      | none =>
        rw [e] at hb
        refine xw_im_f (by omega) (by omega) hb (br_t rfl ?_)
        refine yw_en_n gE hs s4 hp p8 e ?_
        cases e2 : E (t * 8 + q) with
        | none => exact yw_en_n gE ht s4 hq p8 e2 (br_f (by decide) (br_f (by decide) (br_t rfl ⟨rfl, J⟩)))
        | some x =>
          have hx : x < 32 := iE _ x (by omega) e2
          exact yw_en_s gE iE ht s4 hq p8 e2 (br_f (by decide) (br_f (fun y => tc_m1 (by omega) y.symm) (br_t rfl ⟨rfl, J⟩)))
      | some x =>
        have hx : x < 32 := iE _ x (by omega) e
        have x3 : ¬ nI x = -3 := fun y => absurd (nI_pos' (n := x) (by omega)) (by rw [y]; decide)
        rw [e] at hb
        refine xw_im_t (by omega) (by omega) hb (br_f (by decide) ?_)
        cases e2 : E (t * 8 + q) with
        | some z =>
          have hz : z < 32 := iE _ z (by omega) e2
          rw [e2] at hb2
          refine xw_im_t (by omega) (by omega) hb2 (br_f (by decide) ?_)
          refine yw_en_s gE iE hs s4 hp p8 e ?_
          exact yw_en_s gE iE ht s4 hq p8 e2 (br_f (fun y => tc_m1 (by omega) y.symm) (br_f (fun y => tc_m1 (by omega) y.symm) (br_f x3 (br_f (nI_pos (by omega)) ⟨rfl, J⟩))))
        | none =>
          rw [e2] at hb2
          have mo : ∀ j g, tc_nm (E j) g = true → tc_nm (tc_u E (t * 8 + q) (some (x / 2 * 2 + false.toNat)) j) g = true := te_nm (fun g y => by rw [e2] at y; cases y)
          have hE' := te_xE (f := x / 2) (w := false) hE (by omega) e2
          have fin : i_Rel (k + 5) (nI C, nI S, nI P, nI F, nI L.length, upd mp t (mp t ||| ((1 : Int32) <<< (nI q &&& 31))), wp, upd ef (t * 8 + q) (nI (x / 2)), upd nc (x / 2) (nc (x / 2) + 1), ct, so, wk, wc, rn, kp, kc, rs, rp, rf, ob, ao) (nI C, nI S, nI P, nI F, lN o, upd en (t * 8 + q) (nI (x / 2 * 2)), kn, so, yk, wc, ct, op, rs, qf, ql, bo, nm, ow, zh) := tr_in (by omega) (tr_mk hd hE' (te_yE gE _ _ rfl) (te_iE iE _ (by show x / 2 * 2 + 0 < 32; omega)) (te_xN hN (by omega) (by omega) e2 (by show (x / 2 * 2 + 0) / 2 = x / 2; omega)) (te_iF mo hF) hR hQ iR hV gV hK gK hA hO hX hP gO gD gN gP gB iL iN iP iB (te_sK mo sK) (te_sW mo sW))
          refine xw_im_f (by omega) (by omega) hb2 (br_t rfl (And.intro (tb_in8 (by omega) (by omega)) (nm_r (e' := nI (x / 2)) (by rw [tb_rd8 ef (by omega), hE.2.2.2 _ x (by omega) e]) ?_)))
          refine xw_se0 (by omega) (by omega) (by omega) ?_
          refine yw_en_s gE iE hs s4 hp p8 e ?_
          refine yw_en_n gE ht s4 hq p8 e2 (br_f (fun y => tc_m1 (by omega) y.symm) (br_f (by decide) (br_f x3 (br_t (by decide) (And.intro (by decide) (And.intro (tb_in8 (by omega) (by omega)) (nm_r (e' := upd en (t * 8 + q) (nI (x / 2 * 2))) (by rw [tb_up8 _ _ (by omega), tb_d2 (by omega), tb_x2]) (And.intro (by decide) ⟨?_, fin⟩))))))))
          rw [tb_d2 (by omega)]
    · refine xw_be_no h2 s4 p8 (br_f (by decide) ?_)
      cases e : E (s * 8 + p) with
      | none =>
        refine yw_en_n gE hs s4 hp p8 e ?_
        exact yw_en_b h2 s4 p8 (br_f (by decide) (br_t rfl ⟨rfl, J⟩))
      | some x =>
        have hx : x < 32 := iE _ x (by omega) e
        refine yw_en_s gE iE hs s4 hp p8 e ?_
        exact yw_en_b h2 s4 p8 (br_f (fun y => tc_m1 (by omega) y.symm) (br_t rfl ⟨rfl, J⟩))
  · refine xw_be_no h s4 p8 (br_f (by decide) ?_)
    refine yw_en_b h s4 p8 ?_
    by_cases h2 : tb_ok v3 S ∧ tb_ok v4 P
    · obtain ⟨⟨t, ht, rfl⟩, ⟨q, hq, rfl⟩⟩ := h2
      cases e : E (t * 8 + q) with
      | none => exact yw_en_n gE ht s4 hq p8 e (br_t rfl ⟨rfl, J⟩)
      | some x => exact yw_en_s gE iE ht s4 hq p8 e (br_t rfl ⟨rfl, J⟩)
    · exact yw_en_b h2 s4 p8 (br_t rfl ⟨rfl, J⟩)
theorem i_vc_grant {k : Nat} {u : SX} {v : SY} (I : i_Rel k u v) (hk : k + 5 ≤ 2564) (v1 : Int32) (v2 : Int32) : wpX_grant (fun r u' => wpY_grant (fun r' v' => r' = r ∧ i_Rel (k + 5) u' v') v v1 v2) u v1 v2 := by
  refine tr_el (M := fun u v => wpX_grant (fun r u' => wpY_grant (fun r' v' => r' = r ∧ i_Rel (k + 5) u' v') v v1 v2) u v1 v2) I ?_
  intro C S P F E K V R L D N sp fi la B o mp wp ef nc ct so wk wc rn kp kc rs rp rf ob ao en kn yk op qf ql bo nm ow zh ho a
  have a0 := a
  obtain ⟨hd, hE, gE, iE, hN, hF, hR, hQ, iR, hV, gV, hK, gK, hA, hO, hX, hP, gO, gD, gN, gP, gB, iL, iN, iP, iB, sK, sW⟩ := a
  obtain ⟨c1, c4, s1, s4, p1, p8, f1, f16⟩ := id hd
  have J := i_up (tr_in (zh := zh) ho a0)
  unfold wpX_grant wpY_grant
  by_cases h : tb_ok v1 S ∧ tb_ok v2 P
  · obtain ⟨⟨s, hs, rfl⟩, ⟨p, hp, rfl⟩⟩ := h
    refine xw_be_ok hs s4 hp p8 (br_t rfl ?_)
    have hb := hE.1 s p (by omega) (by omega)
    cases e : E (s * 8 + p) with
    | none =>
      rw [e] at hb
      refine xw_im_f (by omega) (by omega) hb (br_t rfl ?_)
      exact yw_en_n gE hs s4 hp p8 e (br_f (by decide) ⟨rfl, J⟩)
    | some x =>
      have hx : x < 32 := iE _ x (by omega) e
      rw [e] at hb
      have mo : ∀ j g, tc_nm (E j) g = true → tc_nm (tc_u E (s * 8 + p) (some (x / 2 * 2 + 1)) j) g = true := te_nm (fun g y => by rw [e] at y; have := tc_nm_s.mp y; omega)
      have fin : i_Rel (k + 5) (nI C, nI S, nI P, nI F, nI L.length, mp, upd wp s (wp s ||| ((1 : Int32) <<< (nI p &&& 31))), ef, nc, ct, so, wk, wc, rn, kp, kc, rs, rp, rf, ob, ao) (nI C, nI S, nI P, nI F, lN o, upd en (s * 8 + p) (nI (x / 2 * 2 + 1)), kn, so, yk, wc, ct, op, rs, qf, ql, bo, nm, ow, zh) := tr_in (by omega) (tr_mk hd (te_xE_g hE (by omega) (by omega) e) (te_yE gE _ _ rfl) (te_iE iE _ (by omega)) (te_xN_k hN e (by omega)) (te_iF mo hF) hR hQ iR hV gV hK gK hA hO hX hP gO gD gN gP gB iL iN iP iB (te_sK mo sK) (te_sW mo sW))
      refine xw_im_t (by omega) (by omega) hb (br_f (by decide) (And.intro (vp_in_nI (by omega) (by omega)) (And.intro (vp_in_nI (by omega) (by omega)) (nm_r (e' := upd wp s (wp s ||| ((1 : Int32) <<< (nI p &&& 31)))) (by rw [nI_clamp (by omega)]) (And.intro (tb_in8 (by omega) (by omega)) ?_)))))
      rw [tb_rd8 ef (by omega), hE.2.2.2 _ x (by omega) e]
      refine yw_en_s gE iE hs s4 hp p8 e (br_t (nI_pos' (by omega)) (And.intro (by decide) (And.intro (tb_in8 (by omega) (by omega)) (nm_r (e' := upd en (s * 8 + p) (nI (x / 2 * 2 + 1))) (by rw [tb_up8 _ _ (by omega), tb_d2 (by omega), tb_x2, nI_1]) (And.intro (by decide) ⟨?_, fin⟩)))))
      rw [tb_d2 (by omega)]
  · refine xw_be_no h s4 p8 (br_f (by decide) ?_)
    exact yw_en_b h s4 p8 (br_f (by decide) ⟨rfl, J⟩)
end
section
/-! load, store, walk, fill -/
theorem tk_sf {E R : Nat → Option Nat} {D N : Nat → Nat → Bool} {sp fi la : Nat → Nat} {c s p f : Nat} (hs : s < 4) (hp : p < 8) (h : tr_sf E R D N sp fi la c s p f) : ¬ tc_c E N f = 0 := by
  rcases h with h | ⟨_, t, h1, _, _, _, _, h2⟩
  · exact tc_c_posE (by omega) h
  · exact tc_c_posN h1 h2
theorem tk_sK {C : Nat} {E R K : Nat → Option Nat} {D N : Nat → Nat → Bool} {sp fi la : Nat → Nat} (h : tr_sK C E R K D N sp fi la) {c s p q : Nat} (hs : s < 4) (hp : p < 8) (hC : c < C) (hq : q < 32) (hf : tr_sf E R D N sp fi la c s p (q / 2)) : tr_sK C E R (tc_u K ((c * 4 + s) * 8 + p) (some q)) D N sp fi la := by
  intro c' s' p' k h1 h2 h3 h4
  by_cases e : (c' * 4 + s') * 8 + p' = (c * 4 + s) * 8 + p
  · rw [e, tc_us] at h4
    cases h4
    obtain rfl : c' = c := by omega
    obtain rfl : s' = s := by omega
    obtain rfl : p' = p := by omega
    exact ⟨hq, hC, hf⟩
  · rw [tc_un e] at h4
    exact h c' s' p' k h1 h2 h3 h4
theorem tk_sKn {C : Nat} {E R K K' : Nat → Option Nat} {D N : Nat → Nat → Bool} {sp fi la : Nat → Nat} (h : tr_sK C E R K D N sp fi la) (g : ∀ i k, K' i = some k → K i = some k) : tr_sK C E R K' D N sp fi la :=
  fun c s p k h1 h2 h3 h4 => h c s p k h1 h2 h3 (g _ k h4)
theorem tk_xKc {K K' : Nat → Option Nat} {kp kc : Nat → Int32} (h : tr_xK K kp kc) (g : ∀ i, i < 128 → K' i = K i) : tr_xK K' kp kc :=
  ⟨fun j p hj hp => by rw [h.1 j p hj hp, g _ (by omega)], fun i k hi e => h.2 i k hi (by rw [← g i hi]; exact e)⟩
theorem tk_uu {K : Nat → Option Nat} {i : Nat} {a b : Option Nat} : tc_u (tc_u K i a) i b = tc_u K i b := by
  funext j
  by_cases e : j = i
  · subst e; rw [tc_us, tc_us]
  · rw [tc_un e, tc_un e, tc_un e]
theorem tk_un {K : Nat → Option Nat} {i : Nat} {a : Option Nat} (h : K i = a) : tc_u K i a = K := by
  funext j
  by_cases e : j = i
  · subst e; rw [tc_us, h]
  · rw [tc_un e]
theorem tk_le {K : Nat → Option Nat} {i : Nat} : ∀ j k, tc_u K i none j = some k → K j = some k := by
  intro j k h
  by_cases e : j = i
  · subst e; rw [tc_us] at h; cases h
  · rw [tc_un e] at h; exact h
theorem tk_kf1 {K : Nat → Option Nat} {j p : Nat} (hp : p < 8) : tc_kf K j (bt ((1 : Int32) <<< (nI p &&& 31))) = tc_u K (j * 8 + p) none := by
  funext i
  unfold tc_kf
  rw [tb_one (by omega)]
  by_cases e : i = j * 8 + p
  · subst e; rw [tc_us]; exact if_pos ⟨by omega, decide_eq_true (by omega)⟩
  · rw [tc_un e]
    exact if_neg (fun z => e (by have := of_decide_eq_true z.2; omega))
theorem tk_iF {E : Nat → Option Nat} {N : Nat → Nat → Bool} {ct : Nat → Int32} (h : tr_iF E N ct) {f : Nat} (hf : ¬ tc_c E N f = 0) (x : Int32) : tr_iF E N (upd ct f x) := by
  intro g hg z
  rw [pk_un (fun e => hf (by rw [← e]; exact z))]
  exact h g hg z
section
variable {cC sC pC fC oC : Int32} {mp wp ef nc ct so wk wc rn kp kc rs rp rf ob ao : Nat → Int32}
theorem xw_ld6 {post : Int32 → SX → Prop} {c s p q : Nat} (hc : c < 4) (hs : s < 4) (hp : p < 8) (hq : q < 32) (hk : kc ((c * 4 + s) * 8 + p) = nI q) (H : post (nI (q / 2) * 256 + ct (q / 2)) (cC, sC, pC, fC, oC, mp, wp, ef, nc, ct, so, wk, wc, rn, kp, kc, rs, rp, rf, ob, ao)) : wX_load_62 post (nI c) (nI p) (nI s) cC sC pC fC oC mp wp ef nc ct so wk wc rn kp kc rs rp rf ob ao := by
  unfold wX_load_62
  refine xw_hc hc hs hp (nm_r (e' := nI (q / 2)) (by rw [hk, tb_s1 (by omega)]) (And.intro (vp_in_nI (by omega) (by omega)) ?_))
  rw [tb_rd ct (by omega)]
  exact H
theorem xw_st8 {post : Int32 → SX → Prop} {c s p q : Nat} {x : Int32} (hc : c < 4) (hs : s < 4) (hp : p < 8) (hq : q < 32) (hk : kc ((c * 4 + s) * 8 + p) = nI q) (H : post (nI (q / 2) * 256 + (x &&& 255)) (cC, sC, pC, fC, oC, mp, wp, ef, nc, upd ct (q / 2) (x &&& 255), so, wk, wc, rn, kp, kc, rs, rp, rf, ob, ao)) : wX_store_85 post (nI c) (nI p) x (nI s) cC sC pC fC oC mp wp ef nc ct so wk wc rn kp kc rs rp rf ob ao := by
  unfold wX_store_85
  refine xw_hc hc hs hp (nm_r (e' := nI (q / 2)) (by rw [hk, tb_s1 (by omega)]) (And.intro (vp_in_nI (by omega) (by omega)) (nm_r (tb_up ct _ (by omega)) (And.intro (vp_in_nI (by omega) (by omega)) ?_))))
  rw [tb_rd (upd ct (q / 2) (x &&& 255)) (by omega), pk_us]
  exact H
end
section
variable {fc fs fp ff : Int32} {fo : Int64} {en kn ru yk yc yt op qs qf ql : Nat → Int32} {bo : Nat → Int64} {nm ow zh : Nat → Int32}
theorem yw_ld8 {post : Int32 → SY → Prop} {i q : Nat} (hi : i < 128) (hq : q < 32) (hk : kn i = nI q) (H : post (nI (q / 2) * 256 + yt (q / 2)) (fc, fs, fp, ff, fo, en, kn, ru, yk, yc, yt, op, qs, qf, ql, bo, nm, ow, zh)) : wY_load_85 post (nI i) fc fs fp ff fo en kn ru yk yc yt op qs qf ql bo nm ow zh := by
  refine And.intro (vp_in_nI hi (by omega)) ?_
  rw [tb_rd kn (by omega), hk, tb_d2 (by omega)]
  refine br_t (nI_pos' (by omega)) (And.intro (vp_in_nI hi (by omega)) (And.intro (by decide) (And.intro (vp_in_nI hi (by omega)) (And.intro (by decide) (And.intro (vp_in_nI (by omega) (by omega)) ?_)))))
  rw [tb_rd yt (by omega)]
  exact H
theorem yw_ld8n {post : Int32 → SY → Prop} {i : Nat} (hi : i < 128) (hk : kn i = -1) (H : post (-4) (fc, fs, fp, ff, fo, en, kn, ru, yk, yc, yt, op, qs, qf, ql, bo, nm, ow, zh)) : wY_load_85 post (nI i) fc fs fp ff fo en kn ru yk yc yt op qs qf ql bo nm ow zh := by
  refine And.intro (vp_in_nI hi (by omega)) (br_f ?_ H)
  rw [tb_rd kn (by omega), hk]; decide
theorem yw_st8 {post : Int32 → SY → Prop} {i q : Nat} {x : Int32} (hi : i < 128) (hq : q < 32) (hk : kn i = nI q) (H : post (nI (q / 2) * 256 + (x &&& 255)) (fc, fs, fp, ff, fo, en, kn, ru, yk, yc, upd yt (q / 2) (x &&& 255), op, qs, qf, ql, bo, nm, ow, zh)) : wY_store_128 post x (nI i) fc fs fp ff fo en kn ru yk yc yt op qs qf ql bo nm ow zh := by
  refine And.intro (vp_in_nI hi (by omega)) (And.intro (by decide) ?_)
  rw [tb_rd kn (by omega), hk, tb_d2 (by omega)]
  exact And.intro (vp_in_nI (by omega) (by omega)) (nm_r (tb_up yt _ (by omega)) (And.intro (vp_in_nI hi (by omega)) (And.intro (by decide) H)))
theorem yw_st7 {post : Int32 → SY → Prop} {E : Nat → Option Nat} {c s p i : Nat} {x : Int32} (hE : tr_yE E en) (iE : tr_iE E) (hc : c < 4) (hs : s < 4) (hp : p < 8) (hi : i < 128) (hr : ru c = nI s) (H0 : E (s * 8 + p) = none → post (-4) (fc, fs, fp, ff, fo, en, upd kn i (-1), ru, yk, yc, yt, op, qs, qf, ql, bo, nm, ow, zh)) (H1 : ∀ q, E (s * 8 + p) = some q → q % 2 = 0 → post (-5) (fc, fs, fp, ff, fo, en, upd kn i (nI q), ru, yk, yc, yt, op, qs, qf, ql, bo, nm, ow, zh)) (H2 : ∀ q, E (s * 8 + p) = some q → q % 2 = 1 → post (nI (q / 2) * 256 + (x &&& 255)) (fc, fs, fp, ff, fo, en, upd kn i (nI q), ru, yk, yc, upd yt (q / 2) (x &&& 255), op, qs, qf, ql, bo, nm, ow, zh)) : wY_store_77 post (nI c) (nI p) x (nI i) fc fs fp ff fo en kn ru yk yc yt op qs qf ql bo nm ow zh := by
  refine And.intro (vp_in_nI hc (by omega)) ?_
  rw [tb_rd ru (by omega), hr, tb_rd8 en (by omega), hE _ (by omega)]
  refine And.intro (tb_in8 (by omega) (by omega)) (And.intro (vp_in_nI hi (by omega)) (nm_r (tb_up kn _ (by omega)) (And.intro (vp_in_nI hi (by omega)) ?_)))
  cases e : E (s * 8 + p) with
  | none =>
    refine br_f ?_ (H0 e)
    rw [nI_clamp (n := i) (by omega), pk_us]; decide
  | some q =>
    have hq : q < 32 := iE _ q (by omega) e
    rw [nI_clamp (n := i) (by omega), pk_us, tc_o_s, tb_r2 (by omega)]
    refine br_t (nI_pos' (by omega)) (And.intro (vp_in_nI hi (by omega)) (And.intro (by decide) ?_))
    by_cases z : q % 2 = 0
    · exact br_t (by rw [z]; rfl) (H1 q e z)
    · exact br_f (nI_ne0 (by omega) (by omega)) (yw_st8 hi hq pk_us (H2 q e (by omega)))
end
theorem i_vc_load {k : Nat} {u : SX} {v : SY} (I : i_Rel k u v) (hk : k + 5 ≤ 2564) (v1 : Int32) (v2 : Int32) : wpX_load (fun r u' => wpY_load (fun r' v' => r' = r ∧ i_Rel (k + 5) u' v') v v1 v2) u v1 v2 := by
  refine tr_el (M := fun u v => wpX_load (fun r u' => wpY_load (fun r' v' => r' = r ∧ i_Rel (k + 5) u' v') v v1 v2) u v1 v2) I ?_
  intro C S P F E K V R L D N sp fi la B o mp wp ef nc ct so wk wc rn kp kc rs rp rf ob ao en kn yk op qf ql bo nm ow zh ho a
  have a0 := a
  obtain ⟨hd, hE, gE, iE, hN, hF, hR, hQ, iR, hV, gV, hK, gK, hA, hO, hX, hP, gO, gD, gN, gP, gB, iL, iN, iP, iB, sK, sW⟩ := a
  obtain ⟨c1, c4, s1, s4, p1, p8, f1, f16⟩ := id hd
  have J := i_up (tr_in (zh := zh) ho a0)
  unfold wpX_load wpY_load
  by_cases h : tb_ok v1 C ∧ tb_ok v2 P
  · obtain ⟨⟨c, hc, rfl⟩, ⟨p, hp, rfl⟩⟩ := h
    have hc4 : c < 4 := by omega
    have hp8 : p < 8 := by omega
    have hso := hR c hc4
    cases e : R c with
    | none =>
      rw [e] at hso
      refine xw_ca_i hc c4 hp p8 hso (br_f (by decide) ?_)
      refine yw_b_ok hc (by omega) (br_t rfl ?_)
      refine yw_b_ok hp (by omega) (br_t rfl (And.intro (vp_in_nI hc4 (by omega)) (br_f ?_ ⟨rfl, J⟩)))
      rw [tb_rd so (by omega), hso]; decide
    | some s =>
      have hsS := iR c s hc4 e
      have hs : s < 4 := by omega
      rw [e, tc_o_s] at hso
      refine xw_ca_r hc c4 hp p8 hs hso (br_t rfl (And.intro (vp_in_nI hc4 (by omega)) (nm_r (e' := nI s) (by rw [tb_rd so (by omega), hso]) ?_)))
      have hi : (c * 4 + s) * 8 + p < 128 := by omega
      have ix : (nI c * 4 + so (nI c).toNatClampNeg) * 8 + nI p = nI ((c * 4 + s) * 8 + p) := by rw [tb_rd so (by omega), hso, tb_i48]
      have iy : so (nI c).toNatClampNeg * 8 + nI p = nI (s * 8 + p) := by rw [tb_rd so (by omega), hso, tb_i8]
      have hr0 : 0 ≤ so (nI c).toNatClampNeg := by rw [tb_rd so (by omega), hso]; exact nI_pos' (by omega)
      have hb := hK.1 (c * 4 + s) p (by omega) hp8
      have hm := hE.1 s p hs hp8
      cases w : K ((c * 4 + s) * 8 + p) with
      | some q =>
        have hq := (sK c s p q hc4 hs hp8 w).1
        rw [w] at hb
        refine xw_ho_t hc4 hs hp8 hb (br_f (by decide) (xw_ld6 hc4 hs hp8 hq (hK.2 _ q hi w) ?_))
        refine yw_b_ok hc (by omega) (br_t rfl ?_)
        refine yw_b_ok hp (by omega) (br_t rfl (And.intro (vp_in_nI hc4 (by omega)) (br_t hr0 (And.intro (vp_in_nI hc4 (by omega)) (nm_r ix (And.intro (vp_in_nI hi (by omega)) (br_t ?_ ?_)))))))
        · rw [tb_rd kn (by omega), gK _ hi, w]; exact nI_pos' (by omega)
        · exact yw_ld8 hi hq (by rw [gK _ hi, w]; rfl) ⟨rfl, J⟩
      | none =>
        rw [w] at hb
        refine xw_ho_f hc4 hs hp8 hb (br_t rfl ?_)
        have yk0 : ¬ 0 ≤ kn (nI ((c * 4 + s) * 8 + p)).toNatClampNeg := by rw [tb_rd kn (by omega), gK _ hi, w]; decide
        cases y : E (s * 8 + p) with
        | none =>
          rw [y] at hm
          have fin : i_Rel (k + 5) (nI C, nI S, nI P, nI F, nI L.length, mp, wp, ef, nc, ct, so, wk, wc, rn, kp, kc, rs, rp, rf, ob, ao) (nI C, nI S, nI P, nI F, lN o, en, upd kn ((c * 4 + s) * 8 + p) (-1), so, yk, wc, ct, op, rs, qf, ql, bo, nm, ow, zh) := tr_in (by omega) (tr_mk hd hE gE iE hN hF hR hQ iR hV gV hK (tr_yK_c (tr_yK_u gK ((c * 4 + s) * 8 + p) none) (fun i _ => by rw [tk_un w])) hA hO hX hP gO gD gN gP gB iL iN iP iB sK sW)
          refine xw_im_f hs hp8 hm (br_t rfl ?_)
          refine yw_b_ok hc (by omega) (br_t rfl ?_)
          refine yw_b_ok hp (by omega) (br_t rfl (And.intro (vp_in_nI hc4 (by omega)) (br_t hr0 (And.intro (vp_in_nI hc4 (by omega)) (nm_r ix (And.intro (vp_in_nI hi (by omega)) (br_f yk0 (And.intro (vp_in_nI hc4 (by omega)) ?_))))))))
          rw [iy]
          refine And.intro (vp_in_nI (by omega) (by omega)) (And.intro (vp_in_nI hi (by omega)) (nm_r (e' := upd kn ((c * 4 + s) * 8 + p) (-1)) (by rw [nI_clamp (by omega), nI_clamp (by omega), gE _ (by omega), y]; rfl) ?_))
          exact yw_ld8n hi pk_us ⟨rfl, fin⟩
        | some q =>
          have hq : q < 32 := iE _ q (by omega) y
          rw [y] at hm
          have sf : tr_sf E R D N sp fi la c s p (q / 2) := Or.inl (by rw [y]; exact tc_nm_s.mpr rfl)
          have fin : i_Rel (k + 5) (nI C, nI S, nI P, nI F, nI L.length, mp, wp, ef, nc, ct, so, wk, wc, rn, upd kp (c * 4 + s) (kp (c * 4 + s) ||| ((1 : Int32) <<< (nI p &&& 31))), upd kc ((c * 4 + s) * 8 + p) (nI q), rs, rp, rf, ob, ao) (nI C, nI S, nI P, nI F, lN o, en, upd kn ((c * 4 + s) * 8 + p) (nI q), so, yk, wc, ct, op, rs, qf, ql, bo, nm, ow, zh) := tr_in (by omega) (tr_mk hd hE gE iE hN hF hR hQ iR hV gV (tr_xK_l hK hp8 q) (tr_yK_u gK ((c * 4 + s) * 8 + p) (some q)) hA hO hX hP gO gD gN gP gB iL iN iP iB (tk_sK sK hs hp8 hc hq sf) sW)
          refine xw_im_t hs hp8 hm (br_f (by decide) ?_)
          refine xw_ec (k := q) hs hp8 hq (hE.2.2.2 _ q (by omega) y) (by rw [hE.2.1 s p hs hp8, y]; rfl) ?_
          refine xw_le hc4 hs hp8 hso ?_
          refine xw_ld6 hc4 hs hp8 hq pk_us ?_
          refine yw_b_ok hc (by omega) (br_t rfl ?_)
          refine yw_b_ok hp (by omega) (br_t rfl (And.intro (vp_in_nI hc4 (by omega)) (br_t hr0 (And.intro (vp_in_nI hc4 (by omega)) (nm_r ix (And.intro (vp_in_nI hi (by omega)) (br_f yk0 (And.intro (vp_in_nI hc4 (by omega)) ?_))))))))
          rw [iy]
          refine And.intro (vp_in_nI (by omega) (by omega)) (And.intro (vp_in_nI hi (by omega)) (nm_r (e' := upd kn ((c * 4 + s) * 8 + p) (nI q)) (by rw [nI_clamp (by omega), nI_clamp (by omega), gE _ (by omega), y]; rfl) ?_))
          exact yw_ld8 hi hq pk_us ⟨rfl, fin⟩
  · refine xw_ca_b h c4 p8 (br_f (by decide) ?_)
    by_cases h1 : tb_ok v1 C
    · obtain ⟨c, hc, rfl⟩ := h1
      refine yw_b_ok hc (by omega) (br_t rfl ?_)
      exact yw_b_no (fun z => h ⟨⟨c, hc, rfl⟩, z⟩) (by omega) (br_f (by decide) ⟨rfl, J⟩)
    · exact yw_b_no h1 (by omega) (br_f (by decide) ⟨rfl, J⟩)
end
section
/-! store, walk, fill -/
theorem i_vc_store {k : Nat} {u : SX} {v : SY} (I : i_Rel k u v) (hk : k + 5 ≤ 2564) (v1 : Int32) (v2 : Int32) (v3 : Int32) : wpX_store (fun r u' => wpY_store (fun r' v' => r' = r ∧ i_Rel (k + 5) u' v') v v1 v2 v3) u v1 v2 v3 := by
  refine tr_el (M := fun u v => wpX_store (fun r u' => wpY_store (fun r' v' => r' = r ∧ i_Rel (k + 5) u' v') v v1 v2 v3) u v1 v2 v3) I ?_
  intro C S P F E K V R L D N sp fi la B o mp wp ef nc ct so wk wc rn kp kc rs rp rf ob ao en kn yk op qf ql bo nm ow zh ho a
  have a0 := a
  obtain ⟨hd, hE, gE, iE, hN, hF, hR, hQ, iR, hV, gV, hK, gK, hA, hO, hX, hP, gO, gD, gN, gP, gB, iL, iN, iP, iB, sK, sW⟩ := a
  obtain ⟨c1, c4, s1, s4, p1, p8, f1, f16⟩ := id hd
  have J := i_up (tr_in (zh := zh) ho a0)
  by_cases h : tb_ok v1 C ∧ tb_ok v2 P
  · obtain ⟨⟨c, hc, rfl⟩, ⟨p, hp, rfl⟩⟩ := h
    have hc4 : c < 4 := by omega
    have hp8 : p < 8 := by omega
    have hso := hR c hc4
    cases e : R c with
    | none =>
      rw [e] at hso
      unfold wpX_store wpY_store
      refine xw_ca_i hc c4 hp p8 hso (br_f (by decide) ?_)
      refine yw_b_ok hc (by omega) (br_t rfl ?_)
      refine yw_b_ok hp (by omega) (br_t rfl (And.intro (vp_in_nI hc4 (by omega)) (br_f ?_ ⟨rfl, J⟩)))
      rw [tb_rd so (by omega), hso]; decide
    | some s =>
      have hsS := iR c s hc4 e
      have hs : s < 4 := by omega
      rw [e, tc_o_s] at hso
      have hi : (c * 4 + s) * 8 + p < 128 := by omega
      have ix : (nI c * 4 + so (nI c).toNatClampNeg) * 8 + nI p = nI ((c * 4 + s) * 8 + p) := by rw [tb_rd so (by omega), hso, tb_i48]
      have hr0 : 0 ≤ so (nI c).toNatClampNeg := by rw [tb_rd so (by omega), hso]; exact nI_pos' (by omega)
      have hb := hK.1 (c * 4 + s) p (by omega) hp8
      have hm := hE.1 s p hs hp8
      have hkn : kn (nI ((c * 4 + s) * 8 + p)).toNatClampNeg = tc_o (K ((c * 4 + s) * 8 + p)) := by rw [tb_rd kn (by omega), gK _ hi]
      have hK1 : tr_xK (tc_u K ((c * 4 + s) * 8 + p) none) (upd kp (c * 4 + s) (kp (c * 4 + s) &&& (((1 : Int32) <<< (nI p &&& 31)) ^^^ (-1)))) kc := by
        rw [← tk_kf1 hp8]; exact tr_xK_f hK _ _
      have sf : ∀ q, E (s * 8 + p) = some q → tr_sf E R D N sp fi la c s p (q / 2) := fun q y => Or.inl (by rw [y]; exact tc_nm_s.mpr rfl)
      have xx : ∀ post : Int32 → SX → Prop, (E (s * 8 + p) = none → post (-4) (nI C, nI S, nI P, nI F, nI L.length, mp, wp, ef, nc, ct, so, wk, wc, rn, upd kp (c * 4 + s) (kp (c * 4 + s) &&& (((1 : Int32) <<< (nI p &&& 31)) ^^^ (-1))), kc, rs, rp, rf, ob, ao)) → (∀ q kp', E (s * 8 + p) = some q → q % 2 = 0 → tr_xK (tc_u K ((c * 4 + s) * 8 + p) (some q)) kp' (upd kc ((c * 4 + s) * 8 + p) (nI q)) → post (-5) (nI C, nI S, nI P, nI F, nI L.length, mp, wp, ef, nc, ct, so, wk, wc, rn, kp', upd kc ((c * 4 + s) * 8 + p) (nI q), rs, rp, rf, ob, ao)) → (∀ q kp', E (s * 8 + p) = some q → q % 2 = 1 → tr_xK (tc_u K ((c * 4 + s) * 8 + p) (some q)) kp' (upd kc ((c * 4 + s) * 8 + p) (nI q)) → post (nI (q / 2) * 256 + (v3 &&& 255)) (nI C, nI S, nI P, nI F, nI L.length, mp, wp, ef, nc, upd ct (q / 2) (v3 &&& 255), so, wk, wc, rn, kp', upd kc ((c * 4 + s) * 8 + p) (nI q), rs, rp, rf, ob, ao)) → (∀ q, K ((c * 4 + s) * 8 + p) = some q → q % 2 = 0) → wpX_store post (nI C, nI S, nI P, nI F, nI L.length, mp, wp, ef, nc, ct, so, wk, wc, rn, kp, kc, rs, rp, rf, ob, ao) (nI c) (nI p) v3 := by
        intro post H0 H1 H2 hz
        unfold wpX_store
        refine xw_ca_r hc c4 hp p8 hs hso (br_t rfl (And.intro (vp_in_nI hc4 (by omega)) (nm_r (e' := nI s) (by rw [tb_rd so (by omega), hso]) ?_)))
        have hw : ∀ (P1 : Int32 → Prop), P1 0 → wpX_holdsWritable P1 (nI C, nI S, nI P, nI F, nI L.length, mp, wp, ef, nc, ct, so, wk, wc, rn, kp, kc, rs, rp, rf, ob, ao) (nI c) (nI s) (nI p) := by
          intro P1 h1
          unfold wpX_holdsWritable
          cases w : K ((c * 4 + s) * 8 + p) with
          | none =>
            rw [w] at hb
            exact xw_ho_f hc4 hs hp8 hb (br_t rfl h1)
          | some q =>
            have hq := (sK c s p q hc4 hs hp8 w).1
            rw [w] at hb
            refine xw_ho_t hc4 hs hp8 hb (br_f (by decide) ?_)
            refine xw_hc hc4 hs hp8 (br_t ?_ h1)
            rw [hK.2 _ q hi w, tb_a1 (by omega), hz q w]; rfl
        refine hw _ ?_
        refine br_t rfl ?_
        refine xw_fg hc4 hs ?_
        cases y : E (s * 8 + p) with
        | none =>
          rw [y] at hm
          exact xw_im_f hs hp8 hm (br_t rfl (H0 y))
        | some q =>
          have hq : q < 32 := iE _ q (by omega) y
          have hK2 := tr_xK_l (j := c * 4 + s) hK1 hp8 q
          rw [tk_uu] at hK2
          rw [y] at hm
          refine xw_im_t hs hp8 hm (br_f (by decide) ?_)
          refine xw_ec (k := q) hs hp8 hq (hE.2.2.2 _ q (by omega) y) (by rw [hE.2.1 s p hs hp8, y]; rfl) ?_
          refine xw_le hc4 hs hp8 hso ?_
          by_cases z : q % 2 = 0
          · exact br_t (by rw [tb_a1 (by omega), z]; rfl) (H1 q _ y z hK2)
          · refine br_f (by rw [tb_a1 (by omega)]; exact nI_ne0 (by omega) (by omega)) ?_
            exact xw_st8 hc4 hs hp8 hq pk_us (H2 q _ y (by omega) hK2)
      have f0 : E (s * 8 + p) = none → i_Rel (k + 5) (nI C, nI S, nI P, nI F, nI L.length, mp, wp, ef, nc, ct, so, wk, wc, rn, upd kp (c * 4 + s) (kp (c * 4 + s) &&& (((1 : Int32) <<< (nI p &&& 31)) ^^^ (-1))), kc, rs, rp, rf, ob, ao) (nI C, nI S, nI P, nI F, lN o, en, upd kn ((c * 4 + s) * 8 + p) (-1), so, yk, wc, ct, op, rs, qf, ql, bo, nm, ow, zh) := fun _ => tr_in (by omega) (tr_mk hd hE gE iE hN hF hR hQ iR hV gV hK1 (tr_yK_u gK ((c * 4 + s) * 8 + p) none) hA hO hX hP gO gD gN gP gB iL iN iP iB (tk_sKn sK tk_le) sW)
      have f1 : ∀ q kp', E (s * 8 + p) = some q → tr_xK (tc_u K ((c * 4 + s) * 8 + p) (some q)) kp' (upd kc ((c * 4 + s) * 8 + p) (nI q)) → i_Rel (k + 5) (nI C, nI S, nI P, nI F, nI L.length, mp, wp, ef, nc, ct, so, wk, wc, rn, kp', upd kc ((c * 4 + s) * 8 + p) (nI q), rs, rp, rf, ob, ao) (nI C, nI S, nI P, nI F, lN o, en, upd kn ((c * 4 + s) * 8 + p) (nI q), so, yk, wc, ct, op, rs, qf, ql, bo, nm, ow, zh) := fun q kp' y hh => tr_in (by omega) (tr_mk hd hE gE iE hN hF hR hQ iR hV gV hh (tr_yK_u gK ((c * 4 + s) * 8 + p) (some q)) hA hO hX hP gO gD gN gP gB iL iN iP iB (tk_sK sK hs hp8 hc (iE _ q (by omega) y) (sf q y)) sW)
      have f2 : ∀ q kp', E (s * 8 + p) = some q → tr_xK (tc_u K ((c * 4 + s) * 8 + p) (some q)) kp' (upd kc ((c * 4 + s) * 8 + p) (nI q)) → i_Rel (k + 5) (nI C, nI S, nI P, nI F, nI L.length, mp, wp, ef, nc, upd ct (q / 2) (v3 &&& 255), so, wk, wc, rn, kp', upd kc ((c * 4 + s) * 8 + p) (nI q), rs, rp, rf, ob, ao) (nI C, nI S, nI P, nI F, lN o, en, upd kn ((c * 4 + s) * 8 + p) (nI q), so, yk, wc, upd ct (q / 2) (v3 &&& 255), op, rs, qf, ql, bo, nm, ow, zh) := fun q kp' y hh => tr_in (by omega) (tr_mk hd hE gE iE hN (tk_iF hF (tk_sf hs hp8 (sf q y)) _) hR hQ iR hV gV hh (tr_yK_u gK ((c * 4 + s) * 8 + p) (some q)) hA hO hX hP gO gD gN gP gB iL iN iP iB (tk_sK sK hs hp8 hc (iE _ q (by omega) y) (sf q y)) sW)
      have bad : (∀ q, K ((c * 4 + s) * 8 + p) = some q → q % 2 = 0) → ∀ post : Int32 → SY → Prop, wY_store_77 post (nI c) (nI p) v3 (nI ((c * 4 + s) * 8 + p)) (nI C) (nI S) (nI P) (nI F) (lN o) en kn so yk wc ct op rs qf ql bo nm ow zh → wpY_store post (nI C, nI S, nI P, nI F, lN o, en, kn, so, yk, wc, ct, op, rs, qf, ql, bo, nm, ow, zh) (nI c) (nI p) v3 := by
        intro hz post H
        unfold wpY_store
        refine yw_b_ok hc (by omega) (br_t rfl ?_)
        refine yw_b_ok hp (by omega) (br_t rfl (And.intro (vp_in_nI hc4 (by omega)) (br_t hr0 (And.intro (vp_in_nI hc4 (by omega)) (nm_r ix (And.intro (vp_in_nI hi (by omega)) ?_))))))
        rw [hkn]
        cases w : K ((c * 4 + s) * 8 + p) with
        | none => exact br_t (by decide) H
        | some q =>
          have hq := (sK c s p q hc4 hs hp8 w).1
          refine br_f (nI_pos (by omega)) (And.intro (vp_in_nI hi (by omega)) (And.intro (by decide) (br_t ?_ H)))
          rw [tc_o_s, tb_r2 (by omega), hz q w]; rfl
      have both : (∀ q, K ((c * 4 + s) * 8 + p) = some q → q % 2 = 0) → wpX_store (fun r u' => wpY_store (fun r' v' => r' = r ∧ i_Rel (k + 5) u' v') (nI C, nI S, nI P, nI F, lN o, en, kn, so, yk, wc, ct, op, rs, qf, ql, bo, nm, ow, zh) (nI c) (nI p) v3) (nI C, nI S, nI P, nI F, nI L.length, mp, wp, ef, nc, ct, so, wk, wc, rn, kp, kc, rs, rp, rf, ob, ao) (nI c) (nI p) v3 := by
        intro hz
        refine xx _ (fun y => ?_) (fun q kp' y z hh => ?_) (fun q kp' y z hh => ?_) hz
        · exact bad hz _ (yw_st7 gE iE hc4 hs hp8 hi hso (fun _ => ⟨rfl, f0 y⟩) (fun q' y' => by rw [y] at y'; cases y') (fun q' y' => by rw [y] at y'; cases y'))
        · exact bad hz _ (yw_st7 gE iE hc4 hs hp8 hi hso (fun y' => by rw [y] at y'; cases y') (fun q' y' z' => by rw [y] at y'; cases y'; exact ⟨rfl, f1 q kp' y hh⟩) (fun q' y' z' => by rw [y] at y'; cases y'; omega))
        · exact bad hz _ (yw_st7 gE iE hc4 hs hp8 hi hso (fun y' => by rw [y] at y'; cases y') (fun q' y' z' => by rw [y] at y'; cases y'; omega) (fun q' y' z' => by rw [y] at y'; cases y'; exact ⟨rfl, f2 q kp' y hh⟩))
      cases w : K ((c * 4 + s) * 8 + p) with
      | none => exact both (fun q z => by rw [w] at z; cases z)
      | some q0 =>
        have hq0 := (sK c s p q0 hc4 hs hp8 w).1
        have sf0 := (sK c s p q0 hc4 hs hp8 w).2.2
        have hkc := hK.2 _ q0 hi w
        by_cases z0 : q0 % 2 = 0
        · exact both (fun q z => by rw [w] at z; cases z; exact z0)
        · have fin : i_Rel (k + 5) (nI C, nI S, nI P, nI F, nI L.length, mp, wp, ef, nc, upd ct (q0 / 2) (v3 &&& 255), so, wk, wc, rn, kp, kc, rs, rp, rf, ob, ao) (nI C, nI S, nI P, nI F, lN o, en, kn, so, yk, wc, upd ct (q0 / 2) (v3 &&& 255), op, rs, qf, ql, bo, nm, ow, zh) := tr_in (by omega) (tr_mk hd hE gE iE hN (tk_iF hF (tk_sf hs hp8 sf0) _) hR hQ iR hV gV hK gK hA hO hX hP gO gD gN gP gB iL iN iP iB sK sW)
          rw [w] at hb
          unfold wpX_store wpY_store
          refine xw_ca_r hc c4 hp p8 hs hso (br_t rfl (And.intro (vp_in_nI hc4 (by omega)) (nm_r (e' := nI s) (by rw [tb_rd so (by omega), hso]) ?_)))
          unfold wpX_holdsWritable
          refine xw_ho_t hc4 hs hp8 hb (br_f (by decide) ?_)
          refine xw_hc hc4 hs hp8 ?_
          rw [hkc, tb_a1 (by omega)]
          refine br_f (nI_ne0 (by omega) (by omega)) (br_f (by decide) ?_)
          refine xw_st8 hc4 hs hp8 hq0 hkc ?_
          refine yw_b_ok hc (by omega) (br_t rfl ?_)
          refine yw_b_ok hp (by omega) (br_t rfl (And.intro (vp_in_nI hc4 (by omega)) (br_t hr0 (And.intro (vp_in_nI hc4 (by omega)) (nm_r ix (And.intro (vp_in_nI hi (by omega)) ?_))))))
          rw [hkn, w, tc_o_s, tb_r2 (by omega)]
          refine br_f (nI_pos (by omega)) (And.intro (vp_in_nI hi (by omega)) (And.intro (by decide) (br_f (nI_ne0 (by omega) (by omega)) ?_)))
          exact yw_st8 hi hq0 (by rw [gK _ hi, w]; rfl) ⟨rfl, fin⟩
  · unfold wpX_store wpY_store
    refine xw_ca_b h c4 p8 (br_f (by decide) ?_)
    by_cases h1 : tb_ok v1 C
    · obtain ⟨c, hc, rfl⟩ := h1
      refine yw_b_ok hc (by omega) (br_t rfl ?_)
      exact yw_b_no (fun z => h ⟨⟨c, hc, rfl⟩, z⟩) (by omega) (br_f (by decide) ⟨rfl, J⟩)
    · exact yw_b_no h1 (by omega) (br_f (by decide) ⟨rfl, J⟩)
end
section
/-! walk, fill -/
theorem tv_x {V : Nat → Option Nat} {wk : Nat → Int32} (h : tr_xW V wk) (c : Nat) (o : Option Nat) {x : Int32} (hx : x = nI (o.getD 8)) : tr_xW (tc_u V c o) (upd wk c x) := by
  intro b hb
  by_cases e : b = c
  · subst e; rw [pk_us, tc_us, hx]
  · rw [pk_un e, tc_un e, h b hb]
theorem tv_y {V : Nat → Option Nat} {yk : Nat → Int32} (h : tr_yW V yk) (c : Nat) (o : Option Nat) {x : Int32} (hx : x = tc_o o) : tr_yW (tc_u V c o) (upd yk c x) := by
  intro b hb
  by_cases e : b = c
  · subst e; rw [pk_us, tc_us, hx]
  · rw [pk_un e, tc_un e, h b hb]
theorem tv_s {E R V : Nat → Option Nat} {D N : Nat → Nat → Bool} {sp fi la : Nat → Nat} {wc : Nat → Int32} (h : tr_sW E R V D N sp fi la wc) {c s p q : Nat} (hp : p < 8) (hR : R c = some s) (hq : q < 32) (hf : tr_sf E R D N sp fi la c s p (q / 2)) : tr_sW E R (tc_u V c (some p)) D N sp fi la (upd wc c (nI q)) := by
  intro b p' hb e
  by_cases z : b = c
  · subst z
    rw [tc_us] at e
    cases e
    exact ⟨hp, s, q, hR, hq, pk_us, hf⟩
  · rw [tc_un z] at e
    rw [pk_un z]
    exact h b p' hb e
theorem tv_n {E R V : Nat → Option Nat} {D N : Nat → Nat → Bool} {sp fi la : Nat → Nat} {wc : Nat → Int32} (h : tr_sW E R V D N sp fi la wc) (c : Nat) : tr_sW E R (tc_u V c none) D N sp fi la wc := by
  intro b p' hb e
  by_cases z : b = c
  · subst z
    rw [tc_us] at e
    cases e
  · rw [tc_un z] at e
    exact h b p' hb e
theorem i_vc_walk {k : Nat} {u : SX} {v : SY} (I : i_Rel k u v) (hk : k + 5 ≤ 2564) (v1 : Int32) (v2 : Int32) : wpX_walk (fun r u' => wpY_walk (fun r' v' => r' = r ∧ i_Rel (k + 5) u' v') v v1 v2) u v1 v2 := by
  refine tr_el (M := fun u v => wpX_walk (fun r u' => wpY_walk (fun r' v' => r' = r ∧ i_Rel (k + 5) u' v') v v1 v2) u v1 v2) I ?_
  intro C S P F E K V R L D N sp fi la B o mp wp ef nc ct so wk wc rn kp kc rs rp rf ob ao en kn yk op qf ql bo nm ow zh ho a
  have a0 := a
  obtain ⟨hd, hE, gE, iE, hN, hF, hR, hQ, iR, hV, gV, hK, gK, hA, hO, hX, hP, gO, gD, gN, gP, gB, iL, iN, iP, iB, sK, sW⟩ := a
  obtain ⟨c1, c4, s1, s4, p1, p8, f1, f16⟩ := id hd
  have J := i_up (tr_in (zh := zh) ho a0)
  unfold wpX_walk wpY_walk
  by_cases h : tb_ok v1 C ∧ tb_ok v2 P
  · obtain ⟨⟨c, hc, rfl⟩, ⟨p, hp, rfl⟩⟩ := h
    have hc4 : c < 4 := by omega
    have hp8 : p < 8 := by omega
    have hso := hR c hc4
    cases e : R c with
    | none =>
      rw [e] at hso
      refine xw_ca_i hc c4 hp p8 hso (br_f (by decide) ?_)
      refine yw_b_ok hc (by omega) (br_t rfl ?_)
      refine yw_b_ok hp (by omega) (br_t rfl (And.intro (vp_in_nI hc4 (by omega)) (br_f ?_ ⟨rfl, J⟩)))
      rw [tb_rd so (by omega), hso]; decide
    | some s =>
      have hsS := iR c s hc4 e
      have hs : s < 4 := by omega
      rw [e, tc_o_s] at hso
      refine xw_ca_r hc c4 hp p8 hs hso (br_t rfl (And.intro (vp_in_nI hc4 (by omega)) (nm_r (e' := nI s) (by rw [tb_rd so (by omega), hso]) ?_)))
      have iy : so (nI c).toNatClampNeg * 8 + nI p = nI (s * 8 + p) := by rw [tb_rd so (by omega), hso, tb_i8]
      have hr0 : 0 ≤ so (nI c).toNatClampNeg := by rw [tb_rd so (by omega), hso]; exact nI_pos' (by omega)
      have hm := hE.1 s p hs hp8
      have hen : en (so (nI c).toNatClampNeg * 8 + nI p).toNatClampNeg = tc_o (E (s * 8 + p)) := by rw [iy, nI_clamp (by omega), gE _ (by omega)]
      have hin : vp_in (so (nI c).toNatClampNeg * 8 + nI p) 32 := by rw [iy]; exact vp_in_nI (by omega) (by omega)
      cases y : E (s * 8 + p) with
      | none =>
        rw [y] at hm hen
        refine xw_im_f hs hp8 hm (br_t rfl ?_)
        refine yw_b_ok hc (by omega) (br_t rfl ?_)
        exact yw_b_ok hp (by omega) (br_t rfl (And.intro (vp_in_nI hc4 (by omega)) (br_t hr0 (And.intro (vp_in_nI hc4 (by omega)) (And.intro hin (nm_r hen (br_f (by decide) ⟨rfl, J⟩)))))))
      | some q =>
        have hq : q < 32 := iE _ q (by omega) y
        rw [y] at hm hen
        have sf : tr_sf E R D N sp fi la c s p (q / 2) := Or.inl (by rw [y]; exact tc_nm_s.mpr rfl)
        have fin : i_Rel (k + 5) (nI C, nI S, nI P, nI F, nI L.length, mp, wp, ef, nc, ct, so, upd wk c (nI p), upd wc c (nI q), rn, kp, kc, rs, rp, rf, ob, ao) (nI C, nI S, nI P, nI F, lN o, en, kn, so, upd yk c (nI p), upd wc c (nI q), ct, op, rs, qf, ql, bo, nm, ow, zh) := tr_in (by omega) (tr_mk hd hE gE iE hN hF hR hQ iR (tv_x hV c (some p) rfl) (tv_y gV c (some p) rfl) hK gK hA hO hX hP gO gD gN gP gB iL iN iP iB sK (tv_s sW hp8 e hq sf))
        refine xw_im_t hs hp8 hm (br_f (by decide) (And.intro (vp_in_nI hc4 (by omega)) (nm_r (tb_up wk _ (by omega)) ?_)))
        refine xw_ec (k := q) hs hp8 hq (hE.2.2.2 _ q (by omega) y) (by rw [hE.2.1 s p hs hp8, y]; rfl) ?_
        refine And.intro (vp_in_nI hc4 (by omega)) (nm_r (tb_up wc _ (by omega)) (And.intro (vp_in_nI hc4 (by omega)) ?_))
        rw [nI_clamp (n := c) (by omega), pk_us]
        refine yw_b_ok hc (by omega) (br_t rfl ?_)
        have hr0' : 0 ≤ so c := by rw [hso]; exact nI_pos' (by omega)
        rw [nI_clamp (n := c) (by omega)] at hin hen
        refine yw_b_ok hp (by omega) (br_t rfl (And.intro (vp_in_nI hc4 (by omega)) (br_t hr0' (And.intro (vp_in_nI hc4 (by omega)) (And.intro hin (nm_r hen (br_t (nI_pos' (by omega)) (And.intro (vp_in_nI hc4 (by omega)) (nm_e (And.intro (vp_in_nI hc4 (by omega)) (nm_e ⟨rfl, fin⟩)))))))))))
  · refine xw_ca_b h c4 p8 (br_f (by decide) ?_)
    by_cases h1 : tb_ok v1 C
    · obtain ⟨c, hc, rfl⟩ := h1
      refine yw_b_ok hc (by omega) (br_t rfl ?_)
      exact yw_b_no (fun z => h ⟨⟨c, hc, rfl⟩, z⟩) (by omega) (br_f (by decide) ⟨rfl, J⟩)
    · exact yw_b_no h1 (by omega) (br_f (by decide) ⟨rfl, J⟩)
theorem i_vc_fill {k : Nat} {u : SX} {v : SY} (I : i_Rel k u v) (hk : k + 5 ≤ 2564) (v1 : Int32) : wpX_fill (fun r u' => wpY_fill (fun r' v' => r' = r ∧ i_Rel (k + 5) u' v') v v1) u v1 := by
  refine tr_el (M := fun u v => wpX_fill (fun r u' => wpY_fill (fun r' v' => r' = r ∧ i_Rel (k + 5) u' v') v v1) u v1) I ?_
  intro C S P F E K V R L D N sp fi la B o mp wp ef nc ct so wk wc rn kp kc rs rp rf ob ao en kn yk op qf ql bo nm ow zh ho a
  have a0 := a
  obtain ⟨hd, hE, gE, iE, hN, hF, hR, hQ, iR, hV, gV, hK, gK, hA, hO, hX, hP, gO, gD, gN, gP, gB, iL, iN, iP, iB, sK, sW⟩ := a
  obtain ⟨c1, c4, s1, s4, p1, p8, f1, f16⟩ := id hd
  have J := i_up (tr_in (zh := zh) ho a0)
  unfold wpX_fill wpY_fill
  by_cases h : tb_ok v1 C
  · obtain ⟨c, hc, rfl⟩ := h
    have hc4 : c < 4 := by omega
    have hso := hR c hc4
    have cl : (nI c).toNatClampNeg = c := nI_clamp (by omega)
    have hin : vp_in (nI c) 4 := vp_in_nI hc4 (by omega)
    cases e : R c with
    | none =>
      rw [e] at hso
      refine xw_cr_i hc c4 hso (br_f (by decide) ?_)
      refine yw_b_ok hc (by omega) (br_t rfl (And.intro hin (br_f ?_ ⟨rfl, J⟩)))
      rw [cl, hso]; decide
    | some s =>
      have hsS := iR c s hc4 e
      have hs : s < 4 := by omega
      rw [e, tc_o_s] at hso
      refine xw_cr_r hc c4 hs hso (br_t rfl (And.intro hin ?_))
      rw [cl]
      have hwk := hV c hc4
      have hyk := gV c hc4
      cases w : V c with
      | none =>
        rw [w] at hwk hyk
        refine br_f (by rw [hwk]; exact nI_nlt (a := 8) (b := 8) (Nat.le_refl 8) (by decide)) ?_
        refine yw_b_ok hc (by omega) (br_t rfl (And.intro hin ?_))
        exact br_t (by rw [hso]; exact nI_pos' (by omega)) (And.intro hin (br_f (by rw [hyk]; decide) ⟨rfl, J⟩))
      | some p =>
        obtain ⟨hp8, s', q, hR', hq, hwc, sf⟩ := sW c p hc4 w
        rw [e] at hR'
        cases hR'
        rw [w] at hwk hyk
        have hwk' : wk c = nI p := hwk
        have hyk' : yk c = nI p := hyk
        have fin : i_Rel (k + 5) (nI C, nI S, nI P, nI F, nI L.length, mp, wp, ef, nc, ct, so, upd wk c 8, wc, rn, upd kp (c * 4 + s) (kp (c * 4 + s) ||| ((1 : Int32) <<< (nI p &&& 31))), upd kc ((c * 4 + s) * 8 + p) (nI q), rs, rp, rf, ob, ao) (nI C, nI S, nI P, nI F, lN o, en, upd kn ((c * 4 + s) * 8 + p) (nI q), so, upd yk c (-1), wc, ct, op, rs, qf, ql, bo, nm, ow, zh) := tr_in (by omega) (tr_mk hd hE gE iE hN hF hR hQ iR (tv_x hV c none rfl) (tv_y gV c none rfl) (tr_xK_l hK hp8 q) (tr_yK_u gK ((c * 4 + s) * 8 + p) (some q)) hA hO hX hP gO gD gN gP gB iL iN iP iB (tk_sK sK hs hp8 hc hq sf) (tv_n sW c))
        refine br_t (by rw [hwk']; exact nI_lt (b := 8) hp8 (by decide)) (And.intro hin (And.intro hin ?_))
        rw [hwk', hwc]
        refine xw_le hc4 hs hp8 hso (And.intro hin (nm_e (And.intro hin ?_)))
        rw [hwc]
        refine yw_b_ok hc (by omega) (br_t rfl (And.intro hin ?_))
        refine br_t (by rw [hso]; exact nI_pos' (by omega)) (And.intro hin (br_t (by rw [hyk']; exact nI_pos' (by omega)) (And.intro hin (And.intro hin (And.intro hin ?_)))))
        rw [hso, hyk', hwc]
        exact And.intro (tb_in48 (by omega) (by omega)) (nm_r (tb_up48 kn _ (by omega)) (And.intro hin (nm_e (And.intro hin ⟨rfl, fin⟩))))
  · refine xw_cr_b h c4 (br_f (by decide) ?_)
    exact yw_b_no h (by omega) (br_f (by decide) ⟨rfl, J⟩)
end
section
/-! run, idle -/
theorem ta_sf {E R R' : Nat → Option Nat} {D D' N : Nat → Nat → Bool} {sp fi la : Nat → Nat} {b s p f : Nat} (hb : b < 4) (hR : R b = some s → R' b = some s) (z : tr_sf E R D N sp fi la b s p f) (h : ∀ t, t < 8 → D t b = true → sp t = s → fi t ≤ p → p ≤ la t → R b = some s → D' t b = true) : tr_sf E R' D' (tc_nv D' N) sp fi la b s p f := by
  rcases z with z | ⟨h1, t, h2, h3, h4, h5, h6, h7⟩
  · exact Or.inl z
  · have h8 := h t h2 h3 h4 h5 h6 h1
    exact Or.inr ⟨hR h1, t, h2, h8, h4, h5, h6, Bool.and_eq_true_iff.mpr ⟨h7, tc_an_t.mpr ⟨b, hb, h8⟩⟩⟩
theorem ta_mem {L : List Nat} {D : Nat → Nat → Bool} {s : Nat} (h : s ∈ tc_lv D L) : s ∈ L := (List.mem_filter.mp h).1
theorem ta_xP {L : List Nat} {D : Nat → Nat → Bool} {fi la : Nat → Nat} {rp : Nat → Int32} (h : tr_xP L fi la rp) : tr_xP (tc_lv D L) fi la rp := fun s p hs => h s p (ta_mem hs)
theorem ta_yP {L : List Nat} {D : Nat → Nat → Bool} {fi la : Nat → Nat} {qf ql : Nat → Int32} (h : tr_yP L fi la qf ql) : tr_yP (tc_lv D L) fi la qf ql := fun s hs => h s (ta_mem hs)
theorem ta_yB {L : List Nat} {D : Nat → Nat → Bool} {B : Nat → Nat} {bo : Nat → Int64} (h : tr_yB L B bo) : tr_yB (tc_lv D L) B bo := fun s hs => h s (ta_mem hs)
theorem ta_iP {L : List Nat} {D : Nat → Nat → Bool} {sp fi la : Nat → Nat} {rs : Nat → Int32} (h : tr_iP L sp fi la rs) : tr_iP (tc_lv D L) sp fi la rs := fun s hs => h s (ta_mem hs)
theorem ta_iB {L : List Nat} {D : Nat → Nat → Bool} {B : Nat → Nat} {o : Nat} (h : tr_iB L B o) : tr_iB (tc_lv D L) B o := ⟨h.1.filter _, fun s hs => h.2 s (ta_mem hs)⟩
theorem ta_R {R : Nat → Option Nat} {so : Nat → Int32} (h : tr_R R so) (c : Nat) (o : Option Nat) {x : Int32} (hx : x = tc_o o) : tr_R (tc_u R c o) (upd so c x) := by
  intro b hb
  by_cases e : b = c
  · subst e; rw [pk_us, tc_us, hx]
  · rw [pk_un e, tc_un e, h b hb]
theorem ta_xR_l {R : Nat → Option Nat} {rn : Nat → Int32} (h : tr_xR R rn) {c s : Nat} (hc : c < 4) (e : R c = some s) : tr_xR (tc_u R c none) (upd rn s (rn s &&& (((1 : Int32) <<< (nI c &&& 31)) ^^^ (-1)))) := by
  intro t b ht
  by_cases z : t = s
  · subst z
    rw [pk_us, tb_andn, tb_one (by omega), h t b ht]
    by_cases y : b = c
    · subst y; rw [tc_us, decide_eq_true (p := b = b) rfl]; simp
    · rw [tc_un y, decide_eq_false (p := b = c) y]; simp
  · rw [pk_un z, h t b ht]
    by_cases y : b = c
    · subst y
      rw [tc_us, e, decide_eq_false (p := some s = some t) (fun w => z (Option.some.inj w).symm), decide_eq_false (p := none = some t) (fun w => by cases w)]
    · rw [tc_un y]
theorem ta_xR_r {R : Nat → Option Nat} {rn : Nat → Int32} (h : tr_xR R rn) {c s : Nat} (hc : c < 4) (e : R c = none) : tr_xR (tc_u R c (some s)) (upd rn s (rn s ||| ((1 : Int32) <<< (nI c &&& 31)))) := by
  intro t b ht
  by_cases z : t = s
  · subst z
    rw [pk_us, tb_or1 _ (by omega), h t b ht]
    by_cases y : b = c
    · subst y; rw [tc_us, decide_eq_true (p := b = b) rfl, decide_eq_true (p := b < 4) hc]; simp
    · rw [tc_un y, decide_eq_false (p := b = c) y]; simp
  · rw [pk_un z, h t b ht]
    by_cases y : b = c
    · subst y
      rw [tc_us, e, decide_eq_false (p := some s = some t) (fun w => z (Option.some.inj w).symm), decide_eq_false (p := none = some t) (fun w => by cases w)]
    · rw [tc_un y]
theorem ta_iR {C S : Nat} {R : Nat → Option Nat} (h : tr_iR C S R) (c : Nat) (o : Option Nat) (ho : ∀ s, o = some s → c < C ∧ s < S) : tr_iR C S (tc_u R c o) := by
  intro b s hb e
  by_cases z : b = c
  · subst z; rw [tc_us] at e; exact ho s e
  · rw [tc_un z] at e; exact h b s hb e
theorem ta_lk {K : Nat → Option Nat} {L : List Nat} {D : Nat → Nat → Bool} {c s : Nat} : ∀ i k, tc_lk K L D c s i = some k → K i = some k := by
  intro i k h
  unfold tc_lk at h
  by_cases e : (L.find? (fun t => D t c)).isSome = true
  · rw [if_pos e] at h
    unfold tc_kf at h
    by_cases z : i / 8 = c * 4 + s ∧ true = true
    · rw [if_pos z] at h; cases h
    · rw [if_neg z] at h; exact h
  · rw [if_neg e] at h; exact h
theorem ta_left {C S P F : Nat} {E K V R : Nat → Option Nat} {L : List Nat} {D N : Nat → Nat → Bool} {sp fi la B : Nat → Nat} {o : Nat} {mp wp ef nc ct so wk wc rn kp kc rs rp rf ob ao en kn yk op qf ql : Nat → Int32} {bo : Nat → Int64} {nm ow : Nat → Int32} {c s : Nat} {kp' nc' rf' ob' ao' kn' op' nm' ow' : Nat → Int32} (a : tr_all C S P F E K V R L D N sp fi la B o mp wp ef nc ct so wk wc rn kp kc rs rp rf ob ao en kn yk op qf ql bo nm ow) (hc : c < 4) (e : R c = some s) (x1 : tr_xK (tc_lk K L D c s) kp' kc) (x2 : tr_xN E (tc_nv (tc_da D c 8) N) nc') (x3 : tr_xF (tc_nv (tc_da D c 8) N) rf') (x4 : tr_xO (tc_da D c 8) ob') (x5 : tr_xA (tc_lv (tc_da D c 8) L) ao') (y1 : tr_yK (tc_lk K L D c s) kn') (y2 : tr_yO (tc_da D c 8) op') (y3 : tr_yN (tc_nv (tc_da D c 8) N) nm') (y4 : tr_yD (tc_da D c 8) ow') : tr_all C S P F E (tc_lk K L D c s) (tc_u V c none) (tc_u R c none) (tc_lv (tc_da D c 8) L) (tc_da D c 8) (tc_nv (tc_da D c 8) N) sp fi la B o mp wp ef nc' (tc_clr E (tc_nv (tc_da D c 8) N) ct) (upd so c (-1)) (upd wk c 8) wc (upd rn s (rn s &&& (((1 : Int32) <<< (nI c &&& 31)) ^^^ (-1)))) kp' kc rs rp rf' ob' ao' en kn' (upd yk c (-1)) op' qf ql bo nm' ow' := by
  have a0 := a
  obtain ⟨hd, hE, gE, iE, hN, hF, hR, hQ, iR, hV, gV, hK, gK, hA, hO, hX, hP, gO, gD, gN, gP, gB, iL, iN, iP, iB, sK, sW⟩ := a
  obtain ⟨c1, c4, s1, s4, p1, p8, f1, f16⟩ := id hd
  refine (tr_mk hd hE gE iE x2 tc_clr_ok (ta_R hR c none rfl) (ta_xR_l hQ hc e) (ta_iR iR c none (fun s z => by cases z)) (tv_x hV c none rfl) (tv_y gV c none rfl) x1 y1 x5 x4 x3 (ta_xP hP) y2 y4 y3 (ta_yP gP) (ta_yB gB) (tr_iL_s iL tc_da_s) tr_iN_s (ta_iP iP) (ta_iB iB) ?_ ?_)
  · intro c' s' p k h1 h2 h3 h4
    obtain ⟨g1, g2, g3⟩ := sK c' s' p k h1 h2 h3 (ta_lk _ k h4)
    refine ⟨g1, g2, ?_⟩
    by_cases q : c' = c
    · subst q
      rcases g3 with z | ⟨z, t, t1, t2, _⟩
      · exact Or.inl z
      · exfalso
        rw [e] at z
        obtain rfl : s = s' := Option.some.inj z
        unfold tc_lk at h4
        cases y : L.find? (fun t => D t c') with
        | none => rw [tc_no iL hc y t t1] at t2; cases t2
        | some x =>
          rw [y, if_pos (show (some x).isSome = true from rfl), tc_kf_sp h3, if_pos ⟨rfl, rfl⟩] at h4
          cases h4
    · exact ta_sf h1 (fun z => by rw [tc_un q]; exact z) g3 (fun t t1 t2 _ _ _ _ => by rw [tc_da_n q]; exact t2)
  · intro b p hb z
    by_cases q : b = c
    · subst q; rw [tc_us] at z; cases z
    · rw [tc_un q] at z
      obtain ⟨g1, s', k, g2, g3, g4, g5⟩ := sW b p hb z
      refine ⟨g1, s', k, by rw [tc_un q]; exact g2, g3, g4, ta_sf hb (fun y => by rw [tc_un q]; exact y) g5 (fun t t1 t2 _ _ _ _ => by rw [tc_da_n q]; exact t2)⟩
theorem ta_run {C S P F : Nat} {E K V R : Nat → Option Nat} {L : List Nat} {D N : Nat → Nat → Bool} {sp fi la B : Nat → Nat} {o : Nat} {mp wp ef nc ct so wk wc rn kp kc rs rp rf ob ao en kn yk op qf ql : Nat → Int32} {bo : Nat → Int64} {nm ow : Nat → Int32} {c s : Nat} (a : tr_all C S P F E K V R L D N sp fi la B o mp wp ef nc ct so wk wc rn kp kc rs rp rf ob ao en kn yk op qf ql bo nm ow) (hc : c < C) (hs : s < S) (e : R c = none) : tr_all C S P F E K V (tc_u R c (some s)) L D N sp fi la B o mp wp ef nc ct (upd so c (nI s)) wk wc (upd rn s (rn s ||| ((1 : Int32) <<< (nI c &&& 31)))) kp kc rs rp rf ob ao en kn yk op qf ql bo nm ow := by
  have a0 := a
  obtain ⟨hd, hE, gE, iE, hN, hF, hR, hQ, iR, hV, gV, hK, gK, hA, hO, hX, hP, gO, gD, gN, gP, gB, iL, iN, iP, iB, sK, sW⟩ := a
  obtain ⟨c1, c4, s1, s4, p1, p8, f1, f16⟩ := id hd
  have tr : ∀ b s' p f, tr_sf E R D N sp fi la b s' p f → tr_sf E (tc_u R c (some s)) D N sp fi la b s' p f := by
    intro b s' p f z
    rcases z with z | ⟨z, w⟩
    · exact Or.inl z
    · refine Or.inr ⟨?_, w⟩
      by_cases q : b = c
      · subst q; rw [e] at z; cases z
      · rw [tc_un q]; exact z
  refine (tr_mk hd hE gE iE hN hF (ta_R hR c (some s) rfl) (ta_xR_r hQ (by omega) e) (ta_iR iR c (some s) (fun s' z => by cases z; exact ⟨hc, hs⟩)) hV gV hK gK hA hO hX hP gO gD gN gP gB iL iN iP iB ?_ ?_)
  · intro c' s' p k h1 h2 h3 h4
    obtain ⟨g1, g2, g3⟩ := sK c' s' p k h1 h2 h3 h4
    exact ⟨g1, g2, tr _ _ _ _ g3⟩
  · intro b p hb z
    obtain ⟨g1, s', k, g2, g3, g4, g5⟩ := sW b p hb z
    refine ⟨g1, s', k, ?_, g3, g4, tr _ _ _ _ g5⟩
    by_cases q : b = c
    · subst q; rw [e] at g2; cases g2
    · rw [tc_un q]; exact g2
theorem ta_uu {a : Nat → Int32} {c : Nat} {x y : Int32} : upd (upd a c x) c y = upd a c y := by
  funext j
  by_cases e : j = c
  · subst e; rw [pk_us, pk_us]
  · rw [pk_un e, pk_un e, pk_un e]
section
variable {cC sC pC fC oC : Int32} {mp wp ef nc ct so wk wc rn kp kc rs rp rf ob ao : Nat → Int32}
theorem xw_run4 {post : Int32 → SX → Prop} {c s : Nat} (hc : c < 4) (hs : s < 4) (H : post 0 (cC, sC, pC, fC, oC, mp, wp, ef, nc, ct, upd so c (nI s), wk, wc, upd rn s (rn s ||| ((1 : Int32) <<< (nI c &&& 31))), kp, kc, rs, rp, rf, ob, ao)) : wX_run_40 post (nI c) (nI s) cC sC pC fC oC mp wp ef nc ct so wk wc rn kp kc rs rp rf ob ao := by
  refine And.intro (vp_in_nI hc (by omega)) (nm_r (tb_up so _ (by omega)) (And.intro (vp_in_nI hs (by omega)) (And.intro (vp_in_nI hs (by omega)) (nm_r (e' := upd rn s (rn s ||| ((1 : Int32) <<< (nI c &&& 31)))) (by rw [nI_clamp (by omega)]) H))))
end
theorem i_vc_idle {k : Nat} {u : SX} {v : SY} (I : i_Rel k u v) (hk : k + 5 ≤ 2564) (v1 : Int32) : wpX_idle (fun r u' => wpY_idle (fun r' v' => r' = r ∧ i_Rel (k + 5) u' v') v v1) u v1 := by
  refine tr_el (M := fun u v => wpX_idle (fun r u' => wpY_idle (fun r' v' => r' = r ∧ i_Rel (k + 5) u' v') v v1) u v1) I ?_
  intro C S P F E K V R L D N sp fi la B o mp wp ef nc ct so wk wc rn kp kc rs rp rf ob ao en kn yk op qf ql bo nm ow zh ho a
  have a0 := a
  obtain ⟨hd, hE, gE, iE, hN, hF, hR, hQ, iR, hV, gV, hK, gK, hA, hO, hX, hP, gO, gD, gN, gP, gB, iL, iN, iP, iB, sK, sW⟩ := a
  obtain ⟨c1, c4, s1, s4, p1, p8, f1, f16⟩ := id hd
  have J := i_up (tr_in (zh := zh) ho a0)
  unfold wpX_idle wpY_idle
  by_cases h : tb_ok v1 C
  · obtain ⟨c, hc, rfl⟩ := h
    have hc4 : c < 4 := by omega
    have hso := hR c hc4
    have cl : (nI c).toNatClampNeg = c := nI_clamp (by omega)
    have hin : vp_in (nI c) 4 := vp_in_nI hc4 (by omega)
    cases e : R c with
    | none =>
      rw [e] at hso
      refine xw_cr_i hc c4 hso (br_f (by decide) ?_)
      refine yw_b_ok hc (by omega) (br_t rfl (And.intro hin (br_f ?_ ⟨rfl, J⟩)))
      rw [cl, hso]; decide
    | some s =>
      have hsS := iR c s hc4 e
      have hs : s < 4 := by omega
      rw [e, tc_o_s] at hso
      refine xw_cr_r hc c4 hs hso (br_t rfl ?_)
      refine xw_lv hc4 hs hso hK hO hA hX hN hF iL iN (fun kp' nc' rf' ob' ao' x1 x2 x3 x4 x5 => ?_)
      refine yw_b_ok hc (by omega) (br_t rfl (And.intro hin (br_t (by rw [cl, hso]; exact nI_pos' (by omega)) ?_)))
      refine yw_lv hc4 hs hso gE iE gK gO gD gN gB hF iL iN iB (by omega) (fun kn' op' nm' ow' y1 y2 y3 y4 => ?_)
      exact And.intro hin (nm_r (tb_up so _ (by omega)) ⟨rfl, tr_in (by omega) (ta_left a0 hc4 e x1 x2 x3 x4 x5 y1 y2 y3 y4)⟩)
  · refine xw_cr_b h c4 (br_f (by decide) ?_)
    exact yw_b_no h (by omega) (br_f (by decide) ⟨rfl, J⟩)
theorem i_vc_run {k : Nat} {u : SX} {v : SY} (I : i_Rel k u v) (hk : k + 5 ≤ 2564) (v1 : Int32) (v2 : Int32) : wpX_run (fun r u' => wpY_run (fun r' v' => r' = r ∧ i_Rel (k + 5) u' v') v v1 v2) u v1 v2 := by
  refine tr_el (M := fun u v => wpX_run (fun r u' => wpY_run (fun r' v' => r' = r ∧ i_Rel (k + 5) u' v') v v1 v2) u v1 v2) I ?_
  intro C S P F E K V R L D N sp fi la B o mp wp ef nc ct so wk wc rn kp kc rs rp rf ob ao en kn yk op qf ql bo nm ow zh ho a
  have a0 := a
  obtain ⟨hd, hE, gE, iE, hN, hF, hR, hQ, iR, hV, gV, hK, gK, hA, hO, hX, hP, gO, gD, gN, gP, gB, iL, iN, iP, iB, sK, sW⟩ := a
  obtain ⟨c1, c4, s1, s4, p1, p8, f1, f16⟩ := id hd
  have J := i_up (tr_in (zh := zh) ho a0)
  unfold wpX_run wpY_run
  by_cases h : tb_ok v1 C
  · obtain ⟨c, hc, rfl⟩ := h
    refine xw_b_ok hc (by omega) (br_t rfl ?_)
    by_cases h2 : tb_ok v2 S
    · obtain ⟨t, ht, rfl⟩ := h2
      refine xw_b_ok ht (by omega) (br_t rfl ?_)
      have hc4 : c < 4 := by omega
      have hso := hR c hc4
      have cl : (nI c).toNatClampNeg = c := nI_clamp (by omega)
      have hin : vp_in (nI c) 4 := vp_in_nI hc4 (by omega)
      refine And.intro hin ?_
      cases e : R c with
      | none =>
        rw [e] at hso
        refine br_t (by rw [cl, hso]; decide) (xw_run4 hc4 (by omega) ?_)
        refine yw_b_ok hc (by omega) (br_t rfl ?_)
        refine yw_b_ok ht (by omega) (br_t rfl (And.intro hin (br_t (by rw [cl, hso]; decide) (And.intro hin (nm_r (tb_up so _ (by omega)) ⟨rfl, ?_⟩)))))
        exact tr_in (by omega) (ta_run a0 hc ht e)
      | some s =>
        have hsS := iR c s hc4 e
        have hs : s < 4 := by omega
        rw [e, tc_o_s] at hso
        refine br_f (by rw [cl, hso]; exact nI_pos (by omega)) ?_
        refine xw_lv hc4 hs hso hK hO hA hX hN hF iL iN (fun kp' nc' rf' ob' ao' x1 x2 x3 x4 x5 => ?_)
        refine xw_run4 hc4 (by omega) ?_
        refine yw_b_ok hc (by omega) (br_t rfl ?_)
        refine yw_b_ok ht (by omega) (br_t rfl (And.intro hin (br_f (by rw [cl, hso]; exact nI_pos (by omega)) ?_)))
        refine yw_lv hc4 hs hso gE iE gK gO gD gN gB hF iL iN iB (by omega) (fun kn' op' nm' ow' y1 y2 y3 y4 => ?_)
        refine And.intro hin (nm_r (tb_up so _ (by omega)) ⟨rfl, ?_⟩)
        have fin := ta_run (ta_left a0 hc4 e x1 x2 x3 x4 x5 y1 y2 y3 y4) hc ht tc_us
        rw [ta_uu] at fin ⊢
        exact tr_in (by omega) fin
    · refine xw_b_no h2 (by omega) (br_f (by decide) ?_)
      refine yw_b_ok hc (by omega) (br_t rfl ?_)
      exact yw_b_no h2 (by omega) (br_f (by decide) ⟨rfl, J⟩)
  · refine xw_b_no h (by omega) (br_f (by decide) ?_)
    exact yw_b_no h (by omega) (br_f (by decide) ⟨rfl, J⟩)
end
section
/-! handle -/
theorem ta_hand {C S P F : Nat} {E K V V' R : Nat → Option Nat} {L : List Nat} {D N : Nat → Nat → Bool} {sp fi la B : Nat → Nat} {o : Nat} {mp wp ef nc ct so wk wc rn kp kc rs rp rf ob ao en kn yk op qf ql : Nat → Int32} {bo : Nat → Int64} {nm ow : Nat → Int32} {c t : Nat} {kp' nc' rf' ob' ao' kn' op' nm' ow' wk' yk' : Nat → Int32} (a : tr_all C S P F E K V R L D N sp fi la B o mp wp ef nc ct so wk wc rn kp kc rs rp rf ob ao en kn yk op qf ql bo nm ow) (hc : c < 4) (v1 : tr_xW V' wk') (v2 : tr_yW V' yk') (v3 : ∀ b p, V' b = some p → V b = some p ∧ (b = c → ¬ (fi t ≤ p ∧ p ≤ la t))) (x1 : tr_xK (tc_kf K (c * 4 + sp t) (fun p => decide (fi t ≤ p ∧ p ≤ la t))) kp' kc) (x2 : tr_xN E (tc_nv (tc_dk D c t) N) nc') (x3 : tr_xF (tc_nv (tc_dk D c t) N) rf') (x4 : tr_xO (tc_dk D c t) ob') (x5 : tr_xA (tc_lv (tc_dk D c t) L) ao') (y1 : tr_yK (tc_kf K (c * 4 + sp t) (fun p => decide (fi t ≤ p ∧ p ≤ la t))) kn') (y2 : tr_yO (tc_dk D c t) op') (y3 : tr_yN (tc_nv (tc_dk D c t) N) nm') (y4 : tr_yD (tc_dk D c t) ow') : tr_all C S P F E (tc_kf K (c * 4 + sp t) (fun p => decide (fi t ≤ p ∧ p ≤ la t))) V' R (tc_lv (tc_dk D c t) L) (tc_dk D c t) (tc_nv (tc_dk D c t) N) sp fi la B o mp wp ef nc' (tc_clr E (tc_nv (tc_dk D c t) N) ct) so wk' wc rn kp' kc rs rp rf' ob' ao' en kn' yk' op' qf ql bo nm' ow' := by
  have a0 := a
  obtain ⟨hd, hE, gE, iE, hN, hF, hR, hQ, iR, hV, gV, hK, gK, hA, hO, hX, hP, gO, gD, gN, gP, gB, iL, iN, iP, iB, sK, sW⟩ := a
  obtain ⟨c1, c4, s1, s4, p1, p8, f1, f16⟩ := id hd
  refine (tr_mk hd hE gE iE x2 tc_clr_ok hR hQ iR v1 v2 x1 y1 x5 x4 x3 (ta_xP hP) y2 y4 y3 (ta_yP gP) (ta_yB gB) (tr_iL_s iL tc_sub_dk) tr_iN_s (ta_iP iP) (ta_iB iB) ?_ ?_)
  · intro c' s' p k h1 h2 h3 h4
    rw [tc_kf_sp h3] at h4
    by_cases z : c' * 4 + s' = c * 4 + sp t ∧ decide (fi t ≤ p ∧ p ≤ la t) = true
    · rw [if_pos z] at h4; cases h4
    · rw [if_neg z] at h4
      obtain ⟨g1, g2, g3⟩ := sK c' s' p k h1 h2 h3 h4
      refine ⟨g1, g2, ta_sf h1 (fun y => y) g3 (fun t' t1 t2 t3 t4 t5 _ => ?_)⟩
      rw [tc_dk_n (fun q => ?_)]
      · exact t2
      · obtain ⟨rfl, rfl⟩ := q
        exact z ⟨by omega, decide_eq_true ⟨t4, t5⟩⟩
  · intro b p hb z
    obtain ⟨w1, w2⟩ := v3 b p z
    obtain ⟨g1, s', k, g2, g3, g4, g5⟩ := sW b p hb w1
    refine ⟨g1, s', k, g2, g3, g4, ta_sf hb (fun y => y) g5 (fun t' t1 t2 t3 t4 t5 _ => ?_)⟩
    rw [tc_dk_n (fun q => ?_)]
    · exact t2
    · obtain ⟨rfl, rfl⟩ := q
      exact w2 rfl ⟨t4, t5⟩
theorem i_vc_handle {k : Nat} {u : SX} {v : SY} (I : i_Rel k u v) (hk : k + 5 ≤ 2564) (v1 : Int32) : wpX_handle (fun r u' => wpY_handle (fun r' v' => r' = r ∧ i_Rel (k + 5) u' v') v v1) u v1 := by
  refine tr_el (M := fun u v => wpX_handle (fun r u' => wpY_handle (fun r' v' => r' = r ∧ i_Rel (k + 5) u' v') v v1) u v1) I ?_
  intro C S P F E K V R L D N sp fi la B o mp wp ef nc ct so wk wc rn kp kc rs rp rf ob ao en kn yk op qf ql bo nm ow zh ho a
  have a0 := a
  obtain ⟨hd, hE, gE, iE, hN, hF, hR, hQ, iR, hV, gV, hK, gK, hA, hO, hX, hP, gO, gD, gN, gP, gB, iL, iN, iP, iB, sK, sW⟩ := a
  obtain ⟨c1, c4, s1, s4, p1, p8, f1, f16⟩ := id hd
  have J := i_up (tr_in (zh := zh) ho a0)
  unfold wpX_handle
  by_cases h : tb_ok v1 C
  · obtain ⟨c, hc, rfl⟩ := h
    have hc4 : c < 4 := by omega
    have hso := hR c hc4
    have cl : (nI c).toNatClampNeg = c := nI_clamp (by omega)
    have hin : vp_in (nI c) 4 := vp_in_nI hc4 (by omega)
    cases e : R c with
    | none =>
      rw [e] at hso
      refine xw_cr_i hc c4 hso (br_f (by decide) ?_)
      unfold wpY_handle
      refine yw_b_ok hc (by omega) (br_t rfl (And.intro hin (br_f ?_ ⟨rfl, J⟩)))
      rw [cl, hso]; decide
    | some s =>
      have hsS := iR c s hc4 e
      have hs : s < 4 := by omega
      rw [e, tc_o_s] at hso
      have hr0 : 0 ≤ so (nI c).toNatClampNeg := by rw [cl, hso]; exact nI_pos' (by omega)
      refine xw_cr_r hc c4 hs hso (br_t rfl ?_)
      refine xw_oo hO hA iL hc4 ?_
      cases z : L.find? (fun t => D t c) with
      | none =>
        refine br_f (nI_nlt (a := 8) (b := 8) (Nat.le_refl 8) (by decide)) ?_
        unfold wpY_handle
        refine yw_b_ok hc (by omega) (br_t rfl (And.intro hin (br_t hr0 ?_)))
        refine yw_ol gO gD gB iL iB (by omega) hc4 ?_
        rw [z]
        exact br_t rfl ⟨rfl, J⟩
      | some t =>
        rw [show (some t).getD 8 = t from rfl]
        obtain ⟨tL, t8, _⟩ := tc_yes iL z
        obtain ⟨q1, q2, q3, q4⟩ := iP t tL
        have ct8 : (nI t).toNatClampNeg = t := nI_clamp (by omega)
        have tin : vp_in (nI t) 8 := vp_in_nI t8 (by omega)
        have gp := gP t tL
        refine br_t (nI_lt (a := t) (b := 8) t8 (by decide)) (And.intro tin (And.intro tin ?_))
        show wpX_forget _ _ _ (rs (nI t).toNatClampNeg) (rp (nI t).toNatClampNeg)
        rw [tb_rd rs (by omega), tb_rd rp (by omega), q4]
        refine xw_fg hc4 q3 ?_
        have hK' : tr_xK (tc_kf K (c * 4 + sp t) (fun p => decide (fi t ≤ p ∧ p ≤ la t))) (upd kp (c * 4 + sp t) (kp (c * 4 + sp t) &&& (rp t ^^^ (-1)))) kc := by
          rw [← tc_kf_c (m := bt (rp t)) (fun p _ => hP t p tL)]
          exact tr_xK_f hK _ _
        have yy : ∀ post : Int32 → SY → Prop, (∀ kn', tr_yK (tc_kf K (c * 4 + sp t) (fun p => decide (fi t ≤ p ∧ p ≤ la t))) kn' → ((yk c < qf t → wY_handle_101 post (nI c) (nI t) (nI C) (nI S) (nI P) (nI F) (lN o) en kn' so yk wc ct op rs qf ql bo nm ow zh) ∧ (¬ yk c < qf t → ((ql t < yk c → wY_handle_101 post (nI c) (nI t) (nI C) (nI S) (nI P) (nI F) (lN o) en kn' so yk wc ct op rs qf ql bo nm ow zh) ∧ (¬ ql t < yk c → wY_handle_101 post (nI c) (nI t) (nI C) (nI S) (nI P) (nI F) (lN o) en kn' so (upd yk c (-1)) wc ct op rs qf ql bo nm ow zh))))) → wpY_handle post (nI C, nI S, nI P, nI F, lN o, en, kn, so, yk, wc, ct, op, rs, qf, ql, bo, nm, ow, zh) (nI c) := by
          intro post H
          unfold wpY_handle
          refine yw_b_ok hc (by omega) (br_t rfl (And.intro hin (br_t hr0 ?_)))
          refine yw_ol gO gD gB iL iB (by omega) hc4 ?_
          rw [z, show (some t).getD 8 = t from rfl]
          refine br_f (fun y => by have := (nI_eq (a := t) (b := 8) (by omega) (by omega)).mp y; omega) (And.intro tin (And.intro tin (And.intro tin ?_)))
          show wpY_forget _ _ _ (rs (nI t).toNatClampNeg) (qf (nI t).toNatClampNeg) (ql (nI t).toNatClampNeg)
          rw [tb_rd rs (by omega), tb_rd qf (by omega), tb_rd ql (by omega), q4, gp.1, gp.2]
          refine yw_fg hc4 q3 (by omega) (by omega) gK (fun kn' y1 => ?_)
          have h1 := H kn' y1
          refine And.intro hin (And.intro tin ?_)
          rw [cl, ct8]
          refine br_c (fun y => h1.1 y) (fun y => And.intro hin (And.intro tin (br_c (fun y2 => (h1.2 y).1 y2) (fun y2 => And.intro hin (nm_e ((h1.2 y).2 y2))))))
        have fin : ∀ V' wk' yk', tr_xW V' wk' → tr_yW V' yk' → (∀ b p, V' b = some p → V b = some p ∧ (b = c → ¬ (fi t ≤ p ∧ p ≤ la t))) → ∀ nc' rf' ob' ao' kn' op' nm' ow', tr_xN E (tc_nv (tc_dk D c t) N) nc' → tr_xF (tc_nv (tc_dk D c t) N) rf' → tr_xO (tc_dk D c t) ob' → tr_xA (tc_lv (tc_dk D c t) L) ao' → tr_yK (tc_kf K (c * 4 + sp t) (fun p => decide (fi t ≤ p ∧ p ≤ la t))) kn' → tr_yO (tc_dk D c t) op' → tr_yN (tc_nv (tc_dk D c t) N) nm' → tr_yD (tc_dk D c t) ow' → i_Rel (k + 5) (nI C, nI S, nI P, nI F, nI (tc_lv (tc_dk D c t) L).length, mp, wp, ef, nc', tc_clr E (tc_nv (tc_dk D c t) N) ct, so, wk', wc, rn, upd kp (c * 4 + sp t) (kp (c * 4 + sp t) &&& (rp t ^^^ (-1))), kc, rs, rp, rf', ob', ao') (nI C, nI S, nI P, nI F, lN o, en, kn', so, yk', wc, tc_clr E (tc_nv (tc_dk D c t) N) ct, op', rs, qf, ql, bo, nm', ow', zh) := fun V' wk' yk' g1 g2 g3 nc' rf' ob' ao' kn' op' nm' ow' x2 x3 x4 x5 y1 y2 y3 y4 => tr_in (by omega) (ta_hand a0 hc4 g1 g2 g3 hK' x2 x3 x4 x5 y1 y2 y3 y4)
        refine And.intro tin (And.intro hin ?_)
        rw [cl, ct8]
        have hwk := hV c hc4
        have hyk := gV c hc4
        cases w : V c with
        | none =>
          rw [w] at hwk hyk
          have hwk' : wk c = nI 8 := hwk
          have hyk' : yk c = -1 := hyk
          refine br_t ?_ ?_
          · rw [hwk']
            exact tb_zf (by omega) (by rw [hP t 8 tL]; exact decide_eq_false (by omega))
          · refine xw_ak hc4 t8 hO hA hX hN hF iL iN (fun nc' rf' ob' ao' x2 x3 x4 x5 => ?_)
            refine yy _ (fun kn' y1 => ?_)
            refine br_t ?_ ?_
            · rw [hyk', gp.1, Int32.lt_iff_toInt_lt, nI_toInt (by omega), show (-1 : Int32).toInt = -1 from by decide]; omega
            · refine yw_ak hc4 t8 gE iE gO gD gN hF iN (fun op' nm' ow' y2 y3 y4 => ?_)
              exact ⟨rfl, fin V wk yk hV gV (fun b p y => ⟨y, fun q => by rw [q, w] at y; cases y⟩) nc' rf' ob' ao' kn' op' nm' ow' x2 x3 x4 x5 y1 y2 y3 y4⟩
        | some p =>
          have hp8 := (sW c p hc4 w).1
          rw [w] at hwk hyk
          have hwk' : wk c = nI p := hwk
          have hyk' : yk c = nI p := hyk
          by_cases r : fi t ≤ p ∧ p ≤ la t
          · refine br_f ?_ (And.intro hin (nm_e ?_))
            · rw [hwk']
              exact tb_zt (by omega) (by rw [hP t p tL]; exact decide_eq_true r)
            · refine xw_ak hc4 t8 hO hA hX hN hF iL iN (fun nc' rf' ob' ao' x2 x3 x4 x5 => ?_)
              refine yy _ (fun kn' y1 => ?_)
              refine br_f ?_ (br_f ?_ ?_)
              · rw [hyk', gp.1]; exact nI_nlt r.1 (by omega)
              · rw [hyk', gp.2]; exact nI_nlt r.2 (by omega)
              · refine yw_ak hc4 t8 gE iE gO gD gN hF iN (fun op' nm' ow' y2 y3 y4 => ?_)
                refine ⟨rfl, fin (tc_u V c none) (upd wk c 8) (upd yk c (-1)) (tv_x hV c none rfl) (tv_y gV c none rfl) (fun b p' y => ?_) nc' rf' ob' ao' kn' op' nm' ow' x2 x3 x4 x5 y1 y2 y3 y4⟩
                by_cases q : b = c
                · rw [q, tc_us] at y; cases y
                · rw [tc_un q] at y; exact ⟨y, fun q2 => absurd q2 q⟩
          · refine br_t ?_ ?_
            · rw [hwk']
              exact tb_zf (by omega) (by rw [hP t p tL]; exact decide_eq_false r)
            · refine xw_ak hc4 t8 hO hA hX hN hF iL iN (fun nc' rf' ob' ao' x2 x3 x4 x5 => ?_)
              refine yy _ (fun kn' y1 => ?_)
              have go : ∀ post : Int32 → SY → Prop, (∀ op' nm' ow', tr_yO (tc_dk D c t) op' → tr_yN (tc_nv (tc_dk D c t) N) nm' → tr_yD (tc_dk D c t) ow' → post (nI t) (nI C, nI S, nI P, nI F, lN o, en, kn', so, yk, wc, tc_clr E (tc_nv (tc_dk D c t) N) ct, op', rs, qf, ql, bo, nm', ow', zh)) → wY_handle_101 post (nI c) (nI t) (nI C) (nI S) (nI P) (nI F) (lN o) en kn' so yk wc ct op rs qf ql bo nm ow zh := fun post H => by
                unfold wY_handle_101
                exact yw_ak hc4 t8 gE iE gO gD gN hF iN H
              have fn := fun op' nm' ow' y2 y3 y4 => fin V wk yk hV gV (fun b p' y => ⟨y, fun q => by rw [q, w] at y; cases y; exact r⟩) nc' rf' ob' ao' kn' op' nm' ow' x2 x3 x4 x5 y1 y2 y3 y4
              by_cases r1 : p < fi t
              · refine br_t (by rw [hyk', gp.1]; exact nI_lt r1 (by omega)) ?_
                exact go _ (fun op' nm' ow' y2 y3 y4 => ⟨rfl, fn op' nm' ow' y2 y3 y4⟩)
              · refine br_f (by rw [hyk', gp.1]; exact nI_nlt (by omega) (by omega)) (br_t (by rw [hyk', gp.2]; exact nI_lt (by omega) (by omega)) ?_)
                exact go _ (fun op' nm' ow' y2 y3 y4 => ⟨rfl, fn op' nm' ow' y2 y3 y4⟩)
  · refine xw_cr_b h c4 (br_f (by decide) ?_)
    unfold wpY_handle
    exact yw_b_no h (by omega) (br_f (by decide) ⟨rfl, J⟩)
end
section
/-! withdraw keeps the relation -/
theorem tw_K4 {C : Nat} {E R K : Nat → Option Nat} {D N : Nat → Nat → Bool} {sp fi la : Nat → Nat} {kn : Nat → Int32} {s : Nat} (hC : C ≤ 4) (sK : tr_sK C E R K D N sp fi la) (h : tr_yK (tw_K K R s C) kn) : tr_yK (tw_K K R s 4) kn := by
  refine tr_yK_c h (fun i hi => ?_)
  unfold tw_K
  by_cases e : i / 8 % 4 = s ∧ i / 32 < C ∧ ¬ R (i / 32) = some s
  · rw [if_pos e, if_pos ⟨e.1, by omega, e.2.2⟩]
  · rw [if_neg e]
    by_cases z : i / 8 % 4 = s ∧ i / 32 < 4 ∧ ¬ R (i / 32) = some s
    · rw [if_pos z]
      cases y : K i with
      | none => rfl
      | some k =>
        have e2 : i = (i / 32 * 4 + i / 8 % 4) * 8 + i % 8 := by omega
        have h1 := sK (i / 32) (i / 8 % 4) (i % 8) k (by omega) (by omega) (by omega) (by rw [← e2]; exact y)
        exact absurd ⟨z.1, h1.2.1, z.2.2⟩ e
    · rw [if_neg z]
theorem tw_Kk {K R : Nat → Option Nat} {s c t q k : Nat} (hc : c < 4) (ht : t < 4) (hq : q < 8) (h : tw_K K R s 4 ((c * 4 + t) * 8 + q) = some k) : K ((c * 4 + t) * 8 + q) = some k ∧ (t = s → R c = some s) := by
  rw [tw_K_sp ht hq] at h
  by_cases e : t = s ∧ c < 4 ∧ ¬ R c = some s
  · rw [if_pos e] at h; cases h
  · rw [if_neg e] at h
    exact ⟨h, fun z => Classical.byContradiction (fun y => e ⟨z, hc, y⟩)⟩
theorem tw_sf0 {E R : Nat → Option Nat} {D N : Nat → Nat → Bool} {sp fi la : Nat → Nat} {A : Nat → Bool} {w : Bool} {s b t p f : Nat} (hp : p < 8) (h : t ≠ s) (z : tr_sf E R D N sp fi la b t p f) : tr_sf (tw_E E s A w) R D N sp fi la b t p f := by
  rcases z with z | z
  · refine Or.inl ?_
    rw [tw_E_sp hp, if_neg (fun y => h y.1)]
    exact z
  · exact Or.inr z
theorem tw_sf1 {E R : Nat → Option Nat} {D N : Nat → Nat → Bool} {sp fi la : Nat → Nat} {w : Bool} {s x y b t p f u : Nat} (hb : b < 4) (hp : p < 8) (hf : f < 16) (hu : u < 8) (anF : tc_an (D u) = false) (hy : t = s → R b = some s) (z : tr_sf E R D N sp fi la b t p f) : tr_sf (tw_E E s (tw_A E s x y w) w) R (tw_D D R s u 4) (tc_ad N u (tc_nf E s (tw_A E s x y w) 8) 16) (tc_u sp u s) (tc_u fi u x) (tc_u la u y) b t p f := by
  rcases z with z | ⟨z1, v, z2, z3, z4, z5, z6, z7⟩
  · by_cases e : t = s ∧ tw_A E s x y w p = true
    · obtain ⟨rfl, e2⟩ := e
      have g := tw_A_so e2
      refine Or.inr ⟨hy rfl, u, hu, ?_, tc_us, by rw [tc_us]; exact g.1, by rw [tc_us]; exact g.2.1, ?_⟩
      · rw [tw_D_t hb]; exact decide_eq_true (hy rfl)
      · rw [tc_ad_t hf]; exact tc_nf_t.mpr ⟨p, hp, e2, z⟩
    · refine Or.inl ?_
      rw [tw_E_sp hp, if_neg e]
      exact z
  · have vu : v ≠ u := fun q => by rw [q, tc_an_f.mp anF b hb] at z3; cases z3
    exact Or.inr ⟨z1, v, z2, by rw [tw_D_o vu]; exact z3, by rw [tc_un vu]; exact z4, by rw [tc_un vu]; exact z5, by rw [tc_un vu]; exact z6, by rw [tc_ad_o vu]; exact z7⟩
theorem i_vc_withdraw {k : Nat} {u : SX} {v : SY} (I : i_Rel k u v) (hk : k + 5 ≤ 2564) (v1 : Int32) (v2 : Int32) (v3 : Int32) (v4 : Int32) : wpX_withdraw (fun r u' => wpY_withdraw (fun r' v' => r' = r ∧ i_Rel (k + 5) u' v') v v1 v2 v3 (lw_bz v4)) u v1 v2 v3 (lw_bz v4) := by
  obtain ⟨w, hw⟩ := te_bz v4
  rw [hw]
  refine tr_el (M := fun u v => wpX_withdraw (fun r u' => wpY_withdraw (fun r' v' => r' = r ∧ i_Rel (k + 5) u' v') v v1 v2 v3 (tc_b w)) u v1 v2 v3 (tc_b w)) I ?_
  intro C S P F E K V R L D N sp fi la B o mp wp ef nc ct so wk wc rn kp kc rs rp rf ob ao en kn yk op qf ql bo nm ow zh ho a
  have a0 := a
  obtain ⟨hd, hE, gE, iE, hN, hF, hR, hQ, iR, hV, gV, hK, gK, hA, hO, hX, hP, gO, gD, gN, gP, gB, iL, iN, iP, iB, sK, sW⟩ := a
  obtain ⟨c1, c4, s1, s4, p1, p8, f1, f16⟩ := id hd
  have J := fun zh => i_up (tr_in (zh := zh) ho a0)
  have hR4 : ∀ c j, c < 4 → R c = some j → j < 2 ^ 31 := fun c j h1 h2 => by have := (iR c j h1 h2).2; omega
  by_cases h : tb_ok v1 S ∧ tb_ok v2 P ∧ tb_ok v3 P ∧ v2 ≤ v3
  · obtain ⟨⟨s, hs, rfl⟩, ⟨x, hx, rfl⟩, ⟨y, hy, rfl⟩, hxy⟩ := h
    rw [nI_leI (by omega) (by omega)] at hxy
    have hs4 : s < 4 := by omega
    by_cases hn : ∀ j, j < 8 → tw_A E s x y w j = false
    · refine xw_wd_n hs s4 hx hy p8 hxy hE hn ?_
      exact yw_wd_n hs s4 hx hy p8 hxy gE iE hn (fun zh' => ⟨rfl, J zh'⟩)
    · by_cases hr : ∀ c, c < 4 → ¬ R c = some s
      · refine xw_wd_0 hs s4 hx hy p8 hxy hE iE hN hF hK hR hR4 hQ hn hr (fun mp' wp' nc' kp' x1 x2 x3 => ?_)
        refine yw_wd_0 c4 hs s4 hx hy p8 hxy gE iE gK hR iR gO gN iL iN hn hr (fun en' kn' zh' y1 y2 => ⟨rfl, ?_⟩)
        refine tr_in (by omega) (tr_mk hd x1 y1 (tw_iE iE) x2 tc_clr_ok hR hQ iR hV gV x3 (tw_K4 c4 sK y2) hA hO hX hP gO gD gN gP gB iL iN iP iB ?_ ?_)
        · intro c' s' p q h1 h2 h3 h4
          obtain ⟨g1, g2⟩ := tw_Kk h1 h2 h3 h4
          obtain ⟨g3, g4, g5⟩ := sK c' s' p q h1 h2 h3 g1
          exact ⟨g3, g4, tw_sf0 h3 (fun z => hr c' h1 (g2 z)) g5⟩
        · intro b p hb z
          obtain ⟨g1, s', q, g2, g3, g4, g5⟩ := sW b p hb z
          exact ⟨g1, s', q, g2, g3, g4, tw_sf0 g1 (fun z => hr b hb (by rw [g2, z])) g5⟩
      · by_cases h8 : 8 ≤ L.length
        · have hl := tl_len 8 L iL.1 (fun x hx => ((iL.2 x).mp hx).1)
          refine xw_wd_f hs s4 hx hy p8 hxy hE hQ hn hr h8 (by omega) ?_
          exact yw_wd_f c4 hs s4 hx hy p8 hxy gE iE hR iR gO iL hn hr (tl_full iL.1 (fun x hx => ((iL.2 x).mp hx).1) h8) (fun zh' => ⟨rfl, J zh'⟩)
        · obtain ⟨t, ht, htL, htj⟩ := tl_least (L := L) (by omega)
          have anF : tc_an (D t) = false := by
            cases z : tc_an (D t) with
            | false => rfl
            | true => exact absurd ((iL.2 t).mpr ⟨ht, z⟩) htL
          have anT : tc_an (tw_D D R s t 4 t) = true := Classical.byContradiction (fun z => hr (fun c hc e => z (tc_an_t.mpr ⟨c, hc, by rw [tw_D_t hc]; exact decide_eq_true e⟩)))
          have hN0 : ∀ f, f < 16 → N t f = false := fun f hf => by
            cases z : N t f with
            | false => rfl
            | true => rw [iN t f ht hf z] at anF; cases anF
          have ne : ∀ z, z ∈ L → z ≠ t := fun z hz e => htL (e ▸ hz)
          have lenE : (L ++ [t]).length = L.length + 1 := by rw [List.length_append]; rfl
          refine xw_wd_1 hs s4 hx hy p8 hxy hE iE hN hF hK hR hR4 hQ hn hr (n := L.length) (t := t) (by omega) ht ((tr_xO_0 hO ht).mpr anF) (fun j hj z => ?_) hN0 (fun x5 x3 mp' wp' nc' kp' e5 e3 x1 x2 x4 => ?_)
          · have h1 := ((iL.2 j).mp (htj j hj)).2
            rw [(tr_xO_0 hO (by omega)).mp z] at h1
            cases h1
          · refine yw_wd_1 c4 hs s4 hx hy p8 hxy gE iE gK hR iR gO gD gN iL iN hn hr ht htL htj (fun en' kn' op' nm' ow' zh' y1 y2 y3 y4 y5 => ⟨rfl, ?_⟩)
            rw [← lenE]
            refine tr_in (L := L ++ [t]) (by omega) (tr_mk (sp := tc_u sp t s) (fi := tc_u fi t x) (la := tc_u la t y) (B := tc_u B t o) hd x1 y1 (tw_iE iE) x2 tc_clr_ok hR hQ iR hV gV x4 (tw_K4 c4 sK y2) (tr_xA_a hA t) ?_ ?_ ?_ y3 y5 y4 ?_ ?_ ?_ ?_ ?_ ?_ ?_ ?_)
            · intro z b hz
              by_cases e : z = t
              · subst e
                rw [pk_us, hQ s b hs4]
                by_cases q : b < 4
                · rw [tw_D_t q]
                · rw [decide_eq_false q, Bool.false_and, Bool.false_and]
              · rw [pk_un e, tw_D_o e]; exact hO z b hz
            · intro z f hz hf
              by_cases e : z = t
              · subst e; rw [pk_us, e3 f, tc_ad_t hf]
              · rw [pk_un e, tc_ad_o e]; exact hX z f hz hf
            · intro z p hz
              rcases List.mem_append.mp hz with q | q
              · rw [pk_un (ne z q), tc_un (ne z q), tc_un (ne z q)]; exact hP z p q
              · rw [List.mem_singleton.mp q, pk_us, tc_us, tc_us]; exact e5 p
            · intro z hz
              rcases List.mem_append.mp hz with q | q
              · rw [pk_un (ne z q), pk_un (ne z q), tc_un (ne z q), tc_un (ne z q)]; exact gP z q
              · rw [List.mem_singleton.mp q, pk_us, pk_us, tc_us, tc_us]; exact ⟨rfl, rfl⟩
            · intro z hz
              rcases List.mem_append.mp hz with q | q
              · rw [pk_uLn (ne z q), tc_un (ne z q)]; exact gB z q
              · rw [List.mem_singleton.mp q, pk_uLs, tc_us]
            · refine ⟨List.nodup_append.mpr ⟨iL.1, List.nodup_cons.mpr ⟨List.not_mem_nil, List.nodup_nil⟩, fun z hz z' hz' => by rw [List.mem_singleton.mp hz']; exact ne z hz⟩, fun z => ?_⟩
              rw [List.mem_append, List.mem_singleton, iL.2 z]
              by_cases e : z = t
              · subst e
                exact ⟨fun _ => ⟨ht, anT⟩, fun _ => Or.inr rfl⟩
              · rw [tc_an_c (g := tw_D D R s t 4 z) (g' := D z) (fun b _ => tw_D_o e)]
                exact ⟨fun q => q.resolve_right e, fun q => Or.inl q⟩
            · intro z f hz hf q
              by_cases e : z = t
              · rw [e]; exact anT
              · rw [tc_ad_o e] at q
                rw [tc_an_c (g := tw_D D R s t 4 z) (g' := D z) (fun b _ => tw_D_o e)]
                exact iN z f hz hf q
            · intro z hz
              rcases List.mem_append.mp hz with q | q
              · rw [pk_un (ne z q), tc_un (ne z q), tc_un (ne z q), tc_un (ne z q)]; exact iP z q
              · rw [List.mem_singleton.mp q, pk_us, tc_us, tc_us, tc_us]; exact ⟨hxy, by omega, hs4, rfl⟩
            · refine ⟨List.pairwise_append.mpr ⟨iB.1.imp_of_mem (fun {a b} ha hb q => by rw [tc_un (ne a ha), tc_un (ne b hb)]; exact q), List.pairwise_singleton _ _, fun z hz z' hz' => ?_⟩, fun z hz => ?_⟩
              · rw [List.mem_singleton.mp hz', tc_us, tc_un (ne z hz)]
                exact iB.2 z hz
              · rcases List.mem_append.mp hz with q | q
                · rw [tc_un (ne z q)]; have := iB.2 z q; omega
                · rw [List.mem_singleton.mp q, tc_us]; omega
            · intro c' s' p q h1 h2 h3 h4
              obtain ⟨g1, g2⟩ := tw_Kk h1 h2 h3 h4
              obtain ⟨g3, g4, g5⟩ := sK c' s' p q h1 h2 h3 g1
              exact ⟨g3, g4, tw_sf1 h1 h3 (by omega) ht anF g2 g5⟩
            · intro b p hb z
              obtain ⟨g1, s', q, g2, g3, g4, g5⟩ := sW b p hb z
              exact ⟨g1, s', q, g2, g3, g4, tw_sf1 hb g1 (by omega) ht anF (fun e => by rw [g2, e]) g5⟩
  · refine xw_wd_b s4 p8 h ?_
    exact yw_wd_b s4 p8 h ⟨rfl, J zh⟩
end
section
/-! the constructors -/
def tz_f (n : Nat) (x : Int32) : Nat → Int32 := fun i => if i < n then x else 0
theorem tz_0 (x : Int32) : tz_f 0 x = fun _ => 0 := by
  funext i
  exact if_neg (by omega)
theorem tz_s (n : Nat) (x : Int32) : upd (tz_f n x) n x = tz_f (n + 1) x := by
  funext i
  unfold upd tz_f
  by_cases e : i = n
  · rw [if_pos e, if_pos (by omega)]
  · rw [if_neg e]
    by_cases z : i < n
    · rw [if_pos z, if_pos (by omega)]
    · rw [if_neg z, if_neg (by omega)]
theorem tz_at {n i : Nat} {x : Int32} (h : i < n) : tz_f n x i = x := if_pos h
theorem tz_cl (v : Int32) (m : Nat) (h1 : 1 ≤ m) (hm : m ≤ 16) : ∃ n, 1 ≤ n ∧ n ≤ m ∧ (∀ (post : Int32 → Prop) (u : SX), post (nI n) → wpX_clamp post u v (nI m)) ∧ (∀ (post : Int32 → Prop) (u : SY), post (nI n) → wpY_clamp post u v (nI m)) := by
  by_cases e1 : (1 : Int32) ≤ v
  · have e0 : ¬ v < 0 := fun z => absurd (Int32.lt_of_le_of_lt e1 z) (by decide)
    obtain ⟨j, hj, rfl⟩ := nI_of e0
    have j1 : 1 ≤ j := (nI_leI (a := 1) (by omega) hj).mp e1
    by_cases e2 : j ≤ m
    · refine ⟨j, j1, e2, fun post u H => ?_, fun post u H => ?_⟩
      · obtain ⟨cC, sC, pC, fC, oC, mp, wp, ef, nc, ct, so, wk, wc, rn, kp, kc, rs, rp, rf, ob, ao⟩ := u
        exact br_t e1 (br_t (nI_le e2 (by omega)) H)
      · obtain ⟨fc, fs, fp, ff, fo, en, kn, ru, yk, yc, yt, op, qs, qf, ql, bo, nm, ow, zh⟩ := u
        exact br_t e1 (br_t (nI_le e2 (by omega)) H)
    · refine ⟨m, h1, Nat.le_refl m, fun post u H => ?_, fun post u H => ?_⟩
      · obtain ⟨cC, sC, pC, fC, oC, mp, wp, ef, nc, ct, so, wk, wc, rn, kp, kc, rs, rp, rf, ob, ao⟩ := u
        exact br_t e1 (br_f (nI_ge (by omega) hj) H)
      · obtain ⟨fc, fs, fp, ff, fo, en, kn, ru, yk, yc, yt, op, qs, qf, ql, bo, nm, ow, zh⟩ := u
        exact br_t e1 (br_f (nI_ge (by omega) hj) H)
  · refine ⟨1, Nat.le_refl 1, h1, fun post u H => ?_, fun post u H => ?_⟩
    · obtain ⟨cC, sC, pC, fC, oC, mp, wp, ef, nc, ct, so, wk, wc, rn, kp, kc, rs, rp, rf, ob, ao⟩ := u
      exact br_f e1 H
    · obtain ⟨fc, fs, fp, ff, fo, en, kn, ru, yk, yc, yt, op, qs, qf, ql, bo, nm, ow, zh⟩ := u
      exact br_f e1 H
section
variable {cC sC pC fC oC : Int32} {mp wp ef nc ct so wk wc rn kp kc rs rp rf ob ao : Nat → Int32}
theorem xz_l {post : SX → Prop} (H : post (cC, sC, pC, fC, oC, mp, wp, ef, nc, ct, tz_f 4 (-1), tz_f 4 8, wc, rn, kp, kc, rs, rp, rf, ob, ao)) : ∀ d c, c + d = 4 → wX_init_173 post cC sC pC fC oC (d + 1) (nI c) mp wp ef nc ct (tz_f c (-1)) (tz_f c 8) wc rn kp kc rs rp rf ob ao := by
  intro d
  induction d with
  | zero =>
    intro c e
    obtain rfl : c = 4 := by omega
    exact br_t (nI_le (Nat.le_refl 4) (by decide)) H
  | succ d ih =>
    intro c e
    exact br_f (nI_ge (a := c) (b := 4) (by omega) (by decide)) (And.intro (vp_in_nI (by omega) (by omega)) (nm_r (e' := tz_f (c + 1) (-1)) (by rw [nI_clamp (by omega), tz_s]) (And.intro (vp_in_nI (by omega) (by omega)) (nm_r (e' := tz_f (c + 1) 8) (by rw [nI_clamp (by omega), tz_s]) (nm_r (nI_1 c) (ih (c + 1) (by omega)))))))
end
section
variable {fc fs fp ff : Int32} {fo : Int64} {en kn ru yk yc yt op qs qf ql : Nat → Int32} {bo : Nat → Int64} {nm ow zh : Nat → Int32}
theorem yz_2 {post : SY → Prop} (H : post (fc, fs, fp, ff, fo, en, kn, tz_f 4 (-1), tz_f 4 (-1), yc, yt, op, qs, qf, ql, bo, nm, ow, zh)) : ∀ d c, c + d = 4 → wY_init_215 post fc fs fp ff fo (d + 1) (nI c) en kn (tz_f c (-1)) (tz_f c (-1)) yc yt op qs qf ql bo nm ow zh := by
  intro d
  induction d with
  | zero =>
    intro c e
    obtain rfl : c = 4 := by omega
    exact br_t (nI_le (Nat.le_refl 4) (by decide)) H
  | succ d ih =>
    intro c e
    exact br_f (nI_ge (a := c) (b := 4) (by omega) (by decide)) (And.intro (vp_in_nI (by omega) (by omega)) (nm_r (e' := tz_f (c + 1) (-1)) (by rw [nI_clamp (by omega), tz_s]) (And.intro (vp_in_nI (by omega) (by omega)) (nm_r (e' := tz_f (c + 1) (-1)) (by rw [nI_clamp (by omega), tz_s]) (nm_r (nI_1 c) (ih (c + 1) (by omega)))))))
theorem yz_1 {post : SY → Prop} (H : ∃ n, wY_init_215 post fc fs fp ff fo n 0 en (tz_f 128 (-1)) ru yk yc yt op qs qf ql bo nm ow zh) : ∀ d c, c + d = 128 → wY_init_190 post fc fs fp ff fo (d + 1) (nI c) en (tz_f c (-1)) ru yk yc yt op qs qf ql bo nm ow zh := by
  intro d
  induction d with
  | zero =>
    intro c e
    obtain rfl : c = 128 := by omega
    exact br_t (nI_le (Nat.le_refl 128) (by decide)) H
  | succ d ih =>
    intro c e
    exact br_f (nI_ge (a := c) (b := 128) (by omega) (by decide)) (And.intro (vp_in_nI (by omega) (by omega)) (nm_r (e' := tz_f (c + 1) (-1)) (by rw [nI_clamp (by omega), tz_s]) (nm_r (nI_1 c) (ih (c + 1) (by omega)))))
theorem yz_0 {post : SY → Prop} (H : ∃ n, wY_init_190 post fc fs fp ff fo n 0 (tz_f 32 (-1)) kn ru yk yc yt op qs qf ql bo nm ow zh) : ∀ d c, c + d = 32 → wY_init_166 post fc fs fp ff fo (d + 1) (nI c) (tz_f c (-1)) kn ru yk yc yt op qs qf ql bo nm ow zh := by
  intro d
  induction d with
  | zero =>
    intro c e
    obtain rfl : c = 32 := by omega
    exact br_t (nI_le (Nat.le_refl 32) (by decide)) H
  | succ d ih =>
    intro c e
    exact br_f (nI_ge (a := c) (b := 32) (by omega) (by decide)) (And.intro (vp_in_nI (by omega) (by omega)) (nm_r (e' := tz_f (c + 1) (-1)) (by rw [nI_clamp (by omega), tz_s]) (nm_r (nI_1 c) (ih (c + 1) (by omega)))))
end
theorem xz_n {post : SX → Prop} {cC sC pC fC : Int32} (H : post (cC, sC, pC, fC, 0, (fun _ => 0), (fun _ => 0), (fun _ => 0), (fun _ => 0), (fun _ => 0), tz_f 4 (-1), tz_f 4 8, (fun _ => 0), (fun _ => 0), (fun _ => 0), (fun _ => 0), (fun _ => 0), (fun _ => 0), (fun _ => 0), (fun _ => 0), (fun _ => 0))) : ∃ n, wX_init_173 post cC sC pC fC 0 n 0 (fun _ => 0) (fun _ => 0) (fun _ => 0) (fun _ => 0) (fun _ => 0) (fun _ => 0) (fun _ => 0) (fun _ => 0) (fun _ => 0) (fun _ => 0) (fun _ => 0) (fun _ => 0) (fun _ => 0) (fun _ => 0) (fun _ => 0) (fun _ => 0) := by
  have h := xz_l (post := post) H 4 0 (by omega)
  rw [tz_0, tz_0] at h
  exact ⟨5, h⟩
theorem yz_n {post : SY → Prop} {fc fs fp ff : Int32} (H : post (fc, fs, fp, ff, 0, tz_f 32 (-1), tz_f 128 (-1), tz_f 4 (-1), tz_f 4 (-1), (fun _ => 0), (fun _ => 0), (fun _ => 0), (fun _ => 0), (fun _ => 0), (fun _ => 0), (fun _ => 0), (fun _ => 0), (fun _ => 0), (fun _ => 0))) : ∃ n, wY_init_166 post fc fs fp ff 0 n 0 (fun _ => 0) (fun _ => 0) (fun _ => 0) (fun _ => 0) (fun _ => 0) (fun _ => 0) (fun _ => 0) (fun _ => 0) (fun _ => 0) (fun _ => 0) (fun _ => 0) (fun _ => 0) (fun _ => 0) (fun _ => 0) := by
  have h2 := yz_2 (post := post) H 4 0 (by omega)
  rw [tz_0] at h2
  have h1 := yz_1 (post := post) ⟨5, h2⟩ 128 0 (by omega)
  rw [tz_0] at h1
  have h0 := yz_0 (post := post) ⟨129, h1⟩ 32 0 (by omega)
  rw [tz_0] at h0
  exact ⟨33, h0⟩
theorem tz_all {C S P F : Nat} (hd : tr_d C S P F) : tr_all C S P F (fun _ => none) (fun _ => none) (fun _ => none) (fun _ => none) [] (fun _ _ => false) (fun _ _ => false) (fun _ => 0) (fun _ => 0) (fun _ => 0) (fun _ => 0) 0 (fun _ => 0) (fun _ => 0) (fun _ => 0) (fun _ => 0) (fun _ => 0) (tz_f 4 (-1)) (tz_f 4 8) (fun _ => 0) (fun _ => 0) (fun _ => 0) (fun _ => 0) (fun _ => 0) (fun _ => 0) (fun _ => 0) (fun _ => 0) (fun _ => 0) (tz_f 32 (-1)) (tz_f 128 (-1)) (tz_f 4 (-1)) (fun _ => 0) (fun _ => 0) (fun _ => 0) (fun _ => 0) (fun _ => 0) (fun _ => 0) := by
  have c0 : ∀ f, tc_c (fun _ => none) (fun _ _ => false) f = 0 := fun f => tc_c_0.mpr ⟨fun _ _ => rfl, fun _ _ => rfl⟩
  refine tr_mk hd ⟨fun s p _ _ => b_0 p, fun s p _ _ => b_0 p, fun s p _ _ => b_0 p, fun i k _ e => by cases e⟩ (fun i hi => tz_at hi) (fun i k _ e => by cases e) (fun f _ => ?_) (fun f _ _ => rfl) (fun c hc => tz_at hc) (fun s c _ => ?_) (fun c s _ e => by cases e) (fun c hc => tz_at hc) (fun c hc => tz_at hc) ⟨fun j p _ _ => b_0 p, fun i k _ e => by cases e⟩ (fun i hi => tz_at hi) (fun j x e => ?_) (fun s c _ => ?_) (fun s f _ _ => b_0 f) (fun s p h => ?_) (fun s _ => rfl) (fun s c _ _ => rfl) (fun s f _ _ => rfl) (fun s h => ?_) (fun s h => ?_) ⟨List.nodup_nil, fun s => ?_⟩ (fun s f _ _ h => ?_) (fun s h => ?_) ⟨List.Pairwise.nil, fun s h => ?_⟩ (fun c s p k _ _ _ e => by cases e) (fun c p _ e => by cases e)
  · rw [c0 f]; rfl
  · rw [decide_eq_false (p := (none : Option Nat) = some s) (fun z => by cases z), Bool.and_false]; exact b_0 c
  · simp at e
  · rw [Bool.and_false]; exact b_0 c
  · cases h
  · cases h
  · cases h
  · exact ⟨fun h => (by cases h), fun h => (by cases h.2)⟩
  · cases h
  · cases h
  · cases h
theorem i_vc0 (k0 : Int32) (k1 : Int32) (k2 : Int32) (k3 : Int32) : wpX_init (fun u => wpY_init (fun v => i_Rel 4 u v) k0 k1 k2 k3) k0 k1 k2 k3 := by
  obtain ⟨C, c1, c4, xC, yC⟩ := tz_cl k0 4 (by omega) (by omega)
  obtain ⟨S, s1, s4, xS, yS⟩ := tz_cl k1 4 (by omega) (by omega)
  obtain ⟨P, p1, p8, xP, yP⟩ := tz_cl k2 8 (by omega) (by omega)
  obtain ⟨F, f1, f16, xF, yF⟩ := tz_cl k3 16 (by omega) (by omega)
  unfold wpX_init
  refine xC _ _ ?_
  refine xS _ _ ?_
  refine xP _ _ ?_
  refine xF _ _ ?_
  refine xz_n ?_
  unfold wpY_init
  refine yC _ _ ?_
  refine yS _ _ ?_
  refine yP _ _ ?_
  refine yF _ _ ?_
  refine yz_n ?_
  exact tr_in (L := []) (o := 0) (by omega) (tz_all ⟨c1, c4, s1, s4, p1, p8, f1, f16⟩)
end
