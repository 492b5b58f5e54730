section
/-! pure rows to paste: stores, nI and lN arithmetic, masks, shifts, narrowing, branches by naturals (pk_le, pk_lt, pk_eq), loops (lp1 .. lp16: the measure of the state; rp1 ..: recursion), negatives. Take what you need -/
theorem pk_us {f : Nat → Int32} {k : Nat} {x : Int32} : upd f k x k = x := if_pos rfl
theorem pk_un {f : Nat → Int32} {k j : Nat} {x : Int32} (h : j ≠ k) : upd f k x j = f j := if_neg h
theorem pk_uLs {f : Nat → Int64} {k : Nat} {x : Int64} : vp_updL f k x k = x := if_pos rfl
theorem pk_uLn {f : Nat → Int64} {k j : Nat} {x : Int64} (h : j ≠ k) : vp_updL f k x j = f j := if_neg h
theorem pk_sub {a b : Nat} (h : b ≤ a) : nI a - nI b = nI (a - b) := by
  obtain ⟨c, rfl⟩ : ∃ c, a = c + b := ⟨a - b, by omega⟩
  rw [← nI_add, Int32.add_sub_cancel, Nat.add_sub_cancel]
theorem pk_m1 (n : Nat) : nI (n + 1) + (-1) = nI n := by
  rw [← nI_1, Int32.add_assoc, show (1 : Int32) + (-1) = 0 from rfl, Int32.add_zero]
theorem pk_mul (a b : Nat) : nI a * nI b = nI (a * b) := (Int32.ofNat_mul a b).symm
theorem pk_div {a d : Nat} (ha : a < 2 ^ 31) (h0 : 0 < d) (hd : d < 2 ^ 31) : nI a / nI d = nI (a / d) := by
  apply Int32.toInt_inj.mp
  rw [lg_idiv_nonneg (by rw [nI_toInt ha]; omega) (by rw [nI_toInt hd]; omega), nI_toInt ha, nI_toInt hd, nI_toInt (Nat.lt_of_le_of_lt (Nat.div_le_self a d) ha)]
  first | rfl | exact (Int.natCast_ediv _ _).symm
theorem pk_rem {a d : Nat} (ha : a < 2 ^ 31) (h0 : 0 < d) (hd : d < 2 ^ 31) : nI a - nI a / nI d * nI d = nI (a % d) := by
  rw [pk_div ha h0 hd, pk_mul, pk_sub (Nat.div_mul_le_self a d)]
  exact congrArg nI (by have := Nat.div_add_mod' a d; omega)
theorem pk_sub_toInt {a b : Nat} (ha : a < 2 ^ 30) (hb : b < 2 ^ 30) : (nI a - nI b).toInt = (a : Int) - b := by
  rw [Int32.toInt_sub, nI_toInt (by omega), nI_toInt (by omega)]
  exact Int.bmod_eq_of_le (by omega) (by omega)
theorem pk_sneg {a b : Nat} (hb : b < 2 ^ 30) (h : a < b) : nI a - nI b < 0 := by
  rw [Int32.lt_iff_toInt_lt, pk_sub_toInt (by omega) hb, show (0 : Int32).toInt = 0 from by decide]
  omega
theorem pk_ix (x : Int32) {n : Nat} (hn : n < 2 ^ 31) : x < 0 ∨ nI n ≤ x ∨ ∃ j : Nat, j < n ∧ x = nI j := by
  by_cases h : x < 0
  · exact Or.inl h
  · obtain ⟨j, hj, rfl⟩ := nI_of h
    by_cases h2 : j < n
    · exact Or.inr (Or.inr ⟨j, h2, rfl⟩)
    · exact Or.inr (Or.inl (nI_le (by omega) hj))
theorem pk_le {x y : Int32} {A B : Prop} (a b : Nat) (f : a ≤ b → A) (g : b < a → B) (hx : x = nI a := by rfl) (hy : y = nI b := by rfl) (ha : a < 2 ^ 31 := by omega) (hb : b < 2 ^ 31 := by omega) : (x ≤ y → A) ∧ (¬ x ≤ y → B) := by
  subst hx hy
  rw [nI_leI ha hb]
  exact ⟨f, fun z => g (by omega)⟩
theorem pk_lt {x y : Int32} {A B : Prop} (a b : Nat) (f : a < b → A) (g : b ≤ a → B) (hx : x = nI a := by rfl) (hy : y = nI b := by rfl) (ha : a < 2 ^ 31 := by omega) (hb : b < 2 ^ 31 := by omega) : (x < y → A) ∧ (¬ x < y → B) := by
  subst hx hy
  rw [nI_ltI ha hb]
  exact ⟨f, fun z => g (by omega)⟩
theorem pk_eq {x y : Int32} {A B : Prop} (a b : Nat) (f : a = b → A) (g : a ≠ b → B) (hx : x = nI a := by rfl) (hy : y = nI b := by rfl) (ha : a < 2 ^ 31 := by omega) (hb : b < 2 ^ 31 := by omega) : (x = y → A) ∧ (¬ x = y → B) := by
  subst hx hy
  rw [nI_eq ha hb]
  exact ⟨f, g⟩
theorem pk_in {x : Int32} (n N : Nat) (h : n < N) (hx : x = nI n := by rfl) (hN : N < 2 ^ 31 := by omega) : vp_in x N := by
  subst hx
  exact vp_in_nI h hN
theorem pk_cl {x : Int32} (n : Nat) (hx : x = nI n := by rfl) (h : n < 2 ^ 31 := by omega) : x.toNatClampNeg = n := by
  subst hx
  exact nI_clamp h
theorem pk_tn {n : Nat} (h : n < 2 ^ 32) : (nI n).toBitVec.toNat = n := Nat.mod_eq_of_lt h
theorem pk_and (x : Int32) {m : Int32} (k : Nat) (hm : m.toBitVec.toNat = 2 ^ k - 1) : x &&& m = nI (x.toBitVec.toNat % 2 ^ k) := by
  apply Int32.toBitVec_inj.mp
  apply BitVec.eq_of_toNat_eq
  rw [Int32.toBitVec_and, BitVec.toNat_and, hm, Nat.and_two_pow_sub_one_eq_mod]
  show _ = (BitVec.ofNat 32 _).toNat
  rw [BitVec.toNat_ofNat]
  exact (Nat.mod_eq_of_lt (Nat.lt_of_le_of_lt (Nat.mod_le _ _) x.toBitVec.isLt)).symm
theorem pk_andN {n : Nat} (h : n < 2 ^ 32) {m : Int32} (k : Nat) (hm : m.toBitVec.toNat = 2 ^ k - 1) : nI n &&& m = nI (n % 2 ^ k) := by
  rw [pk_and _ k hm, pk_tn h]
theorem pk_andE (x : Int32) {m : Int32} (k : Nat) (hm : m.toBitVec.toNat = 2 ^ k - 1) : ∃ j : Nat, j < 2 ^ k ∧ x &&& m = nI j := ⟨_, Nat.mod_lt _ (Nat.two_pow_pos k), pk_and x k hm⟩
theorem pk_andIn (x : Int32) {m : Int32} (k : Nat) (hm : m.toBitVec.toNat = 2 ^ k - 1) (hk : k ≤ 30) : vp_in (x &&& m) (2 ^ k) := by
  obtain ⟨j, hj, e⟩ := pk_andE x k hm
  rw [e]
  exact vp_in_nI hj (Nat.lt_of_le_of_lt (Nat.pow_le_pow_right (by decide) hk) (by decide))
theorem pk_shl (a s : Int32) (k : Nat) (hs : (s.toBitVec.smod 32).toNat = k) : (a <<< s).toBitVec.toNat = a.toBitVec.toNat * 2 ^ k % 2 ^ 32 := by
  show (a.toBitVec <<< (s.toBitVec.smod 32).toNat).toNat = _
  rw [hs, BitVec.toNat_shiftLeft, Nat.shiftLeft_eq]
theorem pk_shlN {n : Nat} (s : Int32) (k : Nat) (hs : (s.toBitVec.smod 32).toNat = k) (h : n * 2 ^ k < 2 ^ 32) : nI n <<< s = nI (n * 2 ^ k) := by
  apply Int32.toBitVec_inj.mp
  apply BitVec.eq_of_toNat_eq
  have hn : n < 2 ^ 32 := Nat.lt_of_le_of_lt (Nat.le_mul_of_pos_right n (Nat.two_pow_pos k)) h
  rw [pk_shl _ _ k hs, pk_tn hn, pk_tn h, Nat.mod_eq_of_lt h]
theorem pk_shr (a s : Int32) (k : Nat) (hs : (s.toBitVec.smod 32).toNat = k) : (a >>> s).toInt = a.toInt >>> k := by
  show (a.toBitVec.sshiftRight (s.toBitVec.smod 32).toNat).toInt = _
  rw [hs, BitVec.toInt_sshiftRight]
  rfl
theorem pk_shrN {n : Nat} (h : n < 2 ^ 31) (s : Int32) (k : Nat) (hs : (s.toBitVec.smod 32).toNat = k) : nI n >>> s = nI (n / 2 ^ k) := by
  apply Int32.toInt_inj.mp
  have h2 : n / 2 ^ k ≤ n := Nat.div_le_self _ _
  rw [pk_shr _ _ k hs, nI_toInt h, nI_toInt (by omega), Int.shiftRight_eq_div_pow]
  rfl
end
section
/-! the plain law: what the places hold, and that every move keeps it -/
theorem hc_ne {l : Nat} (h : l < 64) : nI l ≠ -1 := by
  intro e
  have h1 := congrArg Int32.toInt e
  rw [nI_toInt (by omega), show (-1 : Int32).toInt = -1 from by decide] at h1
  omega
theorem hc_inj {a b : Nat} (ha : a < 64) (hb : b < 64) (h : nI a = nI b) : a = b := (nI_eq (by omega) (by omega)).mp h
/-- the first of a line's two places in the first level, and in the second -/
def hc_f (fs x : Int32) : Nat := 2 * ((x >>> (fs &&& 31)).toBitVec.toNat % 2 ^ 2)
def hc_s (ss x : Int32) : Nat := 10 + 2 * ((x >>> (ss &&& 31)).toBitVec.toNat % 2 ^ 3)
theorem hc_fE (fs x : Int32) : 2 * ((x >>> (fs &&& 31)) &&& 3) = nI (hc_f fs x) := by
  rw [pk_and _ 2 (by decide)]; exact pk_mul 2 _
theorem hc_sE (ss x : Int32) : 10 + 2 * ((x >>> (ss &&& 31)) &&& 7) = nI (hc_s ss x) := by
  rw [pk_and _ 3 (by decide)]
  have e : (2 : Int32) * nI ((x >>> (ss &&& 31)).toBitVec.toNat % 2 ^ 3) = nI (2 * ((x >>> (ss &&& 31)).toBitVec.toNat % 2 ^ 3)) := pk_mul 2 _
  rw [e]; exact nI_add 10 _
theorem hc_fL (fs x : Int32) : hc_f fs x + 1 < 8 := by unfold hc_f; omega
theorem hc_sL (ss x : Int32) : 10 ≤ hc_s ss x ∧ hc_s ss x + 1 < 26 := by unfold hc_s; omega
/-- a line x may be in place p -/
def hc_ok (fs ss : Int32) (p : Nat) (x : Int32) : Prop := (p = hc_f fs x ∨ p = hc_f fs x + 1) ∨ (p = 8 ∨ p = 9) ∨ (p = hc_s ss x ∨ p = hc_s ss x + 1)
/-- every place is free or holds a line that may be there -/
def hc_1 (fs ss : Int32) (li : Nat → Int32) : Prop := ∀ p, p < 26 → li p = -1 ∨ ∃ l, l < 64 ∧ li p = nI l ∧ hc_ok fs ss p (nI l)
/-- no line is in two places -/
def hc_2 (li : Nat → Int32) : Prop := ∀ p q l, p < 26 → q < 26 → l < 64 → li p = nI l → li q = nI l → p = q
def hc_3 (ch : Nat → Int32) : Prop := ∀ p, p < 26 → ch p = 0 ∨ ch p = 1
/-- a line's words in its place are the right ones -/
def hc_4 (li wo M : Nat → Int32) : Prop := ∀ p l, p < 26 → l < 64 → li p = nI l → ∀ i, i < 4 → wo (p * 4 + i) = M (l * 4 + i)
/-- memory has the right words of a line that isn't changed anywhere -/
def hc_5 (me li ch M : Nat → Int32) : Prop := ∀ l, l < 64 → (∀ p, p < 26 → li p = nI l → ch p = 0) → ∀ i, i < 4 → me (l * 4 + i) = M (l * 4 + i)
def hc_I (fs ss : Int32) (me li ch wo M : Nat → Int32) : Prop := hc_1 fs ss li ∧ hc_2 li ∧ hc_3 ch ∧ hc_4 li wo M ∧ hc_5 me li ch M
/-- what place p holds may be forgotten -/
def hc_D (li ch : Nat → Int32) (p : Nat) : Prop := li p ≠ -1 → ch p = 0

theorem hc_wb0 {fs ss : Int32} {me li ch wo M : Nat → Int32} (I : hc_I fs ss me li ch wo M) {p : Nat} (hp : p < 26) (D : hc_D li ch p) : hc_I fs ss me li (upd ch p 0) wo M := by
  obtain ⟨h1, h2, h3, h4, h5⟩ := I
  refine ⟨h1, h2, ?_, h4, ?_⟩
  · intro q hq
    by_cases e : q = p
    · subst e; exact Or.inl pk_us
    · rw [pk_un e]; exact h3 q hq
  · intro l hl ha
    refine h5 l hl ?_
    intro q hq eq
    by_cases e : q = p
    · subst e; exact D (by rw [eq]; exact hc_ne hl)
    · have := ha q hq eq
      rwa [pk_un e] at this

theorem hc_wb1 {fs ss : Int32} {me me' li ch wo M : Nat → Int32} (I : hc_I fs ss me li ch wo M) {p l : Nat} (hp : p < 26) (hl : l < 64) (e : li p = nI l)
    (m1 : ∀ i, i < 4 → me' (l * 4 + i) = wo (p * 4 + i)) (m2 : ∀ k, k ≠ l → ∀ i, i < 4 → me' (k * 4 + i) = me (k * 4 + i)) : hc_I fs ss me' li (upd ch p 0) wo M := by
  obtain ⟨h1, h2, h3, h4, h5⟩ := I
  refine ⟨h1, h2, ?_, h4, ?_⟩
  · intro q hq
    by_cases e : q = p
    · subst e; exact Or.inl pk_us
    · rw [pk_un e]; exact h3 q hq
  · intro k hk ha i hi
    by_cases ek : k = l
    · subst ek; rw [m1 i hi]; exact h4 p k hp hk e i hi
    · rw [m2 k ek i hi]
      refine h5 k hk ?_ i hi
      intro q hq eq
      have hqp : q ≠ p := by
        intro z; subst z; exact ek (hc_inj hk hl (eq.symm.trans e))
      have := ha q hq eq
      rwa [pk_un hqp] at this

theorem hc_drop {fs ss : Int32} {me li ch wo M : Nat → Int32} (I : hc_I fs ss me li ch wo M) {p : Nat} (hp : p < 26) (D : hc_D li ch p) : hc_I fs ss me (upd li p (-1)) ch wo M := by
  obtain ⟨h1, h2, h3, h4, h5⟩ := I
  have hu : ∀ q l, l < 64 → upd li p (-1) q = nI l → q ≠ p ∧ li q = nI l := by
    intro q l hl e
    by_cases z : q = p
    · subst z; rw [pk_us] at e; exact absurd e.symm (hc_ne hl)
    · rw [pk_un z] at e; exact ⟨z, e⟩
  refine ⟨?_, ?_, h3, ?_, ?_⟩
  · intro q hq
    by_cases z : q = p
    · subst z; exact Or.inl pk_us
    · rw [pk_un z]; exact h1 q hq
  · intro q r l hq hr hl eq er
    exact h2 q r l hq hr hl (hu q l hl eq).2 (hu r l hl er).2
  · intro q l hq hl eq
    exact h4 q l hq hl (hu q l hl eq).2
  · intro l hl ha
    refine h5 l hl ?_
    intro q hq eq
    by_cases z : q = p
    · subst z; exact D (by rw [eq]; exact hc_ne hl)
    · exact ha q hq (by rw [pk_un z]; exact eq)

theorem hc_move {fs ss : Int32} {me li ch wo wo' M : Nat → Int32} (I : hc_I fs ss me li ch wo M) {p t : Nat} (hp : p < 26) (ht : t < 26) (hpt : p ≠ t) (D : hc_D li ch t)
    (ok : li p ≠ -1 → hc_ok fs ss t (li p))
    (w1 : ∀ i, i < 4 → wo' (t * 4 + i) = wo (p * 4 + i)) (w2 : ∀ q, q ≠ t → ∀ i, i < 4 → wo' (q * 4 + i) = wo (q * 4 + i)) :
    hc_I fs ss me (upd (upd li t (li p)) p (-1)) (upd (upd ch t (ch p)) p 0) wo' M := by
  obtain ⟨h1, h2, h3, h4, h5⟩ := I
  have hu : ∀ q l, l < 64 → upd (upd li t (li p)) p (-1) q = nI l → (q = t ∧ li p = nI l) ∨ (q ≠ t ∧ q ≠ p ∧ li q = nI l) := by
    intro q l hl e
    by_cases z : q = p
    · subst z; rw [pk_us] at e; exact absurd e.symm (hc_ne hl)
    · rw [pk_un z] at e
      by_cases y : q = t
      · subst y; rw [pk_us] at e; exact Or.inl ⟨rfl, e⟩
      · rw [pk_un y] at e; exact Or.inr ⟨y, z, e⟩
  refine ⟨?_, ?_, ?_, ?_, ?_⟩
  · intro q hq
    by_cases z : q = p
    · subst z; exact Or.inl pk_us
    · rw [pk_un z]
      by_cases y : q = t
      · subst y; rw [pk_us]
        rcases h1 p hp with h | ⟨l, hl, e, _⟩
        · exact Or.inl h
        · refine Or.inr ⟨l, hl, e, ?_⟩
          have := ok (by rw [e]; exact hc_ne hl)
          rwa [e] at this
      · rw [pk_un y]; exact h1 q hq
  · intro q r l hq hr hl eq er
    rcases hu q l hl eq with ⟨a, b⟩ | ⟨a, a', b⟩ <;> rcases hu r l hl er with ⟨c, d⟩ | ⟨c, c', d⟩
    · rw [a, c]
    · exact absurd (h2 r p l hr hp hl d b) c'
    · exact absurd (h2 q p l hq hp hl b d) a'
    · exact h2 q r l hq hr hl b d
  · intro q hq
    by_cases z : q = p
    · subst z; exact Or.inl pk_us
    · rw [pk_un z]
      by_cases y : q = t
      · subst y; rw [pk_us]; exact h3 p hp
      · rw [pk_un y]; exact h3 q hq
  · intro q l hq hl eq i hi
    rcases hu q l hl eq with ⟨a, b⟩ | ⟨a, a', b⟩
    · subst a; rw [w1 i hi]; exact h4 p l hp hl b i hi
    · rw [w2 q a i hi]; exact h4 q l hq hl b i hi
  · intro l hl ha
    refine h5 l hl ?_
    intro q hq eq
    by_cases z : q = p
    · subst z
      have := ha t ht (by rw [pk_un (Ne.symm hpt), pk_us]; exact eq)
      rwa [pk_un (Ne.symm hpt), pk_us] at this
    · by_cases y : q = t
      · subst y; exact D (by rw [eq]; exact hc_ne hl)
      · have := ha q hq (by rw [pk_un z, pk_un y]; exact eq)
        rwa [pk_un z, pk_un y] at this

theorem hc_read {fs ss : Int32} {me li ch wo wo' M : Nat → Int32} (I : hc_I fs ss me li ch wo M) {p l : Nat} (hp : p < 26) (hl : l < 64) (D : hc_D li ch p)
    (ok : hc_ok fs ss p (nI l)) (no : ∀ q, q < 26 → li q ≠ nI l)
    (w1 : ∀ i, i < 4 → wo' (p * 4 + i) = me (l * 4 + i)) (w2 : ∀ q, q ≠ p → ∀ i, i < 4 → wo' (q * 4 + i) = wo (q * 4 + i)) :
    hc_I fs ss me (upd li p (nI l)) (upd ch p 0) wo' M := by
  obtain ⟨h1, h2, h3, h4, h5⟩ := I
  have hu : ∀ q k, k < 64 → upd li p (nI l) q = nI k → (q = p ∧ k = l) ∨ (q ≠ p ∧ li q = nI k) := by
    intro q k hk e
    by_cases z : q = p
    · subst z; rw [pk_us] at e; exact Or.inl ⟨rfl, (hc_inj hl hk e).symm⟩
    · rw [pk_un z] at e; exact Or.inr ⟨z, e⟩
  refine ⟨?_, ?_, ?_, ?_, ?_⟩
  · intro q hq
    by_cases z : q = p
    · subst z; rw [pk_us]; exact Or.inr ⟨l, hl, rfl, ok⟩
    · rw [pk_un z]; exact h1 q hq
  · intro q r k hq hr hk eq er
    rcases hu q k hk eq with ⟨a, b⟩ | ⟨a, b⟩ <;> rcases hu r k hk er with ⟨c, d⟩ | ⟨c, d⟩
    · rw [a, c]
    · rw [b] at d; exact absurd d (no r hr)
    · rw [d] at b; exact absurd b (no q hq)
    · exact h2 q r k hq hr hk b d
  · intro q hq
    by_cases z : q = p
    · subst z; exact Or.inl pk_us
    · rw [pk_un z]; exact h3 q hq
  · intro q k hq hk eq i hi
    rcases hu q k hk eq with ⟨a, b⟩ | ⟨a, b⟩
    · subst a; subst b; rw [w1 i hi]
      exact h5 k hk (fun r hr er => absurd er (no r hr)) i hi
    · rw [w2 q a i hi]; exact h4 q k hq hk b i hi
  · intro k hk ha
    refine h5 k hk ?_
    intro q hq eq
    by_cases z : q = p
    · subst z; exact D (by rw [eq]; exact hc_ne hk)
    · have := ha q hq (by rw [pk_un z]; exact eq)
      rwa [pk_un z] at this

/-- a word is stored in its line's place, which then is changed -/
theorem hc_put {fs ss : Int32} {me li ch ch' wo M : Nat → Int32} (I : hc_I fs ss me li ch wo M) {p l j : Nat} (hp : p < 26) (hl : l < 64) (hj : j < 4) (e : li p = nI l) (v : Int32)
    (c1 : ch' p = 1) (c2 : ∀ q, q ≠ p → ch' q = ch q) : hc_I fs ss me li ch' (upd wo (p * 4 + j) v) (upd M (l * 4 + j) v) := by
  obtain ⟨h1, h2, h3, h4, h5⟩ := I
  refine ⟨h1, h2, ?_, ?_, ?_⟩
  · intro q hq
    by_cases z : q = p
    · subst z; exact Or.inr c1
    · rw [c2 q z]; exact h3 q hq
  · intro q k hq hk eq i hi
    by_cases z : q = p
    · subst z
      have ek : k = l := hc_inj hk hl (eq.symm.trans e)
      subst ek
      by_cases y : i = j
      · subst y; rw [pk_us, pk_us]
      · rw [pk_un (by omega), pk_un (by omega)]; exact h4 q k hq hk eq i hi
    · have ek : k ≠ l := by
        intro y; subst y; exact z (h2 q p k hq hp hk eq e)
      rw [pk_un (by omega), pk_un (by omega)]; exact h4 q k hq hk eq i hi
  · intro k hk ha i hi
    have ek : k ≠ l := by
      intro y; subst y
      have := ha p hp e
      rw [c1] at this
      exact absurd this (by decide)
    rw [pk_un (by omega)]
    refine h5 k hk ?_ i hi
    intro q hq eq
    have z : q ≠ p := by
      intro y; subst y; exact ek (hc_inj hk hl (eq.symm.trans e))
    rw [← c2 q z]; exact ha q hq eq

/-- a word is stored in memory, its line being nowhere -/
theorem hc_mem {fs ss : Int32} {me li ch wo M : Nat → Int32} (I : hc_I fs ss me li ch wo M) {l j : Nat} (hl : l < 64) (hj : j < 4) (no : ∀ q, q < 26 → li q ≠ nI l) (v : Int32) :
    hc_I fs ss (upd me (l * 4 + j) v) li ch wo (upd M (l * 4 + j) v) := by
  obtain ⟨h1, h2, h3, h4, h5⟩ := I
  refine ⟨h1, h2, h3, ?_, ?_⟩
  · intro q k hq hk eq i hi
    have ek : k ≠ l := by
      intro y; subst y; exact no q hq eq
    rw [pk_un (by omega)]; exact h4 q k hq hk eq i hi
  · intro k hk ha i hi
    by_cases y : k * 4 + i = l * 4 + j
    · rw [y, pk_us, pk_us]
    · rw [pk_un y, pk_un y]; exact h5 k hk ha i hi
/-- a line that is in a place is in a legal one -/
theorem hc_legal {fs ss : Int32} {me li ch wo M : Nat → Int32} (I : hc_I fs ss me li ch wo M) {p l : Nat} (hp : p < 26) (hl : l < 64) (e : li p = nI l) : hc_ok fs ss p (nI l) := by
  rcases I.1 p hp with h | ⟨k, hk, ek, ok⟩
  · exact absurd (e.symm.trans h) (hc_ne hl)
  · rw [← e, ek]; exact ok
end
section
/-! the walks of the own methods, each with a general post -/
theorem hc_ix (t j : Nat) : nI t * 4 + nI j = nI (t * 4 + j) := by
  have e : nI t * 4 = nI (t * 4) := pk_mul t 4
  rw [e, nI_add]
theorem hc_ixc {t j : Nat} (h : t * 4 + j < 2 ^ 31) : (nI t * 4 + nI j).toNatClampNeg = t * 4 + j := by
  rw [hc_ix]; exact nI_clamp h
theorem hc_ixi {t j N : Nat} (h : t * 4 + j < N) (hN : N < 2 ^ 31) : vp_in (nI t * 4 + nI j) N := by
  rw [hc_ix]; exact vp_in_nI h hN
theorem hc_b0 : vp_nar .boolean 0 = 0 := rfl
theorem hc_b1 : vp_nar .boolean 1 = 1 := rfl
theorem hc_bc {x : Int32} (h : x = 0 ∨ x = 1) : vp_nar .boolean x = x := by
  rcases h with rfl | rfl
  · exact hc_b0
  · exact hc_b1
theorem hc_m1 : (-1 : Int32) < 0 := by decide
theorem hc_m2 : ¬ (0 : Int32) ≤ -1 := by decide
section
variable {ck fs ss la lm rs : Int32} {me li ch us wo M : Nat → Int32}

theorem hc_first {post : Int32 → Prop} {x : Int32} (h : post (nI (hc_f fs x))) : wpX_firstPlace post (ck, fs, ss, la, lm, rs, me, li, ch, us, wo) x := by
  unfold wpX_firstPlace
  dsimp only
  rw [hc_fE]
  exact h
theorem hc_second {post : Int32 → Prop} {x : Int32} (h : post (nI (hc_s ss x))) : wpX_secondPlace post (ck, fs, ss, la, lm, rs, me, li, ch, us, wo) x := by
  unfold wpX_secondPlace
  dsimp only
  rw [hc_sE]
  exact h
theorem hc_among {post : Int32 → Prop} {p : Nat} {x : Int32} (hp : p + 1 < 26) (K1 : ∀ q, (q = p ∨ q = p + 1) → li q = x → post (nI q))
    (K2 : li p ≠ x → li (p + 1) ≠ x → post (-1)) : wpX_among post (ck, fs, ss, la, lm, rs, me, li, ch, us, wo) (nI p) x := by
  unfold wpX_among
  dsimp only
  rw [nI_1 p, nI_clamp (n := p) (by omega), nI_clamp (n := p + 1) (by omega)]
  exact ⟨vp_in_nI (by omega) (by decide), br_c (fun z => K1 p (Or.inl rfl) z) (fun z => ⟨vp_in_nI hp (by decide), br_c (fun y => K1 (p + 1) (Or.inr rfl) y) (fun y => K2 z y)⟩)⟩
theorem hc_older {post : Int32 → Prop} {p : Nat} (hp : p + 1 < 26) (K : ∀ q, (q = p ∨ q = p + 1) → post (nI q)) : wpX_older post (ck, fs, ss, la, lm, rs, me, li, ch, us, wo) (nI p) := by
  unfold wpX_older
  dsimp only
  have h1 : vp_in (nI p) 26 := vp_in_nI (by omega) (by decide)
  have h2 : vp_in (nI (p + 1)) 26 := vp_in_nI hp (by decide)
  rw [nI_1 p]
  exact ⟨h1, br_c (fun _ => K p (Or.inl rfl)) (fun _ => ⟨h2, br_c (fun _ => K (p + 1) (Or.inr rfl)) (fun _ => ⟨h1, h2, br_c (fun _ => K (p + 1) (Or.inr rfl)) (fun _ => K p (Or.inl rfl))⟩)⟩)⟩
theorem hc_touch {post : SX → Prop} {p : Nat} (hp : p < 26) (h : ∀ ck' us', post (ck', fs, ss, la, lm, rs, me, li, ch, us', wo)) : wpX_touch post (ck, fs, ss, la, lm, rs, me, li, ch, us, wo) (nI p) := by
  unfold wpX_touch
  dsimp only
  intro c _
  exact ⟨vp_in_nI hp (by decide), fun u _ => h c u⟩

theorem hc_mvl {post : SX → Prop} {p t : Nat} (hp : p < 26) (ht : t < 26) (hpt : p ≠ t) {wo0 : Nat → Int32}
    (K : ∀ ck' us' wo', (∀ i, i < 4 → wo' (t * 4 + i) = wo0 (p * 4 + i)) → (∀ q, q ≠ t → ∀ i, i < 4 → wo' (q * 4 + i) = wo0 (q * 4 + i)) → post (ck', fs, ss, la, lm, rs, me, upd li p (-1), upd ch p 0, us', wo')) :
    ∀ (d j : Nat) (wo : Nat → Int32), j + d = 4 → (∀ i, i < j → wo (t * 4 + i) = wo0 (p * 4 + i)) → (∀ q, q ≠ t → ∀ i, i < 4 → wo (q * 4 + i) = wo0 (q * 4 + i)) →
      wX_moveLine_26 post (nI p) (nI t) ck fs ss la lm rs (d + 1) (nI j) me li ch us wo := by
  intro d
  induction d with
  | zero =>
    intro j wo hj w1 w2
    have h : (4 : Int32) ≤ nI j := nI_le (a := 4) (by omega) (by omega)
    have hi : vp_in (nI p) 26 := vp_in_nI hp (by decide)
    refine br_t h ⟨hi, ?_⟩
    rw [nI_clamp (n := p) (by omega), hc_b0]
    refine nm_e ⟨hi, nm_e ?_⟩
    exact hc_touch ht (fun ck' us' => K ck' us' wo (fun i hi => w1 i (by omega)) w2)
  | succ d ih =>
    intro j wo hj w1 w2
    have h : ¬ (4 : Int32) ≤ nI j := nI_ge (b := 4) (by omega) (by decide)
    refine br_f h ⟨hc_ixi (by omega) (by decide), hc_ixi (by omega) (by decide), ?_⟩
    rw [hc_ixc (t := p) (j := j) (by omega), hc_ixc (t := t) (j := j) (by omega)]
    refine nm_e (nm_r (nI_1 j) ?_)
    refine ih (j + 1) _ (by omega) ?_ ?_
    · intro i hi
      by_cases z : i = j
      · subst z; rw [pk_us]; exact w2 p hpt i (by omega)
      · rw [pk_un (by omega)]; exact w1 i (by omega)
    · intro q hq i hi
      rw [pk_un (by omega)]; exact w2 q hq i hi

theorem hc_moveW {post : SX → Prop} {p t : Nat} (hp : p < 26) (ht : t < 26) (hpt : p ≠ t) (D : hc_D li ch t) (ok : li p ≠ -1 → hc_ok fs ss t (li p)) (I : hc_I fs ss me li ch wo M)
    (K : ∀ ck' li' ch' us' wo', hc_I fs ss me li' ch' wo' M → li' t = li p → li' p = -1 → (∀ q, q ≠ p → q ≠ t → li' q = li q) → post (ck', fs, ss, la, lm, rs, me, li', ch', us', wo')) :
    wpX_moveLine post (ck, fs, ss, la, lm, rs, me, li, ch, us, wo) (nI p) (nI t) := by
  unfold wpX_moveLine
  dsimp only
  have hi : vp_in (nI p) 26 := vp_in_nI hp (by decide)
  have hj : vp_in (nI t) 26 := vp_in_nI ht (by decide)
  rw [nI_clamp (n := p) (by omega), nI_clamp (n := t) (by omega), hc_bc (I.2.2.1 p hp)]
  refine ⟨hi, hj, nm_e ⟨hi, hj, nm_e ⟨5, ?_⟩⟩⟩
  refine hc_mvl (wo0 := wo) hp ht hpt (fun ck' us' wo' w1 w2 => ?_) 4 0 wo rfl (fun i hi => absurd hi (by omega)) (fun q _ i _ => rfl)
  refine K ck' _ _ us' wo' (hc_move I hp ht hpt D ok w1 w2) ?_ pk_us ?_
  · rw [pk_un (Ne.symm hpt), pk_us]
  · intro q h1 h2
    rw [pk_un h1, pk_un h2]

theorem hc_wbl {post : SX → Prop} {p l : Nat} (hp : p < 26) (hl : l < 64) (e : li p = nI l) {me0 : Nat → Int32}
    (K : ∀ me', (∀ i, i < 4 → me' (l * 4 + i) = wo (p * 4 + i)) → (∀ k, k ≠ l → ∀ i, i < 4 → me' (k * 4 + i) = me0 (k * 4 + i)) → post (ck, fs, ss, la, lm, rs, me', li, upd ch p 0, us, wo)) :
    ∀ (d j : Nat) (me : Nat → Int32), j + d = 4 → (∀ i, i < j → me (l * 4 + i) = wo (p * 4 + i)) → (∀ k, k ≠ l → ∀ i, i < 4 → me (k * 4 + i) = me0 (k * 4 + i)) →
      wX_writeBack_21 post (nI p) ck fs ss la lm rs (d + 1) (nI j) me li ch us wo := by
  intro d
  have hi : vp_in (nI p) 26 := vp_in_nI hp (by decide)
  induction d with
  | zero =>
    intro j me hj w1 w2
    have h : (4 : Int32) ≤ nI j := nI_le (a := 4) (by omega) (by omega)
    refine br_t h ⟨hi, ?_⟩
    rw [nI_clamp (n := p) (by omega), hc_b0]
    exact nm_e (K me (fun i hi => w1 i (by omega)) w2)
  | succ d ih =>
    intro j me hj w1 w2
    have h : ¬ (4 : Int32) ≤ nI j := nI_ge (b := 4) (by omega) (by decide)
    refine br_f h ⟨hi, hc_ixi (by omega) (by decide), ?_⟩
    rw [nI_clamp (n := p) (by omega), e, hc_ixc (t := p) (j := j) (by omega), hc_ixc (t := l) (j := j) (by omega)]
    refine ⟨hc_ixi (by omega) (by decide), nm_e (nm_r (nI_1 j) ?_)⟩
    refine ih (j + 1) _ (by omega) ?_ ?_
    · intro i hi
      by_cases z : i = j
      · subst z; rw [pk_us]
      · rw [pk_un (by omega)]; exact w1 i (by omega)
    · intro q hq i hi
      rw [pk_un (by omega)]; exact w2 q hq i hi

theorem hc_wbW {post : SX → Prop} {p : Nat} (hp : p < 26) (I : hc_I fs ss me li ch wo M)
    (K : ∀ me' ch', hc_I fs ss me' li ch' wo M → ch' p = 0 → post (ck, fs, ss, la, lm, rs, me', li, ch', us, wo)) : wpX_writeBack post (ck, fs, ss, la, lm, rs, me, li, ch, us, wo) (nI p) := by
  unfold wpX_writeBack
  dsimp only
  rw [nI_clamp (n := p) (by omega), hc_b0]
  have hi : vp_in (nI p) 26 := vp_in_nI hp (by decide)
  refine ⟨hi, br_c (fun z => ⟨hi, nm_e ?_⟩) (fun z => ⟨hi, br_c (fun y => ⟨hi, nm_e ?_⟩) (fun y => ?_)⟩)⟩
  · exact K _ _ (hc_wb0 I hp (fun n => absurd z n)) pk_us
  · exact K _ _ (hc_wb0 I hp (fun _ => y)) pk_us
  · rcases I.1 p hp with h | ⟨l, hl, e, _⟩
    · exact absurd h z
    · exact ⟨5, hc_wbl (me0 := me) hp hl e (fun me' m1 m2 => K me' _ (hc_wb1 I hp hl e m1 m2) pk_us) 4 0 me rfl (fun i hi => absurd hi (by omega)) (fun q _ i _ => rfl)⟩

theorem hc_rdl {post : SX → Prop} {p l : Nat} (hp : p < 26) (hl : l < 64) {wo0 : Nat → Int32}
    (K : ∀ ck' us' wo', (∀ i, i < 4 → wo' (p * 4 + i) = me (l * 4 + i)) → (∀ q, q ≠ p → ∀ i, i < 4 → wo' (q * 4 + i) = wo0 (q * 4 + i)) → post (ck', fs, ss, la, lm, rs, me, li, ch, us', wo')) :
    ∀ (d j : Nat) (wo : Nat → Int32), j + d = 4 → (∀ i, i < j → wo (p * 4 + i) = me (l * 4 + i)) → (∀ q, q ≠ p → ∀ i, i < 4 → wo (q * 4 + i) = wo0 (q * 4 + i)) →
      wX_readIn_16 post (nI p) (nI l) ck fs ss la lm rs (d + 1) (nI j) me li ch us wo := by
  intro d
  induction d with
  | zero =>
    intro j wo hj w1 w2
    have h : (4 : Int32) ≤ nI j := nI_le (a := 4) (by omega) (by omega)
    refine br_t h ?_
    exact hc_touch hp (fun ck' us' => K ck' us' wo (fun i hi => w1 i (by omega)) w2)
  | succ d ih =>
    intro j wo hj w1 w2
    have h : ¬ (4 : Int32) ≤ nI j := nI_ge (b := 4) (by omega) (by decide)
    refine br_f h ⟨hc_ixi (by omega) (by decide), hc_ixi (by omega) (by decide), ?_⟩
    rw [hc_ixc (t := p) (j := j) (by omega), hc_ixc (t := l) (j := j) (by omega)]
    refine nm_e (nm_r (nI_1 j) ?_)
    refine ih (j + 1) _ (by omega) ?_ ?_
    · intro i hi
      by_cases z : i = j
      · subst z; rw [pk_us]
      · rw [pk_un (by omega)]; exact w1 i (by omega)
    · intro q hq i hi
      rw [pk_un (by omega)]; exact w2 q hq i hi

theorem hc_readW {post : SX → Prop} {p l : Nat} (hp : p < 26) (hl : l < 64) (D : hc_D li ch p) (ok : hc_ok fs ss p (nI l)) (no : ∀ q, q < 26 → li q ≠ nI l) (I : hc_I fs ss me li ch wo M)
    (K : ∀ ck' li' ch' us' wo', hc_I fs ss me li' ch' wo' M → li' p = nI l → (∀ q, q ≠ p → li' q = li q) → post (ck', fs, ss, la, lm, rs, me, li', ch', us', wo')) :
    wpX_readIn post (ck, fs, ss, la, lm, rs, me, li, ch, us, wo) (nI p) (nI l) := by
  unfold wpX_readIn
  dsimp only
  have hi : vp_in (nI p) 26 := vp_in_nI hp (by decide)
  rw [nI_clamp (n := p) (by omega), hc_b0]
  refine ⟨hi, nm_e ⟨hi, nm_e ⟨5, ?_⟩⟩⟩
  refine hc_rdl (wo0 := wo) hp hl (fun ck' us' wo' w1 w2 => ?_) 4 0 wo rfl (fun i hi => absurd hi (by omega)) (fun q _ i _ => rfl)
  exact K ck' _ _ us' wo' (hc_read I hp hl D ok no w1 w2) pk_us (fun q h1 => pk_un h1)

theorem hc_sink2 {post : SX → Prop} {p : Nat} (h8 : 8 ≤ p) (h10 : p < 10) (I : hc_I fs ss me li ch wo M)
    (K : ∀ ck' me' li' ch' us' wo', hc_I fs ss me' li' ch' wo' M → li' p = -1 → (∀ q, q < 10 → q ≠ p → li' q = li q) → post (ck', fs, ss, la, lm, rs, me', li', ch', us', wo')) : wpX_sinkToSecond post (ck, fs, ss, la, lm, rs, me, li, ch, us, wo) (nI p) := by
  unfold wpX_sinkToSecond
  dsimp only
  rw [nI_clamp (n := p) (by omega)]
  refine ⟨vp_in_nI (by omega) (by decide), ?_⟩
  refine hc_second ?_
  have hs := hc_sL ss (li p)
  refine hc_older hs.2 (fun q hq => ?_)
  refine hc_wbW (by omega) I (fun me' ch' I' c0 => ?_)
  refine hc_moveW (by omega) (by omega) (by omega) (fun _ => c0) (fun _ => Or.inr (Or.inr hq)) I' (fun ck' li' ch'' us' wo' J e1 e2 e3 => ?_)
  exact K ck' me' li' ch'' us' wo' J e2 (fun r hr hrp => e3 r hrp (by omega))

theorem hc_sinkB {post : SX → Prop} {p : Nat} (hp : p < 8) (I : hc_I fs ss me li ch wo M)
    (K : ∀ ck' me' li' ch' us' wo', hc_I fs ss me' li' ch' wo' M → li' p = -1 → (∀ q, q < 8 → q ≠ p → li' q = li q) → post (ck', fs, ss, la, lm, rs, me', li', ch', us', wo')) : wpX_sinkToBuffer post (ck, fs, ss, la, lm, rs, me, li, ch, us, wo) (nI p) := by
  unfold wpX_sinkToBuffer
  dsimp only
  refine hc_older (p := 8) (by decide) (fun q hq => ?_)
  rw [nI_clamp (n := q) (by omega)]
  refine ⟨vp_in_nI (by omega) (by decide), br_c (fun z => ?_) (fun z => ?_)⟩
  · unfold wX_sinkToBuffer_22
    refine hc_moveW (by omega) (by omega) (by omega) (fun n => absurd z n) (fun _ => Or.inr (Or.inl hq)) I (fun ck' li' ch' us' wo' J e1 e2 e3 => ?_)
    exact K ck' me li' ch' us' wo' J e2 (fun r hr hrp => e3 r hrp (by omega))
  · refine hc_sink2 (by omega) (by omega) I (fun ck1 me1 li1 ch1 us1 wo1 J e1 e2 => ?_)
    unfold wX_sinkToBuffer_22
    dsimp only
    refine hc_moveW (by omega) (by omega) (by omega) (fun n => absurd e1 n) (fun _ => Or.inr (Or.inl hq)) J (fun ck' li' ch' us' wo' J' f1 f2 f3 => ?_)
    exact K ck' me1 li' ch' us' wo' J' f2 (fun r hr hrp => (f3 r hrp (by omega)).trans (e2 r (by omega) (by omega)))

theorem hc_room {post : Int32 → SX → Prop} {l : Nat} (hl : l < 64) (I : hc_I fs ss me li ch wo M)
    (K : ∀ q ck' me' li' ch' us' wo', (q = hc_f fs (nI l) ∨ q = hc_f fs (nI l) + 1) → hc_I fs ss me' li' ch' wo' M → li' q = -1 → (∀ r, r < 8 → li' r = nI l → li r = nI l) → post (nI q) (ck', fs, ss, la, lm, rs, me', li', ch', us', wo')) :
    wpX_makeRoom post (ck, fs, ss, la, lm, rs, me, li, ch, us, wo) (nI l) := by
  unfold wpX_makeRoom
  dsimp only
  refine hc_first ?_
  have hf := hc_fL fs (nI l)
  refine hc_older (by omega) (fun q hq => ?_)
  rw [nI_clamp (n := q) (by omega)]
  refine ⟨vp_in_nI (by omega) (by decide), br_c (fun z => ?_) (fun z => ?_)⟩
  · exact K q ck me li ch us wo hq I z (fun r _ h => h)
  · refine hc_sinkB (by omega) I (fun ck' me' li' ch' us' wo' J e1 e2 => ?_)
    refine K q ck' me' li' ch' us' wo' hq J e1 (fun r hr h => ?_)
    by_cases y : r = q
    · subst y; rw [e1] at h; exact absurd h.symm (hc_ne hl)
    · rw [← e2 r hr y]; exact h

theorem hc_lower {post : Int32 → Prop} {l : Nat} (hl : l < 64) (I : hc_I fs ss me li ch wo M)
    (K1 : ∀ q, 8 ≤ q → q < 26 → li q = nI l → post (nI q)) (K2 : (∀ q, 8 ≤ q → q < 26 → li q ≠ nI l) → post (-1)) : wpX_lowerPlace post (ck, fs, ss, la, lm, rs, me, li, ch, us, wo) (nI l) := by
  unfold wpX_lowerPlace
  dsimp only
  have hs := hc_sL ss (nI l)
  refine hc_among (p := 8) (by decide) (fun q hq e => ?_) (fun n1 n2 => ?_)
  · refine hc_second ?_
    exact br_f (nI_pos (by omega)) (K1 q (by omega) (by omega) e)
  · refine hc_second ?_
    refine br_t hc_m1 ?_
    refine hc_among hs.2 (fun q hq e => ?_) (fun m1 m2 => ?_)
    · exact K1 q (by omega) (by omega) e
    · refine K2 (fun q h8 h26 e => ?_)
      have hf := hc_fL fs (nI l)
      rcases hc_legal I h26 hl e with h | h | h
      · omega
      · rcases h with rfl | rfl
        · exact n1 e
        · exact n2 e
      · rcases h with rfl | rfl
        · exact m1 e
        · exact m2 e

theorem hc_nowhere {l : Nat} (hl : l < 64) (I : hc_I fs ss me li ch wo M) (n1 : li (hc_f fs (nI l)) ≠ nI l) (n2 : li (hc_f fs (nI l) + 1) ≠ nI l)
    (no : ∀ q, 8 ≤ q → q < 26 → li q ≠ nI l) : ∀ q, q < 26 → li q ≠ nI l := by
  intro q hq e
  by_cases h8 : 8 ≤ q
  · exact no q h8 hq e
  · have hs := hc_sL ss (nI l)
    rcases hc_legal I hq hl e with h | h | h
    · rcases h with rfl | rfl
      · exact n1 e
      · exact n2 e
    · omega
    · omega

theorem hc_fetch {post : SX → Prop} {l : Nat} (hl : l ≤ 64) (I : hc_I fs ss me li ch wo M)
    (K : ∀ ck' me' li' ch' us' wo', hc_I fs ss me' li' ch' wo' M → (∀ q, q < 8 → li' q = li q) → post (ck', fs, ss, la, lm, rs, me', li', ch', us', wo')) : wpX_fetchAhead post (ck, fs, ss, la, lm, rs, me, li, ch, us, wo) (nI l) := by
  unfold wpX_fetchAhead
  dsimp only
  have K0 := K ck me li ch us wo I (fun _ _ => rfl)
  refine pk_lt l 64 (fun h => ?_) (fun h => K0)
  refine hc_first ?_
  have hf := hc_fL fs (nI l)
  have hs := hc_sL ss (nI l)
  refine hc_among (by omega) (fun q hq e => ?_) (fun n1 n2 => ?_)
  · have hq0 : (0 : Int32) ≤ nI q := nI_pos' (by omega)
    exact hc_lower h I (fun r _ _ _ => br_t hq0 K0) (fun _ => br_t hq0 K0)
  · refine hc_lower h I (fun r h8 h26 _ => br_f hc_m2 (br_f (nI_pos (by omega)) K0)) (fun no => br_f hc_m2 (br_t hc_m1 ?_))
    refine hc_second ?_
    refine hc_older hs.2 (fun q hq => ?_)
    refine hc_wbW (by omega) I (fun me' ch' J c0 => ?_)
    refine hc_readW (by omega) h (fun _ => c0) (Or.inr (Or.inr hq)) (hc_nowhere h I n1 n2 no) J (fun ck' li' ch'' us' wo' J' e1 e2 => ?_)
    exact K ck' me' li' ch'' us' wo' J' (fun r hr => e2 r (by omega))

theorem hc_b90 {post : Int32 → SX → Prop} {l q : Nat} (hl : l < 64) (hq : q = hc_f fs (nI l) ∨ q = hc_f fs (nI l) + 1) (e : li q = nI l)
    (K : ∀ q, q < 8 → li q = nI l → post (nI q) (ck, fs, ss, la, nI l, rs, me, li, ch, us, wo)) : wX_bring_90 post (nI l) (nI (hc_f fs (nI l))) ck fs ss la lm rs me li ch us wo := by
  unfold wX_bring_90
  have hf := hc_fL fs (nI l)
  refine hc_among (by omega) (fun r hr er => K r (by omega) er) (fun n1 n2 => ?_)
  rcases hq with rfl | rfl
  · exact absurd e n1
  · exact absurd e n2

theorem hc_b61 {post : Int32 → SX → Prop} {l q : Nat} {x5 : Int32} (hl : l < 64) (hq : q = hc_f fs (nI l) ∨ q = hc_f fs (nI l) + 1) (e : li q = nI l) (I : hc_I fs ss me li ch wo M)
    (K : ∀ q lm' ck' me' li' ch' us' wo', q < 8 → hc_I fs ss me' li' ch' wo' M → li' q = nI l → post (nI q) (ck', fs, ss, la, lm', rs, me', li', ch', us', wo')) :
    wX_bring_61 post (nI l) (nI (hc_f fs (nI l))) x5 ck fs ss la lm rs me li ch us wo := by
  unfold wX_bring_61
  have hf := hc_fL fs (nI l)
  have K0 : wX_bring_90 post (nI l) (nI (hc_f fs (nI l))) ck fs ss la lm rs me li ch us wo := hc_b90 hl hq e (fun r hr er => K r (nI l) ck me li ch us wo hr I er)
  refine br_c (fun _ => K0) (fun _ => br_c (fun _ => K0) (fun _ => br_c (fun _ => ?_) (fun _ => K0)))
  rw [nI_1 l]
  refine hc_fetch (by omega) I (fun ck' me' li' ch' us' wo' J e2 => ?_)
  exact hc_b90 hl hq ((e2 q (by omega)).trans e) (fun r hr er => K r (nI l) ck' me' li' ch' us' wo' hr J er)

theorem hc_bring {post : Int32 → SX → Prop} {l : Nat} (hl : l < 64) (I : hc_I fs ss me li ch wo M)
    (K : ∀ q lm' ck' me' li' ch' us' wo', q < 8 → hc_I fs ss me' li' ch' wo' M → li' q = nI l → post (nI q) (ck', fs, ss, la, lm', rs, me', li', ch', us', wo')) : wpX_bring post (ck, fs, ss, la, lm, rs, me, li, ch, us, wo) (nI l) := by
  unfold wpX_bring
  dsimp only
  refine hc_first ?_
  have hf := hc_fL fs (nI l)
  refine hc_among (by omega) (fun q hq e => ?_) (fun n1 n2 => ?_)
  · refine br_f (nI_pos (by omega)) ?_
    exact hc_touch (by omega) (fun ck' us' => K q lm ck' me li ch us' wo (by omega) I e)
  · refine br_t hc_m1 ?_
    refine hc_room hl I (fun q ck1 me1 li1 ch1 us1 wo1 hq J e1 e2 => ?_)
    dsimp only
    refine hc_lower hl J (fun r h8 h26 er => ?_) (fun no => ?_)
    · refine br_f (nI_pos (by omega)) ?_
      refine hc_moveW h26 (by omega) (by omega) (fun n => absurd e1 n) (fun _ => ?_) J (fun ck2 li2 ch2 us2 wo2 J2 f1 f2 f3 => ?_)
      · rw [er]; exact Or.inl hq
      · exact hc_b61 hl hq (f1.trans er) J2 K
    · refine br_t hc_m1 ?_
      have nw := hc_nowhere hl J (fun z => n1 (e2 _ (by omega) z)) (fun z => n2 (e2 _ (by omega) z)) no
      refine hc_readW (by omega) hl (fun n => absurd e1 n) (Or.inl hq) nw J (fun ck2 li2 ch2 us2 wo2 J2 f1 f2 => ?_)
      exact hc_b61 hl hq f1 J2 K
end
end
section
/-! words: read, write, the device -/
theorem hc_shr {a : Nat} (h : a < 2 ^ 31) : nI a >>> ((2 : Int32) &&& 31) = nI (a / 4) := pk_shrN h _ 2 (by decide)
theorem hc_and {a : Nat} (h : a < 2 ^ 31) : nI a &&& 3 = nI (a % 4) := pk_andN (by omega) 2 (by decide)
theorem hc_back (a : Nat) : a / 4 * 4 + a % 4 = a := by omega
/-- the reserved word after a store at x -/
def hc_r (rs x : Int32) : Int32 := if rs = x then -1 else rs
section
variable {ck fs ss la lm rs : Int32} {me li ch us wo M : Nat → Int32}

theorem hc_place {post : Int32 → SX → Prop} {a : Nat} (ha : a < 256) (I : hc_I fs ss me li ch wo M)
    (K : ∀ q lm' ck' me' li' ch' us' wo', q < 8 → hc_I fs ss me' li' ch' wo' M → li' q = nI (a / 4) → post (nI (q * 4 + a % 4)) (ck', fs, ss, la, lm', rs, me', li', ch', us', wo')) : wpX_placeOf post (ck, fs, ss, la, lm, rs, me, li, ch, us, wo) (nI a) := by
  unfold wpX_placeOf
  dsimp only
  rw [hc_shr (by omega), hc_and (by omega)]
  refine hc_bring (by omega) I (fun q lm' ck' me' li' ch' us' wo' hq J e => ?_)
  dsimp only
  rw [hc_ix]
  exact K q lm' ck' me' li' ch' us' wo' hq J e
theorem hc_word {a q : Nat} (ha : a < 256) (hq : q < 26) (I : hc_I fs ss me li ch wo M) (e : li q = nI (a / 4)) : wo (q * 4 + a % 4) = M a := by
  have := I.2.2.2.1 q (a / 4) hq (by omega) e (a % 4) (by omega)
  rwa [hc_back] at this
theorem hc_rd {post : Int32 → SX → Prop} {a : Nat} (ha : a < 256) (I : hc_I fs ss me li ch wo M)
    (K : ∀ lm' ck' me' li' ch' us' wo', hc_I fs ss me' li' ch' wo' M → post (M a) (ck', fs, ss, la, lm', rs, me', li', ch', us', wo')) : wpX_read post (ck, fs, ss, la, lm, rs, me, li, ch, us, wo) (nI a) := by
  unfold wpX_read
  dsimp only
  refine hc_place ha I (fun q lm' ck' me' li' ch' us' wo' hq J e => ?_)
  dsimp only
  rw [nI_clamp (n := q * 4 + a % 4) (by omega), hc_word ha (by omega) J e]
  exact ⟨vp_in_nI (by omega) (by decide), K lm' ck' me' li' ch' us' wo' J⟩
theorem hc_rs {A : Int32 → Prop} {x : Int32} (h : A (hc_r rs x)) : (rs = x → A (-1)) ∧ (¬ rs = x → A rs) := by
  unfold hc_r at h
  constructor
  · intro z; rwa [if_pos z] at h
  · intro z; rwa [if_neg z] at h
theorem hc_wr {post : SX → Prop} {a : Nat} {v : Int32} (ha : a < 256) (I : hc_I fs ss me li ch wo M)
    (K : ∀ lm' ck' me' li' ch' us' wo', hc_I fs ss me' li' ch' wo' (upd M a v) → post (ck', fs, ss, la, lm', hc_r rs (nI a), me', li', ch', us', wo')) : wpX_write post (ck, fs, ss, la, lm, rs, me, li, ch, us, wo) (nI a) v := by
  unfold wpX_write
  dsimp only
  refine hc_place ha I (fun q lm' ck' me' li' ch' us' wo' hq J e => ?_)
  dsimp only
  have eq : (q * 4 + a % 4) / 4 = q := by omega
  rw [hc_shr (a := q * 4 + a % 4) (by omega), eq, nI_clamp (n := q * 4 + a % 4) (by omega), nI_clamp (n := q) (by omega), hc_b1]
  refine ⟨vp_in_nI (by omega) (by decide), nm_e ⟨vp_in_nI (by omega) (by decide), nm_e ?_⟩⟩
  have P := hc_put (ch' := upd ch' q 1) J (p := q) (l := a / 4) (j := a % 4) (by omega) (by omega) (by omega) e v pk_us (fun r hr => pk_un hr)
  rw [hc_back] at P
  exact hc_rs (A := fun z => post (ck', fs, ss, la, lm', z, me', li', upd ch' q 1, us', upd wo' (q * 4 + a % 4) v)) (K lm' ck' me' li' _ us' _ P)

theorem hc_any {post : Int32 → Prop} {l : Nat} (hl : l < 64) (I : hc_I fs ss me li ch wo M)
    (K1 : ∀ q, q < 26 → li q = nI l → post (nI q)) (K2 : (∀ q, q < 26 → li q ≠ nI l) → post (-1)) : wpX_anyPlace post (ck, fs, ss, la, lm, rs, me, li, ch, us, wo) (nI l) := by
  unfold wpX_anyPlace
  dsimp only
  refine hc_first ?_
  have hf := hc_fL fs (nI l)
  refine hc_among (by omega) (fun q hq e => ?_) (fun n1 n2 => ?_)
  · exact br_f (nI_pos (by omega)) (K1 q (by omega) e)
  · refine br_t hc_m1 ?_
    exact hc_lower hl I (fun q _ h e => K1 q h e) (fun no => K2 (hc_nowhere hl I n1 n2 no))
theorem hc_dw {post : Int32 → Prop} {a : Nat} (ha : a < 256) (I : hc_I fs ss me li ch wo M) (K : post (M a)) : wpX_deviceWord post (ck, fs, ss, la, lm, rs, me, li, ch, us, wo) (nI a) := by
  unfold wpX_deviceWord
  dsimp only
  rw [hc_shr (by omega), hc_and (by omega)]
  refine hc_any (by omega) I (fun q hq e => ?_) (fun no => ?_)
  · refine br_f (nI_pos (by omega)) ?_
    rw [hc_ixc (t := q) (j := a % 4) (by omega), hc_word ha hq I e]
    exact ⟨hc_ixi (by omega) (by decide), K⟩
  · refine br_t hc_m1 ?_
    have h := I.2.2.2.2 (a / 4) (by omega) (fun p hp e => absurd e (no p hp)) (a % 4) (by omega)
    rw [hc_back] at h
    rw [nI_clamp (n := a) (by omega), h]
    exact ⟨vp_in_nI (by omega) (by decide), K⟩

theorem hc_p55 {post : SX → Prop} {x : Int32} (K : post (ck, fs, ss, la, lm, hc_r rs x, me, li, ch, us, wo)) : wX_devicePut_55 post x ck fs ss la lm rs me li ch us wo := hc_rs (A := fun z => post (ck, fs, ss, la, lm, z, me, li, ch, us, wo)) K
theorem hc_p48 {post : SX → Prop} {a : Nat} {v : Int32} (ha : a < 256) (K : post (ck, fs, ss, la, lm, hc_r rs (nI a), upd me a v, li, ch, us, wo)) : wX_devicePut_48 post (nI a) v ck fs ss la lm rs me li ch us wo := by
  unfold wX_devicePut_48
  rw [nI_clamp (n := a) (by omega)]
  exact ⟨vp_in_nI (by omega) (by decide), nm_e (hc_p55 K)⟩
theorem hc_dp {post : SX → Prop} {a : Nat} {v : Int32} (ha : a < 256) (I : hc_I fs ss me li ch wo M)
    (K : ∀ me' li' wo', hc_I fs ss me' li' ch wo' (upd M a v) → post (ck, fs, ss, la, lm, hc_r rs (nI a), me', li', ch, us, wo')) : wpX_devicePut post (ck, fs, ss, la, lm, rs, me, li, ch, us, wo) (nI a) v := by
  unfold wpX_devicePut
  dsimp only
  rw [hc_shr (by omega), hc_and (by omega)]
  refine hc_any (by omega) I (fun q hq e => ?_) (fun no => ?_)
  · have hi : vp_in (nI q) 26 := vp_in_nI hq (by decide)
    refine br_f (nI_pos (by omega)) ⟨hi, ?_⟩
    rw [hc_ixc (t := q) (j := a % 4) (by omega), nI_clamp (n := q) (by omega)]
    refine br_c (fun z => ?_) (fun z => ?_)
    · unfold wX_devicePut_37
      refine br_f (nI_pos (by omega)) ⟨hi, ?_⟩
      rw [nI_clamp (n := q) (by omega)]
      refine nm_e (hc_p48 ha ?_)
      have J := hc_drop I hq (fun _ => z)
      have no : ∀ r, r < 26 → upd li q (-1) r ≠ nI (a / 4) := by
        intro r hr er
        by_cases y : r = q
        · subst y; rw [pk_us] at er; exact absurd er.symm (hc_ne (by omega))
        · rw [pk_un y] at er; exact y (I.2.1 r q (a / 4) hr hq (by omega) er e)
      have P := hc_mem J (l := a / 4) (j := a % 4) (by omega) (by omega) no v
      rw [hc_back] at P
      exact K _ _ _ P
    · refine ⟨hc_ixi (by omega) (by decide), nm_e (hc_p55 ?_)⟩
      have c1 : ch q = 1 := by
        rcases I.2.2.1 q hq with h | h
        · exact absurd h z
        · exact h
      have P := hc_put I (p := q) (l := a / 4) (j := a % 4) (by omega) (by omega) (by omega) e v c1 (fun _ _ => rfl)
      rw [hc_back] at P
      exact K _ _ _ P
  · refine br_t hc_m1 ?_
    unfold wX_devicePut_37
    refine br_t hc_m1 (hc_p48 ha ?_)
    have P := hc_mem I (l := a / 4) (j := a % 4) (by omega) (by omega) no v
    rw [hc_back] at P
    exact K _ _ _ P

theorem hc_emp {post : SX → Prop} {p : Nat} (hp : p < 26) (I : hc_I fs ss me li ch wo M) (K : ∀ me' li' ch', hc_I fs ss me' li' ch' wo M → post (ck, fs, ss, la, lm, rs, me', li', ch', us, wo)) : wpX_empty post (ck, fs, ss, la, lm, rs, me, li, ch, us, wo) (nI p) := by
  unfold wpX_empty
  dsimp only
  refine hc_wbW hp I (fun me' ch' J c0 => ?_)
  dsimp only
  rw [nI_clamp (n := p) (by omega)]
  exact ⟨vp_in_nI hp (by decide), nm_e (K _ _ _ (hc_drop J hp (fun _ => c0)))⟩
end
theorem hc_ad (x : Int32) : (x < 0 ∨ (¬ x < 0 ∧ nI 256 ≤ x)) ∨ ∃ a, a < 256 ∧ x = nI a := by
  by_cases h : x < 0
  · exact Or.inl (Or.inl h)
  · rcases pk_ix x (n := 256) (by decide) with h1 | h1 | h1
    · exact absurd h1 h
    · exact Or.inl (Or.inr ⟨h, h1⟩)
    · exact Or.inr h1
theorem hc_nlt {x y : Int32} (h : y ≤ x) : ¬ x < y := Int32.not_lt.mpr h
theorem hc_badX0 {post : Int32 → Prop} {x : Int32} (h : x < 0 ∨ (¬ x < 0 ∧ nI 256 ≤ x)) (K : post 1) : wpX_bad post x := by
  unfold wpX_bad
  rcases h with h | ⟨h, h'⟩
  · exact br_t h K
  · exact br_f h (br_f (hc_nlt h') K)
theorem hc_badX1 {post : Int32 → Prop} {a : Nat} (h : a < 256) (K : post 0) : wpX_bad post (nI a) := by
  unfold wpX_bad
  exact br_f (nI_pos (by omega)) (br_t (nI_lt (b := 256) h (by decide)) K)
theorem hc_badY0 {post : Int32 → Prop} {v : SY} {x : Int32} (h : x < 0 ∨ (¬ x < 0 ∧ nI 256 ≤ x)) (K : post 0) : wpY_isWord post v x := by
  unfold wpY_isWord
  rcases h with h | ⟨h, h'⟩
  · exact br_t h K
  · exact br_f h (br_t h' K)
theorem hc_badY1 {post : Int32 → Prop} {v : SY} {a : Nat} (h : a < 256) (K : post 1) : wpY_isWord post v (nI a) := by
  unfold wpY_isWord
  exact br_f (nI_pos (by omega)) (br_f (nI_ge (b := 256) h (by decide)) K)
theorem hc_yw {post : SY → Prop} {kp v : Int32} {M : Nat → Int32} {a : Nat} (ha : a < 256) (K : post (hc_r kp (nI a), upd M a v)) : wpY_write post (kp, M) (nI a) v := by
  unfold wpY_write
  dsimp only
  rw [nI_clamp (n := a) (by omega)]
  exact ⟨vp_in_nI ha (by decide), nm_e (hc_rs (A := fun z => post (z, upd M a v)) K)⟩
theorem hc_yl0 {post : Int32 → Prop} {kp : Int32} {M : Nat → Int32} {x : Int32} (h : x < 0 ∨ (¬ x < 0 ∧ nI 256 ≤ x)) (K : post (-1)) : wpY_load post (kp, M) x := by
  unfold wpY_load
  exact hc_badY0 h (br_t rfl K)
theorem hc_01 : ¬ (1 : Int32) = 0 := by decide
theorem hc_yl1 {post : Int32 → Prop} {kp : Int32} {M : Nat → Int32} {a : Nat} (h : a < 256) (K : post (M a)) : wpY_load post (kp, M) (nI a) := by
  unfold wpY_load
  dsimp only
  refine hc_badY1 h (br_f hc_01 ?_)
  rw [nI_clamp (n := a) (by omega)]
  exact ⟨vp_in_nI h (by decide), K⟩
theorem hc_ys0 {post : Int32 → SY → Prop} {kp : Int32} {M : Nat → Int32} {x v : Int32} (h : x < 0 ∨ (¬ x < 0 ∧ nI 256 ≤ x)) (K : post (-1) (kp, M)) : wpY_store post (kp, M) x v := by
  unfold wpY_store
  exact hc_badY0 h (br_t rfl K)
theorem hc_ys1 {post : Int32 → SY → Prop} {kp v : Int32} {M : Nat → Int32} {a : Nat} (h : a < 256) (K : post 0 (hc_r kp (nI a), upd M a v)) : wpY_store post (kp, M) (nI a) v := by
  unfold wpY_store
  dsimp only
  exact hc_badY1 h (br_f hc_01 (hc_yw h K))
end
section
/-! the loops of the public methods, bytes, the constructor -/
theorem hc_div {a : Nat} (h : a < 2 ^ 31) : nI a / 4 = nI (a / 4) := pk_div (d := 4) h (by decide) (by decide)
theorem hc_rem {a : Nat} (h : a < 2 ^ 31) : nI a - nI a / 4 * 4 = nI (a % 4) := pk_rem (d := 4) h (by decide) (by decide)
theorem hc_8l (b : Nat) : 8 * nI b = nI (b * 8) := (pk_mul 8 b).trans (congrArg nI (Nat.mul_comm 8 b))
theorem hc_8r (b : Nat) : nI b * 8 = nI (b * 8) := pk_mul b 8
theorem hc_by (x : Int32) : x < 0 ∨ (∃ j, 1024 ≤ j ∧ j < 2 ^ 31 ∧ x = nI j) ∨ ∃ a, a < 1024 ∧ x = nI a := by
  by_cases h : x < 0
  · exact Or.inl h
  · obtain ⟨j, hj, e⟩ := nI_of h
    by_cases h2 : j < 1024
    · exact Or.inr (Or.inr ⟨j, h2, e⟩)
    · exact Or.inr (Or.inl ⟨j, by omega, hj, e⟩)
theorem hc_yb1 {post : Int32 → Prop} {v : SY} {a : Nat} (h : a < 1024) (K : post 1) : wpY_isByte post v (nI a) := by
  unfold wpY_isByte
  exact br_f (nI_pos (by omega)) (br_f (nI_ge (b := 1024) h (by decide)) K)
theorem hc_yb0 {post : Int32 → Prop} {v : SY} {x : Int32} (h : x < 0) (K : post 0) : wpY_isByte post v x := by
  unfold wpY_isByte
  exact br_t h K
theorem hc_yb2 {post : Int32 → Prop} {v : SY} {j : Nat} (h : 1024 ≤ j) (hj : j < 2 ^ 31) (K : post 0) : wpY_isByte post v (nI j) := by
  unfold wpY_isByte
  exact br_f (nI_pos hj) (br_t (nI_le (a := 1024) h hj) K)
theorem hc_40 : ¬ (4 : Int32) = 0 := by decide
theorem hc_ylb {post : Int32 → Prop} {kp p1 x : Int32} {M : Nat → Int32} {a : Nat} (ha : a < 1024) (ex : x = (M (a / 4) >>> (nI (a % 4 * 8) &&& 31)) &&& 255)
    (K : (p1 = 0 → post x) ∧ (¬ p1 = 0 → ((x ≤ 127 → post x) ∧ (¬ x ≤ 127 → post (x - 256))))) : wpY_loadByte post (kp, M) (nI a) p1 := by
  unfold wpY_loadByte
  dsimp only
  refine hc_yb1 ha (br_f hc_01 ?_)
  rw [hc_rem (by omega), hc_div (by omega), hc_8r, nI_clamp (n := a / 4) (by omega)]
  exact ⟨hc_40, vp_in_nI (by omega) (by decide), hc_40, nm_r ex.symm K⟩
theorem hc_ysb {post : Int32 → SY → Prop} {kp p1 : Int32} {M : Nat → Int32} {a : Nat} (ha : a < 1024)
    (K : post 0 (hc_r kp (nI (a / 4)), upd M (a / 4) ((M (a / 4) &&& (((255 : Int32) <<< (nI (a % 4 * 8) &&& 31)) ^^^ (-1))) ||| ((p1 &&& 255) <<< (nI (a % 4 * 8) &&& 31))))) : wpY_storeByte post (kp, M) (nI a) p1 := by
  unfold wpY_storeByte
  dsimp only
  refine hc_yb1 ha (br_f hc_01 ?_)
  rw [hc_rem (by omega), hc_div (by omega), hc_8r, nI_clamp (n := a / 4) (by omega)]
  exact ⟨hc_40, nm_e ⟨hc_40, vp_in_nI (by omega) (by decide), nm_e ⟨hc_40, hc_yw (by omega) K⟩⟩⟩
theorem hc_r1 (x : Int32) : hc_r (-1) x = -1 := by
  unfold hc_r
  split
  · rfl
  · rfl
section
variable {ck fs ss la lm rs : Int32} {me li ch us wo M : Nat → Int32}

theorem hc_cpl {f t n : Nat} (hf : f + n ≤ 256) (ht : t + n ≤ 256) {post : Int32 → SX → Prop} {kp0 : Int32} {M0 : Nat → Int32}
    (K : ∀ ck lm rs me li ch us wo M, hc_I fs ss me li ch wo M → (∀ Q : Int32 → SY → Prop, Q (nI n) (rs, M) → wY_copy_52 Q (nI f) (nI t) (nI n) (n + 1) 0 kp0 M0) → post (nI n) (ck, fs, ss, la, lm, rs, me, li, ch, us, wo)) :
    ∀ (d j : Nat) (ck lm rs : Int32) (me li ch us wo M : Nat → Int32), j + d = n → hc_I fs ss me li ch wo M →
      (∀ Q : Int32 → SY → Prop, wY_copy_52 Q (nI f) (nI t) (nI n) (d + 1) (nI j) rs M → wY_copy_52 Q (nI f) (nI t) (nI n) (n + 1) 0 kp0 M0) →
      wX_copy_50 post (nI f) (nI t) (nI n) (d + 1) (nI j) ck fs ss la lm rs me li ch us wo := by
  intro d
  induction d with
  | zero =>
    intro j ck lm rs me li ch us wo M hj I Y
    have h : nI n ≤ nI j := nI_le (by omega) (by omega)
    exact br_t h (K ck lm rs me li ch us wo M I (fun Q hq => Y Q (br_t h hq)))
  | succ d ih =>
    intro j ck lm rs me li ch us wo M hj I Y
    have h : ¬ nI n ≤ nI j := nI_ge (by omega) (by omega)
    refine br_f h ?_
    rw [nI_add f j, nI_add t j]
    refine hc_rd (by omega) I (fun lm1 ck1 me1 li1 ch1 us1 wo1 J => ?_)
    refine hc_wr (by omega) J (fun lm2 ck2 me2 li2 ch2 us2 wo2 J2 => ?_)
    refine nm_r (nI_1 j) ?_
    refine ih (j + 1) _ _ _ _ _ _ _ _ _ (by omega) J2 (fun Q hq => Y Q (br_f h ?_))
    rw [nI_add f j, nI_add t j, nI_clamp (n := f + j) (by omega)]
    exact ⟨vp_in_nI (by omega) (by decide), hc_yw (by omega) (nm_r (nI_1 j) hq)⟩

theorem hc_fll {f n : Nat} {v : Int32} (hf : f + n ≤ 256) {post : Int32 → SX → Prop} {kp0 : Int32} {M0 : Nat → Int32}
    (K : ∀ ck lm rs me li ch us wo M, hc_I fs ss me li ch wo M → (∀ Q : Int32 → SY → Prop, Q (nI n) (rs, M) → wY_deviceFill_35 Q (nI f) (nI n) v (n + 1) 0 kp0 M0) → post (nI n) (ck, fs, ss, la, lm, rs, me, li, ch, us, wo)) :
    ∀ (d j : Nat) (ck lm rs : Int32) (me li ch us wo M : Nat → Int32), j + d = n → hc_I fs ss me li ch wo M →
      (∀ Q : Int32 → SY → Prop, wY_deviceFill_35 Q (nI f) (nI n) v (d + 1) (nI j) rs M → wY_deviceFill_35 Q (nI f) (nI n) v (n + 1) 0 kp0 M0) →
      wX_deviceFill_34 post (nI f) (nI n) v (d + 1) (nI j) ck fs ss la lm rs me li ch us wo := by
  intro d
  induction d with
  | zero =>
    intro j ck lm rs me li ch us wo M hj I Y
    have h : nI n ≤ nI j := nI_le (by omega) (by omega)
    exact br_t h (K ck lm rs me li ch us wo M I (fun Q hq => Y Q (br_t h hq)))
  | succ d ih =>
    intro j ck lm rs me li ch us wo M hj I Y
    have h : ¬ nI n ≤ nI j := nI_ge (by omega) (by omega)
    refine br_f h ?_
    rw [nI_add f j]
    refine hc_dp (by omega) I (fun me1 li1 wo1 J => ?_)
    refine nm_r (nI_1 j) ?_
    refine ih (j + 1) _ _ _ _ _ _ _ _ _ (by omega) J (fun Q hq => Y Q (br_f h ?_))
    rw [nI_add f j]
    exact hc_yw (by omega) (nm_r (nI_1 j) hq)

theorem hc_hnl {w : Nat} (hw : w < 4) {post : Int32 → SX → Prop} (K : ∀ ck me li ch us wo, hc_I fs ss me li ch wo M → post 0 (ck, fs, ss, la, lm, rs, me, li, ch, us, wo)) :
    ∀ (d p : Nat) (ck : Int32) (me li ch us wo : Nat → Int32), p + d = 26 → hc_I fs ss me li ch wo M → wX_hint_28 post (nI w) (d + 1) (nI p) ck fs ss la lm rs me li ch us wo := by
  intro d
  induction d with
  | zero =>
    intro p ck me li ch us wo hp I
    have h : (26 : Int32) ≤ nI p := nI_le (a := 26) (by omega) (by omega)
    exact br_t h (K ck me li ch us wo I)
  | succ d ih =>
    intro p ck me li ch us wo hp I
    have h : ¬ (26 : Int32) ≤ nI p := nI_ge (b := 26) (by omega) (by decide)
    refine br_f h (pk_le w 0 (fun _ => K ck me li ch us wo I) (fun w0 => ?_))
    refine pk_eq w 1 (fun _ => ?_) (fun w1 => pk_eq w 2 (fun _ => ?_) (fun w2 => pk_le 8 p (fun _ => ?_) (fun h8 => ?_)))
    · refine hc_wbW (by omega) I (fun me' ch' J _ => ?_)
      exact nm_r (nI_1 p) (ih (p + 1) _ _ _ _ _ _ (by omega) J)
    · refine hc_emp (by omega) I (fun me' li' ch' J => ?_)
      exact nm_r (nI_1 p) (ih (p + 1) _ _ _ _ _ _ (by omega) J)
    · exact nm_r (nI_1 p) (ih (p + 1) _ _ _ _ _ _ (by omega) I)
    · refine ⟨vp_in_nI (by omega) (by decide), br_c (fun _ => ?_) (fun _ => ?_)⟩
      · exact nm_r (nI_1 p) (ih (p + 1) _ _ _ _ _ _ (by omega) I)
      · refine hc_sinkB (by omega) I (fun ck' me' li' ch' us' wo' J _ _ => ?_)
        exact nm_r (nI_1 p) (ih (p + 1) _ _ _ _ _ _ (by omega) J)

theorem hc_sml (I : hc_I fs ss me li ch wo M) {post : Int32 → Prop} (K : ∀ s, (∀ Q : Int32 → Prop, Q s → wY_sum_4 Q rs M 257 0 0) → post s) :
    ∀ (d j : Nat) (s : Int32), j + d = 256 → (∀ Q : Int32 → Prop, wY_sum_4 Q rs M (d + 1) s (nI j) → wY_sum_4 Q rs M 257 0 0) → wX_sum_4 post ck fs ss la lm rs me li ch us wo (d + 1) s (nI j) := by
  intro d
  induction d with
  | zero =>
    intro j s hj Y
    have h : (256 : Int32) ≤ nI j := nI_le (a := 256) (by omega) (by omega)
    exact br_t h (K s (fun Q hq => Y Q (br_t h hq)))
  | succ d ih =>
    intro j s hj Y
    have h : ¬ (256 : Int32) ≤ nI j := nI_ge (b := 256) (by omega) (by decide)
    refine br_f h (hc_dw (by omega) I (nm_e (nm_r (nI_1 j) ?_)))
    refine ih (j + 1) _ (by omega) (fun Q hq => Y Q (br_f h ?_))
    rw [nI_clamp (n := j) (by omega)]
    exact ⟨vp_in_nI (by omega) (by decide), nm_e (nm_r (nI_1 j) hq)⟩

theorem hc_inl {post : SX → Prop} (K : ∀ li', (∀ p, p < 26 → li' p = -1) → post (ck, fs, ss, la, lm, rs, me, li', ch, us, wo)) :
    ∀ (d j : Nat) (li : Nat → Int32), j + d = 26 → (∀ p, p < j → li p = -1) → wX_init_91 post ck fs ss la lm rs (d + 1) (nI j) me li ch us wo := by
  intro d
  induction d with
  | zero =>
    intro j li hj h1
    have h : (26 : Int32) ≤ nI j := nI_le (a := 26) (by omega) (by omega)
    exact br_t h (K li (fun p hp => h1 p (by omega)))
  | succ d ih =>
    intro j li hj h1
    have h : ¬ (26 : Int32) ≤ nI j := nI_ge (b := 26) (by omega) (by decide)
    refine br_f h ⟨vp_in_nI (by omega) (by decide), ?_⟩
    rw [nI_clamp (n := j) (by omega)]
    refine nm_e (nm_r (nI_1 j) (ih (j + 1) _ (by omega) ?_))
    intro p hp
    by_cases z : p = j
    · subst z; exact pk_us
    · rw [pk_un z]; exact h1 p (by omega)
end
theorem hc_new {fs ss : Int32} {li : Nat → Int32} (h : ∀ p, p < 26 → li p = -1) : hc_I fs ss (fun _ => 0) li (fun _ => 0) (fun _ => 0) (fun _ => 0) := by
  refine ⟨fun p hp => Or.inl (h p hp), ?_, fun _ _ => Or.inl rfl, fun _ _ _ _ _ _ _ => rfl, fun _ _ _ _ _ => rfl⟩
  intro p q l hp _ hl e _
  exact absurd (e.symm.trans (h p hp)) (hc_ne hl)
theorem hc_in76 {post : SX → Prop} {z fs ss : Int32} (hz : z = 0 ∨ z = 1) (K : ∀ li', (∀ p, p < 26 → li' p = -1) → post (0, fs, ss, z, -1, -1, fun _ => 0, li', fun _ => 0, fun _ => 0, fun _ => 0)) :
    wX_init_76 post z 0 fs ss 0 0 0 (fun _ => 0) (fun _ => 0) (fun _ => 0) (fun _ => 0) (fun _ => 0) := by
  unfold wX_init_76
  refine ⟨?_, ?_, 27, hc_inl K 26 0 _ rfl (fun p hp => absurd hp (by omega))⟩
  · rcases hz with rfl | rfl
    · rfl
    · rfl
  · rcases hz with rfl | rfl
    · rfl
    · rfl
end
section
/-- the reserved word is the same, and what the places and memory hold is the reference's memory -/
def i_Rel (k : Nat) (u : SX) (v : SY) : Prop := match u, v with
  | (_, fs, ss, _, _, rs, me, li, ch, _, wo), (kp, M) => rs = kp ∧ hc_I fs ss me li ch wo M
theorem hc_in {k : Nat} {ck fs ss la lm rs : Int32} {me li ch us wo M : Nat → Int32} (I : hc_I fs ss me li ch wo M) : i_Rel k (ck, fs, ss, la, lm, rs, me, li, ch, us, wo) (rs, M) := ⟨rfl, I⟩
theorem i_up {k : Nat} {u : SX} {v : SY} (h : i_Rel k u v) : i_Rel (k + 4) u v := h
theorem i_vc0 (k0 : Int32) : wpX_init (fun u => wpY_init (fun v => i_Rel 1 u v) k0) k0 := by
  unfold wpX_init
  refine nm_e (nm_e (br_c (fun _ => ?_) (fun _ => ?_)))
  · refine hc_in76 (Or.inr rfl) (fun li' h => ?_)
    unfold wpY_init
    exact hc_in (hc_new h)
  · refine hc_in76 (Or.inl rfl) (fun li' h => ?_)
    unfold wpY_init
    exact hc_in (hc_new h)
theorem i_vc_load {k : Nat} {u : SX} {v : SY} (I : i_Rel k u v) (hk : k + 4 ≤ 2049) (v1 : Int32) : wpX_load (fun r u' => wpY_load (fun r' => r' = r ∧ i_Rel (k + 4) u' v) v v1) u v1 := by
  obtain ⟨ck, fs, ss, la, lm, rs, me, li, ch, us, wo⟩ := u
  obtain ⟨kp, M⟩ := v
  obtain ⟨rfl, I⟩ := I
  unfold wpX_load
  dsimp only
  rcases hc_ad v1 with h | ⟨a, ha, rfl⟩
  · exact hc_badX0 h (br_f hc_01 (hc_yl0 h ⟨rfl, hc_in I⟩))
  · refine hc_badX1 ha (br_t rfl (hc_rd ha I (fun lm' ck' me' li' ch' us' wo' J => ?_)))
    exact hc_yl1 ha ⟨rfl, hc_in J⟩
theorem i_vc_store {k : Nat} {u : SX} {v : SY} (I : i_Rel k u v) (hk : k + 4 ≤ 2049) (v1 : Int32) (v2 : Int32) : wpX_store (fun r u' => wpY_store (fun r' v' => r' = r ∧ i_Rel (k + 4) u' v') v v1 v2) u v1 v2 := by
  obtain ⟨ck, fs, ss, la, lm, rs, me, li, ch, us, wo⟩ := u
  obtain ⟨kp, M⟩ := v
  obtain ⟨rfl, I⟩ := I
  unfold wpX_store
  dsimp only
  rcases hc_ad v1 with h | ⟨a, ha, rfl⟩
  · exact hc_badX0 h (br_f hc_01 (hc_ys0 h ⟨rfl, hc_in I⟩))
  · refine hc_badX1 ha (br_t rfl (hc_wr ha I (fun lm' ck' me' li' ch' us' wo' J => ?_)))
    exact hc_ys1 ha ⟨rfl, hc_in J⟩
theorem i_vc_loadByte {k : Nat} {u : SX} {v : SY} (I : i_Rel k u v) (hk : k + 4 ≤ 2049) (v1 : Int32) (v2 : Int32) : wpX_loadByte (fun r u' => wpY_loadByte (fun r' => r' = r ∧ i_Rel (k + 4) u' v) v v1 (lw_bz v2)) u v1 (lw_bz v2) := by
  obtain ⟨ck, fs, ss, la, lm, rs, me, li, ch, us, wo⟩ := u
  obtain ⟨kp, M⟩ := v
  obtain ⟨rfl, I⟩ := I
  unfold wpX_loadByte
  dsimp only
  rcases hc_by v1 with h | ⟨j, h, hj, rfl⟩ | ⟨a, ha, rfl⟩
  · refine br_t h ?_
    unfold wpY_loadByte
    exact hc_yb0 h (br_t rfl ⟨rfl, hc_in I⟩)
  · refine br_f (nI_pos hj) (br_f (nI_ge (a := 1023) (by omega) hj) ?_)
    unfold wpY_loadByte
    exact hc_yb2 h hj (br_t rfl ⟨rfl, hc_in I⟩)
  · refine br_f (nI_pos (by omega)) (br_t (nI_le (b := 1023) (by omega) (by decide)) ?_)
    rw [hc_shr (by omega), hc_and (by omega), hc_8l]
    refine hc_rd (by omega) I (fun lm' ck' me' li' ch' us' wo' J => ?_)
    intro x ex
    exact br_c (fun z => hc_ylb ha ex (br_t z ⟨rfl, hc_in J⟩)) (fun z => br_c (fun y => hc_ylb ha ex (br_f z (br_t y ⟨rfl, hc_in J⟩))) (fun y => hc_ylb ha ex (br_f z (br_f y ⟨rfl, hc_in J⟩))))
theorem i_vc_storeByte {k : Nat} {u : SX} {v : SY} (I : i_Rel k u v) (hk : k + 4 ≤ 2049) (v1 : Int32) (v2 : Int32) : wpX_storeByte (fun r u' => wpY_storeByte (fun r' v' => r' = r ∧ i_Rel (k + 4) u' v') v v1 v2) u v1 v2 := by
  obtain ⟨ck, fs, ss, la, lm, rs, me, li, ch, us, wo⟩ := u
  obtain ⟨kp, M⟩ := v
  obtain ⟨rfl, I⟩ := I
  unfold wpX_storeByte
  dsimp only
  rcases hc_by v1 with h | ⟨j, h, hj, rfl⟩ | ⟨a, ha, rfl⟩
  · refine br_t h ?_
    unfold wpY_storeByte
    exact hc_yb0 h (br_t rfl ⟨rfl, hc_in I⟩)
  · refine br_f (nI_pos hj) (br_f (nI_ge (a := 1023) (by omega) hj) ?_)
    unfold wpY_storeByte
    exact hc_yb2 h hj (br_t rfl ⟨rfl, hc_in I⟩)
  · refine br_f (nI_pos (by omega)) (br_t (nI_le (b := 1023) (by omega) (by decide)) ?_)
    rw [hc_shr (by omega), hc_and (by omega), hc_8l]
    refine nm_e (nm_e ?_)
    refine hc_rd (by omega) I (fun lm' ck' me' li' ch' us' wo' J => ?_)
    refine nm_e ?_
    refine hc_wr (by omega) J (fun lm1 ck1 me1 li1 ch1 us1 wo1 J1 => ?_)
    exact hc_ysb ha ⟨rfl, hc_in J1⟩
theorem i_vc_swap {k : Nat} {u : SX} {v : SY} (I : i_Rel k u v) (hk : k + 4 ≤ 2049) (v1 : Int32) (v2 : Int32) : wpX_swap (fun r u' => wpY_swap (fun r' v' => r' = r ∧ i_Rel (k + 4) u' v') v v1 v2) u v1 v2 := by
  obtain ⟨ck, fs, ss, la, lm, rs, me, li, ch, us, wo⟩ := u
  obtain ⟨kp, M⟩ := v
  obtain ⟨rfl, I⟩ := I
  unfold wpX_swap
  dsimp only
  rcases hc_ad v1 with h | ⟨a, ha, rfl⟩
  · refine hc_badX0 h (br_f hc_01 ?_)
    unfold wpY_swap
    exact hc_yl0 h (hc_ys0 h ⟨rfl, hc_in I⟩)
  · refine hc_badX1 ha (br_t rfl (hc_rd ha I (fun lm' ck' me' li' ch' us' wo' J => ?_)))
    refine hc_wr ha J (fun lm1 ck1 me1 li1 ch1 us1 wo1 J1 => ?_)
    unfold wpY_swap
    dsimp only
    exact hc_yl1 ha (hc_ys1 ha ⟨rfl, hc_in J1⟩)
theorem i_vc_addTo {k : Nat} {u : SX} {v : SY} (I : i_Rel k u v) (hk : k + 4 ≤ 2049) (v1 : Int32) (v2 : Int32) : wpX_addTo (fun r u' => wpY_addTo (fun r' v' => r' = r ∧ i_Rel (k + 4) u' v') v v1 v2) u v1 v2 := by
  obtain ⟨ck, fs, ss, la, lm, rs, me, li, ch, us, wo⟩ := u
  obtain ⟨kp, M⟩ := v
  obtain ⟨rfl, I⟩ := I
  unfold wpX_addTo
  dsimp only
  rcases hc_ad v1 with h | ⟨a, ha, rfl⟩
  · refine hc_badX0 h (br_f hc_01 ?_)
    unfold wpY_addTo
    exact hc_badY0 h (br_t rfl ⟨rfl, hc_in I⟩)
  · refine hc_badX1 ha (br_t rfl (hc_rd ha I (fun lm' ck' me' li' ch' us' wo' J => ?_)))
    refine nm_e ?_
    refine hc_wr ha J (fun lm1 ck1 me1 li1 ch1 us1 wo1 J1 => ?_)
    have hi : vp_in (nI a) 256 := vp_in_nI ha (by decide)
    unfold wpY_addTo
    dsimp only
    rw [nI_clamp (n := a) (by omega)]
    exact hc_badY1 ha (br_f hc_01 ⟨hi, hc_yw ha ⟨hi, pk_us, hc_in J1⟩⟩)
theorem i_vc_loadReserved {k : Nat} {u : SX} {v : SY} (I : i_Rel k u v) (hk : k + 4 ≤ 2049) (v1 : Int32) : wpX_loadReserved (fun r u' => wpY_loadReserved (fun r' v' => r' = r ∧ i_Rel (k + 4) u' v') v v1) u v1 := by
  obtain ⟨ck, fs, ss, la, lm, rs, me, li, ch, us, wo⟩ := u
  obtain ⟨kp, M⟩ := v
  obtain ⟨rfl, I⟩ := I
  unfold wpX_loadReserved
  dsimp only
  rcases hc_ad v1 with h | ⟨a, ha, rfl⟩
  · refine hc_badX0 h (br_f hc_01 ?_)
    unfold wpY_loadReserved wY_loadReserved_13
    exact hc_badY0 h (br_t rfl (hc_yl0 h ⟨rfl, hc_in I⟩))
  · refine hc_badX1 ha (br_t rfl (hc_rd ha I (fun lm' ck' me' li' ch' us' wo' J => ?_)))
    unfold wpY_loadReserved wY_loadReserved_13
    exact hc_badY1 ha (br_f hc_01 (hc_yl1 ha ⟨rfl, hc_in J⟩))
theorem i_vc_storeConditional {k : Nat} {u : SX} {v : SY} (I : i_Rel k u v) (hk : k + 4 ≤ 2049) (v1 : Int32) (v2 : Int32) : wpX_storeConditional (fun r u' => wpY_storeConditional (fun r' v' => r' = r ∧ i_Rel (k + 4) u' v') v v1 v2) u v1 v2 := by
  obtain ⟨ck, fs, ss, la, lm, rs, me, li, ch, us, wo⟩ := u
  obtain ⟨kp, M⟩ := v
  obtain ⟨rfl, I⟩ := I
  unfold wpX_storeConditional
  dsimp only
  rcases hc_ad v1 with h | ⟨a, ha, rfl⟩
  · refine hc_badX0 h (br_f hc_01 ?_)
    unfold wpY_storeConditional
    exact hc_badY0 h (br_t rfl ⟨rfl, hc_in I⟩)
  · refine hc_badX1 ha (br_t rfl (br_c (fun z => ?_) (fun z => ?_)))
    · unfold wX_storeConditional_22
      refine br_f hc_01 (hc_wr ha I (fun lm' ck' me' li' ch' us' wo' J => ?_))
      unfold wX_storeConditional_38
      dsimp only
      rw [hc_r1]
      refine br_f hc_01 ?_
      unfold wpY_storeConditional wY_storeConditional_23 wY_storeConditional_34
      exact hc_badY1 ha (br_f hc_01 (br_t z (br_f hc_01 (hc_yw ha (br_f hc_01 ⟨rfl, hc_in J⟩)))))
    · unfold wX_storeConditional_22 wX_storeConditional_38
      refine br_t rfl (br_t rfl ?_)
      unfold wpY_storeConditional wY_storeConditional_23 wY_storeConditional_34
      exact hc_badY1 ha (br_f hc_01 (br_f z (br_t rfl (br_t rfl ⟨rfl, hc_in I⟩))))
theorem i_vc_copy {k : Nat} {u : SX} {v : SY} (I : i_Rel k u v) (hk : k + 4 ≤ 2049) (v1 : Int32) (v2 : Int32) (v3 : Int32) : wpX_copy (fun r u' => wpY_copy (fun r' v' => r' = r ∧ i_Rel (k + 4) u' v') v v1 v2 v3) u v1 v2 v3 := by
  obtain ⟨ck, fs, ss, la, lm, rs, me, li, ch, us, wo⟩ := u
  obtain ⟨kp, M⟩ := v
  obtain ⟨rfl, I⟩ := I
  unfold wpX_copy
  dsimp only
  rcases hc_ad v1 with h | ⟨a, ha, rfl⟩
  · refine hc_badX0 h (br_f hc_01 ?_)
    unfold wpY_copy
    exact hc_badY0 h (br_t rfl ⟨rfl, hc_in I⟩)
  · refine hc_badX1 ha (br_t rfl ?_)
    rcases hc_ad v2 with h | ⟨b, hb, rfl⟩
    · refine hc_badX0 h (br_f hc_01 ?_)
      unfold wpY_copy
      exact hc_badY1 ha (br_f hc_01 (hc_badY0 h (br_t rfl ⟨rfl, hc_in I⟩)))
    · refine hc_badX1 hb (br_t rfl ?_)
      refine br_c (fun z1 => ?_) (fun z1 => br_c (fun z2 => ?_) (fun z2 => br_c (fun z3 => ?_) (fun z3 => br_c (fun z4 => ?_) (fun z4 => ?_))))
      · unfold wpY_copy
        exact hc_badY1 ha (br_f hc_01 (hc_badY1 hb (br_f hc_01 (br_t z1 ⟨rfl, hc_in I⟩))))
      · unfold wpY_copy
        exact hc_badY1 ha (br_f hc_01 (hc_badY1 hb (br_f hc_01 (br_f z1 (br_t z2 ⟨rfl, hc_in I⟩)))))
      · unfold wpY_copy
        exact hc_badY1 ha (br_f hc_01 (hc_badY1 hb (br_f hc_01 (br_f z1 (br_f z2 (br_t z3 ⟨rfl, hc_in I⟩))))))
      · obtain ⟨n, hn, rfl⟩ := nI_of2 (n := 32) (by decide) z1 (Int32.not_lt.mp z2)
        have z3' := z3
        have z4' := z4
        rw [nI_add] at z3' z4'
        have h3 : a + n ≤ 256 := by
          have := mt (fun y => nI_lt (a := 256) (b := a + n) y (by omega)) z3'
          omega
        have h4 : b + n ≤ 256 := (nI_leI (b := 256) (by omega) (by decide)).mp z4'
        refine ⟨n + 1, hc_cpl (kp0 := rs) (M0 := M) h3 h4 (fun ck lm rs me li ch us wo M J Y => ?_) n 0 ck lm rs me li ch us wo M (by omega) I (fun Q hq => hq)⟩
        unfold wpY_copy
        exact hc_badY1 ha (br_f hc_01 (hc_badY1 hb (br_f hc_01 (br_f z1 (br_f z2 (br_f z3 (br_t z4 ⟨n + 1, Y _ ⟨rfl, hc_in J⟩⟩)))))))
      · unfold wpY_copy
        exact hc_badY1 ha (br_f hc_01 (hc_badY1 hb (br_f hc_01 (br_f z1 (br_f z2 (br_f z3 (br_f z4 ⟨rfl, hc_in I⟩)))))))
theorem i_vc_deviceRead {k : Nat} {u : SX} {v : SY} (I : i_Rel k u v) (hk : k + 4 ≤ 2049) (v1 : Int32) : wpX_deviceRead (fun r => wpY_deviceRead (fun r' => r' = r ∧ i_Rel (k + 4) u v) v v1) u v1 := by
  obtain ⟨ck, fs, ss, la, lm, rs, me, li, ch, us, wo⟩ := u
  obtain ⟨kp, M⟩ := v
  obtain ⟨rfl, I⟩ := I
  unfold wpX_deviceRead
  dsimp only
  rcases hc_ad v1 with h | ⟨a, ha, rfl⟩
  · refine hc_badX0 h (br_f hc_01 ?_)
    unfold wpY_deviceRead
    exact hc_yl0 h ⟨rfl, hc_in I⟩
  · refine hc_badX1 ha (br_t rfl (hc_dw ha I ?_))
    unfold wpY_deviceRead
    exact hc_yl1 ha ⟨rfl, hc_in I⟩
theorem i_vc_deviceWrite {k : Nat} {u : SX} {v : SY} (I : i_Rel k u v) (hk : k + 4 ≤ 2049) (v1 : Int32) (v2 : Int32) : wpX_deviceWrite (fun r u' => wpY_deviceWrite (fun r' v' => r' = r ∧ i_Rel (k + 4) u' v') v v1 v2) u v1 v2 := by
  obtain ⟨ck, fs, ss, la, lm, rs, me, li, ch, us, wo⟩ := u
  obtain ⟨kp, M⟩ := v
  obtain ⟨rfl, I⟩ := I
  unfold wpX_deviceWrite
  dsimp only
  rcases hc_ad v1 with h | ⟨a, ha, rfl⟩
  · refine hc_badX0 h (br_f hc_01 ?_)
    unfold wpY_deviceWrite
    exact hc_ys0 h ⟨rfl, hc_in I⟩
  · refine hc_badX1 ha (br_t rfl (hc_dp ha I (fun me' li' wo' J => ?_)))
    unfold wpY_deviceWrite
    exact hc_ys1 ha ⟨rfl, hc_in J⟩
theorem i_vc_deviceFill {k : Nat} {u : SX} {v : SY} (I : i_Rel k u v) (hk : k + 4 ≤ 2049) (v1 : Int32) (v2 : Int32) (v3 : Int32) : wpX_deviceFill (fun r u' => wpY_deviceFill (fun r' v' => r' = r ∧ i_Rel (k + 4) u' v') v v1 v2 v3) u v1 v2 v3 := by
  obtain ⟨ck, fs, ss, la, lm, rs, me, li, ch, us, wo⟩ := u
  obtain ⟨kp, M⟩ := v
  obtain ⟨rfl, I⟩ := I
  unfold wpX_deviceFill
  dsimp only
  rcases hc_ad v1 with h | ⟨a, ha, rfl⟩
  · refine hc_badX0 h (br_f hc_01 ?_)
    unfold wpY_deviceFill
    exact hc_badY0 h (br_t rfl ⟨rfl, hc_in I⟩)
  · refine hc_badX1 ha (br_t rfl ?_)
    refine br_c (fun z1 => ?_) (fun z1 => br_c (fun z2 => ?_) (fun z2 => br_c (fun z4 => ?_) (fun z4 => ?_)))
    · unfold wpY_deviceFill
      exact hc_badY1 ha (br_f hc_01 (br_t z1 ⟨rfl, hc_in I⟩))
    · unfold wpY_deviceFill
      exact hc_badY1 ha (br_f hc_01 (br_f z1 (br_t z2 ⟨rfl, hc_in I⟩)))
    · obtain ⟨n, hn, rfl⟩ := nI_of2 (n := 64) (by decide) z1 (Int32.not_lt.mp z2)
      have z4' := z4
      rw [nI_add] at z4'
      have h4 : a + n ≤ 256 := (nI_leI (b := 256) (by omega) (by decide)).mp z4'
      refine ⟨n + 1, hc_fll (kp0 := rs) (M0 := M) h4 (fun ck lm rs me li ch us wo M J Y => ?_) n 0 ck lm rs me li ch us wo M (by omega) I (fun Q hq => hq)⟩
      unfold wpY_deviceFill
      exact hc_badY1 ha (br_f hc_01 (br_f z1 (br_f z2 (br_t z4 ⟨n + 1, Y _ ⟨rfl, hc_in J⟩⟩))))
    · unfold wpY_deviceFill
      exact hc_badY1 ha (br_f hc_01 (br_f z1 (br_f z2 (br_f z4 ⟨rfl, hc_in I⟩))))
theorem i_vc_hint {k : Nat} {u : SX} {v : SY} (I : i_Rel k u v) (hk : k + 4 ≤ 2049) (v1 : Int32) (v2 : Int32) : wpX_hint (fun r u' => wpY_hint (fun r' => r' = r ∧ i_Rel (k + 4) u' v) v v1 v2) u v1 v2 := by
  obtain ⟨ck, fs, ss, la, lm, rs, me, li, ch, us, wo⟩ := u
  obtain ⟨kp, M⟩ := v
  obtain ⟨rfl, I⟩ := I
  unfold wpX_hint
  dsimp only
  rcases hc_ad v1 with h | ⟨a, ha, rfl⟩
  · refine hc_badX0 h (br_f hc_01 ?_)
    unfold wpY_hint
    exact hc_badY0 h (br_t rfl ⟨rfl, hc_in I⟩)
  · refine hc_badX1 ha (br_t rfl ?_)
    obtain ⟨w, hw, e⟩ := pk_andE v2 (m := 3) 2 (by decide)
    rw [e, hc_shr (by omega)]
    refine nm_e (br_c (fun z => ?_) (fun z => ?_))
    · refine hc_bring (by omega) I (fun q lm' ck' me' li' ch' us' wo' _ J _ => ?_)
      refine ⟨27, hc_hnl (by omega) (fun ck me li ch us wo J => ?_) 26 0 ck' me' li' ch' us' wo' rfl J⟩
      unfold wpY_hint
      exact hc_badY1 ha (br_f hc_01 ⟨rfl, hc_in J⟩)
    · refine ⟨27, hc_hnl (by omega) (fun ck me li ch us wo J => ?_) 26 0 ck me li ch us wo rfl I⟩
      unfold wpY_hint
      exact hc_badY1 ha (br_f hc_01 ⟨rfl, hc_in J⟩)
theorem i_vc_sum {k : Nat} {u : SX} {v : SY} (I : i_Rel k u v) (hk : k + 4 ≤ 2049) : wpX_sum (fun r => wpY_sum (fun r' => r' = r ∧ i_Rel (k + 4) u v) v) u := by
  obtain ⟨ck, fs, ss, la, lm, rs, me, li, ch, us, wo⟩ := u
  obtain ⟨kp, M⟩ := v
  obtain ⟨rfl, I⟩ := I
  unfold wpX_sum
  dsimp only
  refine ⟨257, hc_sml I (fun s Y => ?_) 256 0 0 rfl (fun Q hq => hq)⟩
  unfold wpY_sum
  exact ⟨257, Y _ ⟨rfl, hc_in I⟩⟩
theorem i_vc_reserved {k : Nat} {u : SX} {v : SY} (I : i_Rel k u v) (hk : k + 4 ≤ 2049) : wpX_reserved (fun r => wpY_reserved (fun r' => r' = r ∧ i_Rel (k + 4) u v) v) u := by
  obtain ⟨ck, fs, ss, la, lm, rs, me, li, ch, us, wo⟩ := u
  obtain ⟨kp, M⟩ := v
  obtain ⟨rfl, I⟩ := I
  unfold wpX_reserved wpY_reserved
  exact ⟨rfl, hc_in I⟩
end
