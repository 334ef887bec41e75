section
/-! rows taken from kit/rows (starting text) -/
theorem pk_us {f : Nat → Int32} {k : Nat} {x : Int32} : upd f k x k = x := if_pos rfl
theorem pk_un {f : Nat → Int32} {k j : Nat} {x : Int32} (h : j ≠ k) : upd f k x j = f j := if_neg h
theorem pk_sub {a b : Nat} (h : b ≤ a) : nI a - nI b = nI (a - b) := by
  obtain ⟨c, rfl⟩ : ∃ c, a = c + b := ⟨a - b, by omega⟩
  rw [← nI_add, Int32.add_sub_cancel, Nat.add_sub_cancel]
theorem pk_m1 (n : Nat) : nI (n + 1) + (-1) = nI n := by
  rw [← nI_1, Int32.add_assoc, show (1 : Int32) + (-1) = 0 from rfl, Int32.add_zero]
theorem pk_sub_toInt {a b : Nat} (ha : a < 2 ^ 30) (hb : b < 2 ^ 30) : (nI a - nI b).toInt = (a : Int) - b := by
  rw [Int32.toInt_sub, nI_toInt (by omega), nI_toInt (by omega)]
  exact Int.bmod_eq_of_le (by omega) (by omega)
theorem pk_ix (x : Int32) {n : Nat} (hn : n < 2 ^ 31) : x < 0 ∨ nI n ≤ x ∨ ∃ j : Nat, j < n ∧ x = nI j := by
  by_cases h : x < 0
  · exact Or.inl h
  · obtain ⟨j, hj, rfl⟩ := nI_of h
    by_cases h2 : j < n
    · exact Or.inr (Or.inr ⟨j, h2, rfl⟩)
    · exact Or.inr (Or.inl (nI_le (by omega) hj))
theorem pk_le {x y : Int32} {A B : Prop} (a b : Nat) (f : a ≤ b → A) (g : b < a → B) (hx : x = nI a := by rfl) (hy : y = nI b := by rfl) (ha : a < 2 ^ 31 := by omega) (hb : b < 2 ^ 31 := by omega) : (x ≤ y → A) ∧ (¬ x ≤ y → B) := by
  subst hx hy
  rw [nI_leI ha hb]
  exact ⟨f, fun z => g (by omega)⟩
theorem pk_lt {x y : Int32} {A B : Prop} (a b : Nat) (f : a < b → A) (g : b ≤ a → B) (hx : x = nI a := by rfl) (hy : y = nI b := by rfl) (ha : a < 2 ^ 31 := by omega) (hb : b < 2 ^ 31 := by omega) : (x < y → A) ∧ (¬ x < y → B) := by
  subst hx hy
  rw [nI_ltI ha hb]
  exact ⟨f, fun z => g (by omega)⟩
theorem pk_eq {x y : Int32} {A B : Prop} (a b : Nat) (f : a = b → A) (g : a ≠ b → B) (hx : x = nI a := by rfl) (hy : y = nI b := by rfl) (ha : a < 2 ^ 31 := by omega) (hb : b < 2 ^ 31 := by omega) : (x = y → A) ∧ (¬ x = y → B) := by
  subst hx hy
  rw [nI_eq ha hb]
  exact ⟨f, g⟩
theorem pk_in {x : Int32} (n N : Nat) (h : n < N) (hx : x = nI n := by rfl) (hN : N < 2 ^ 31 := by omega) : vp_in x N := by
  subst hx
  exact vp_in_nI h hN
theorem pk_cl {x : Int32} (n : Nat) (hx : x = nI n := by rfl) (h : n < 2 ^ 31 := by omega) : x.toNatClampNeg = n := by
  subst hx
  exact nI_clamp h
theorem pk_tn {n : Nat} (h : n < 2 ^ 32) : (nI n).toBitVec.toNat = n := Nat.mod_eq_of_lt h
theorem pk_shl (a s : Int32) (k : Nat) (hs : (s.toBitVec.smod 32).toNat = k) : (a <<< s).toBitVec.toNat = a.toBitVec.toNat * 2 ^ k % 2 ^ 32 := by
  show (a.toBitVec <<< (s.toBitVec.smod 32).toNat).toNat = _
  rw [hs, BitVec.toNat_shiftLeft, Nat.shiftLeft_eq]
theorem pk_shlN {n : Nat} (s : Int32) (k : Nat) (hs : (s.toBitVec.smod 32).toNat = k) (h : n * 2 ^ k < 2 ^ 32) : nI n <<< s = nI (n * 2 ^ k) := by
  apply Int32.toBitVec_inj.mp
  apply BitVec.eq_of_toNat_eq
  have hn : n < 2 ^ 32 := Nat.lt_of_le_of_lt (Nat.le_mul_of_pos_right n (Nat.two_pow_pos k)) h
  rw [pk_shl _ _ k hs, pk_tn hn, pk_tn h, Nat.mod_eq_of_lt h]
def bt (x : Int32) (i : Nat) : Bool := x.toBitVec.getLsbD i
theorem b_ext {x y : Int32} (h : ∀ i, i < 32 → bt x i = bt y i) : x = y := Int32.toBitVec_inj.mp (BitVec.eq_of_getLsbD_eq (fun i hi => h i hi))
theorem b_or (x y : Int32) (i : Nat) : bt (x ||| y) i = (bt x i || bt y i) := by unfold bt; rw [Int32.toBitVec_or, BitVec.getLsbD_or]
theorem b_and (x y : Int32) (i : Nat) : bt (x &&& y) i = (bt x i && bt y i) := by unfold bt; rw [Int32.toBitVec_and, BitVec.getLsbD_and]
theorem b_xor (x y : Int32) (i : Nat) : bt (x ^^^ y) i = (bt x i ^^ bt y i) := by unfold bt; rw [Int32.toBitVec_xor, BitVec.getLsbD_xor]
theorem b_big {x : Int32} {i : Nat} (h : 32 ≤ i) : bt x i = false := BitVec.getLsbD_of_ge _ _ h
theorem b_m1 : ∀ i, i < 32 → bt (-1) i = true := by decide +kernel
theorem b_0 (i : Nat) : bt 0 i = false := BitVec.getLsbD_zero
theorem s_l : ∀ n, n < 32 → ((nI n &&& 31).toBitVec.smod 32).toNat = n := by decide +kernel
theorem b_shl (n : Nat) (hn : n < 32) (x : Int32) {i : Nat} (hi : i < 32) : bt (x <<< (nI n &&& 31)) i = (decide (n ≤ i) && bt x (i - n)) := by
  unfold bt
  rw [Int32.toBitVec_shiftLeft]
  show (x.toBitVec <<< ((nI n &&& 31).toBitVec.smod 32).toNat).getLsbD i = _
  rw [s_l n hn, BitVec.getLsbD_shiftLeft]
  rcases Nat.lt_or_ge i n with h | h
  · simp [h, Nat.not_le.mpr h]
  · simp [hi, h, Nat.not_lt.mpr h]
theorem b_sshr (n : Nat) (hn : n < 32) (x : Int32) {i : Nat} (hi : i < 32) : bt (x >>> (nI n &&& 31)) i = if n + i < 32 then bt x (n + i) else bt x 31 := by
  unfold bt
  rw [Int32.toBitVec_shiftRight]
  show (x.toBitVec.sshiftRight ((nI n &&& 31).toBitVec.smod 32).toNat).getLsbD i = _
  rw [s_l n hn, BitVec.getLsbD_sshiftRight, BitVec.msb_eq_getLsbD_last]
  simp [hi]
theorem nx_and (a b : Nat) : nI a &&& nI b = nI (a &&& b) := by
  apply Int32.toBitVec_inj.1
  show BitVec.ofNat 32 a &&& BitVec.ofNat 32 b = BitVec.ofNat 32 (a &&& b)
  apply BitVec.eq_of_getLsbD_eq
  intro i hi
  simp [hi]
end
section
/-! words by their bits: tests, single bits, cleared bits, cut words, top and bottom bits -/
theorem qw_b1 (j : Nat) : bt 1 j = decide (j = 0) := by
  rcases Nat.lt_or_ge j 32 with h | h
  · exact (by decide +kernel : ∀ j, j < 32 → bt 1 j = decide (j = 0)) j h
  · rw [b_big h, decide_eq_false (by omega)]
theorem qw_bit (x : Int32) {i : Nat} (hi : i < 32) : (x >>> (nI i &&& 31)) &&& 1 = if bt x i = true then 1 else 0 := by
  apply b_ext
  intro j hj
  rw [b_and, b_sshr i hi x hj, qw_b1]
  by_cases h0 : j = 0
  · subst h0
    rw [Nat.add_zero, if_pos hi]
    cases h : bt x i
    · rw [if_neg Bool.false_ne_true, b_0]; rfl
    · rw [if_pos rfl, qw_b1]; rfl
  · rw [decide_eq_false h0, Bool.and_false]
    cases h : bt x i
    · rw [if_neg Bool.false_ne_true, b_0]
    · rw [if_pos rfl, qw_b1, decide_eq_false h0]
theorem qw_t (x : Int32) {i : Nat} (hi : i < 32) : ((x >>> (nI i &&& 31)) &&& 1) = 1 ↔ bt x i = true := by
  rw [qw_bit x hi]
  cases bt x i
  · rw [if_neg Bool.false_ne_true]; decide
  · rw [if_pos rfl]; decide
theorem qw_f (x : Int32) {i : Nat} (hi : i < 32) : ((x >>> (nI i &&& 31)) &&& 1) = 0 ↔ bt x i = false := by
  rw [qw_bit x hi]
  cases bt x i
  · rw [if_neg Bool.false_ne_true]; decide
  · rw [if_pos rfl]; decide
theorem qw_one {i : Nat} (hi : i < 32) (j : Nat) : bt ((1 : Int32) <<< (nI i &&& 31)) j = decide (j = i) := by
  rcases Nat.lt_or_ge j 32 with h | h
  · rw [b_shl i hi 1 h, qw_b1]
    by_cases e : j = i
    · subst e
      simp
    · rw [decide_eq_false e]
      by_cases g : i ≤ j
      · rw [decide_eq_false (by omega : ¬ j - i = 0), Bool.and_false]
      · rw [decide_eq_false g, Bool.false_and]
  · rw [b_big h, decide_eq_false (by omega)]
/-- bit p taken away -/
def qw_cl (x : Int32) (p : Nat) : Int32 := x &&& (((1 : Int32) <<< (nI p &&& 31)) ^^^ (-1))
theorem qw_clb (x : Int32) {p : Nat} (hp : p < 32) (j : Nat) : bt (qw_cl x p) j = (bt x j && !decide (j = p)) := by
  rcases Nat.lt_or_ge j 32 with h | h
  · unfold qw_cl
    rw [b_and, b_xor, qw_one hp, b_m1 j h, Bool.xor_true]
  · rw [b_big h, b_big h, Bool.false_and]
/-- bits from f on -/
def qw_ct (f : Nat) (w : Int32) : Int32 := (w >>> (nI f &&& 31)) <<< (nI f &&& 31)
theorem qw_ctb {f : Nat} (hf : f < 32) (w : Int32) (j : Nat) : bt (qw_ct f w) j = (decide (f ≤ j) && bt w j) := by
  rcases Nat.lt_or_ge j 32 with h | h
  · unfold qw_ct
    rw [b_shl f hf _ h]
    by_cases g : f ≤ j
    · rw [b_sshr f hf w (by omega), if_pos (by omega), Nat.add_sub_cancel' g]
    · rw [decide_eq_false g, Bool.false_and, Bool.false_and]
  · rw [b_big h, b_big h, Bool.and_false]
theorem qw_ctx {f : Nat} (hf : f < 32) (a b : Int32) : qw_ct f (a ^^^ b) = qw_ct f a ^^^ qw_ct f b := by
  apply b_ext
  intro j _
  rw [b_xor, qw_ctb hf, qw_ctb hf, qw_ctb hf, b_xor]
  cases decide (f ≤ j) <;> rfl
theorem qw_ct0 {f : Nat} (hf : f < 32) : qw_ct f 0 = 0 := by
  apply b_ext
  intro j _
  rw [qw_ctb hf, b_0, Bool.and_false]
theorem qw_ctz (w : Int32) : qw_ct 0 w = w := by
  apply b_ext
  intro j _
  rw [qw_ctb (by omega)]
  simp
theorem qw_ne {x : Int32} (h : x ≠ 0) : ∃ j, j < 32 ∧ bt x j = true := by
  apply Classical.byContradiction
  intro g
  apply h
  apply b_ext
  intro j hj
  rw [b_0]
  cases e : bt x j
  · rfl
  · exact absurd ⟨j, hj, e⟩ g
theorem qw_nz {x : Int32} {j : Nat} (h : bt x j = true) : x ≠ 0 := fun e => by
  rw [e, b_0] at h
  exact Bool.false_ne_true h
theorem qw_lt {x : Int32} {j : Nat} (h : bt x j = true) : j < 32 := by
  rcases Nat.lt_or_ge j 32 with g | g
  · exact g
  · rw [b_big g] at h
    exact absurd h Bool.false_ne_true
/-- l is the top bit -/
def qw_hi (x : Int32) (l : Nat) : Prop := bt x l = true ∧ ∀ j, l < j → bt x j = false
theorem qw_hiu {x : Int32} {a b : Nat} (ha : qw_hi x a) (hb : qw_hi x b) : a = b := by
  rcases Nat.lt_trichotomy a b with h | h | h
  · have := ha.2 b h
    rw [hb.1] at this
    exact absurd this (by decide)
  · exact h
  · have := hb.2 a h
    rw [ha.1] at this
    exact absurd this (by decide)
theorem qw_his (x : Int32) : ∀ m : Nat, (∀ j, m ≤ j → bt x j = false) → x ≠ 0 → ∃ l, l < m ∧ qw_hi x l := by
  intro m
  induction m with
  | zero =>
    intro h hx
    obtain ⟨j, _, e⟩ := qw_ne hx
    rw [h j (Nat.zero_le _)] at e
    exact absurd e Bool.false_ne_true
  | succ m ih =>
    intro h hx
    cases e : bt x m
    · obtain ⟨l, hl, g⟩ := ih (fun j hj => by
        rcases Nat.lt_or_ge m j with z | z
        · exact h j z
        · have : j = m := by omega
          subst this
          exact e) hx
      exact ⟨l, by omega, g⟩
    · exact ⟨m, by omega, e, fun j hj => h j hj⟩
theorem qw_hie {x : Int32} (hx : x ≠ 0) : ∃ l, qw_hi x l := by
  obtain ⟨l, _, h⟩ := qw_his x 32 (fun j hj => b_big hj) hx
  exact ⟨l, h⟩
theorem qw_hix {x y : Int32} {a b : Nat} (ha : qw_hi x a) (hb : qw_hi y b) (h : a < b) : qw_hi (x ^^^ y) b := by
  refine ⟨?_, fun j hj => ?_⟩
  · rw [b_xor, ha.2 b h, hb.1]; rfl
  · rw [b_xor, ha.2 j (by omega), hb.2 j hj]; rfl
theorem qw_hic {f : Nat} (hf : f < 32) {x : Int32} {l : Nat} (h : qw_hi (qw_ct f x) l) : f ≤ l ∧ qw_hi x l := by
  have h1 := h.1
  rw [qw_ctb hf, Bool.and_eq_true, decide_eq_true_eq] at h1
  refine ⟨h1.1, h1.2, fun j hj => ?_⟩
  have := h.2 j hj
  rw [qw_ctb hf, decide_eq_true (by omega : f ≤ j), Bool.true_and] at this
  exact this
theorem qw_cth {f : Nat} (hf : f < 32) {x : Int32} {l : Nat} (h : qw_hi x l) (hl : f ≤ l) : qw_hi (qw_ct f x) l := by
  refine ⟨?_, fun j hj => ?_⟩
  · rw [qw_ctb hf, decide_eq_true hl, h.1]; rfl
  · rw [qw_ctb hf, h.2 j hj, Bool.and_false]
/-- a word with top bit l is cut to nothing by f just if l is below f -/
theorem qw_ctn {f : Nat} (hf : f < 32) {x : Int32} {l : Nat} (h : qw_hi x l) : qw_ct f x = 0 ↔ l < f := by
  constructor
  · intro e
    rcases Nat.lt_or_ge l f with z | z
    · exact z
    · have := (qw_cth hf h z).1
      rw [e, b_0] at this
      exact absurd this Bool.false_ne_true
  · intro z
    apply b_ext
    intro j _
    rw [qw_ctb hf, b_0]
    by_cases g : f ≤ j
    · rw [h.2 j (by omega), Bool.and_false]
    · rw [decide_eq_false g, Bool.false_and]
/-- p is the bottom bit -/
def qw_lo (x : Int32) (p : Nat) : Prop := p < 32 ∧ bt x p = true ∧ ∀ j, j < p → bt x j = false
theorem qw_loe {x : Int32} (h : x ≠ 0) : ∃ p, qw_lo x p := by
  have key : ∀ m, (∃ p, qw_lo x p) ∨ ∀ j, j < m → bt x j = false := by
    intro m
    induction m with
    | zero => exact Or.inr (fun j hj => absurd hj (Nat.not_lt_zero j))
    | succ m ih =>
      rcases ih with ih | ih
      · exact Or.inl ih
      · cases e : bt x m
        · refine Or.inr (fun j hj => ?_)
          rcases Nat.lt_or_ge j m with z | z
          · exact ih j z
          · have : j = m := by omega
            subst this
            exact e
        · exact Or.inl ⟨m, qw_lt e, e, ih⟩
  rcases key 32 with h1 | h1
  · exact h1
  · obtain ⟨j, hj, e⟩ := qw_ne h
    rw [h1 j hj] at e
    exact absurd e Bool.false_ne_true
theorem qw_neg (x : Int32) {i : Nat} (hi : i < 32) : bt (-x) i = (bt x i ^^ decide (∃ j, j < i ∧ bt x j = true)) := by
  unfold bt
  rw [Int32.toBitVec_neg, BitVec.getLsbD_neg, decide_eq_true hi, Bool.true_and]
theorem qw_lob {x : Int32} {p : Nat} (h : qw_lo x p) (j : Nat) : bt (x &&& (-x)) j = decide (j = p) := by
  rcases Nat.lt_or_ge j 32 with g | g
  · rw [b_and, qw_neg x g]
    rcases Nat.lt_trichotomy j p with z | z | z
    · rw [h.2.2 j z, decide_eq_false (by omega : ¬ j = p), Bool.false_and]
    · subst z
      have : ¬ ∃ i, i < j ∧ bt x i = true := fun ⟨i, hi, e⟩ => by
        rw [h.2.2 i hi] at e
        exact Bool.false_ne_true e
      rw [h.2.1, decide_eq_false this, decide_eq_true rfl]
      rfl
    · have : ∃ i, i < j ∧ bt x i = true := ⟨p, z, h.2.1⟩
      rw [decide_eq_true this, decide_eq_false (by omega : ¬ j = p)]
      cases bt x j <;> rfl
  · rw [b_big g, decide_eq_false]
    have := h.1
    omega
/-- the reference's test of a row's pivot -/
theorem qw_tst {x : Int32} {p : Nat} (h : qw_lo x p) (w : Int32) : (w &&& (x &&& (-x))) = 0 ↔ bt w p = false := by
  constructor
  · intro e
    have := congrArg (fun z => bt z p) e
    rw [b_and, qw_lob h, decide_eq_true rfl, Bool.and_true, b_0] at this
    exact this
  · intro e
    apply b_ext
    intro j _
    rw [b_and, qw_lob h, b_0]
    by_cases g : j = p
    · subst g
      rw [e, Bool.false_and]
    · rw [decide_eq_false g, Bool.and_false]
/-! xor -/
theorem qw_x1 (a b : Int32) : a ^^^ b ^^^ b = a := by rw [Int32.xor_assoc, Int32.xor_self, Int32.xor_zero]
theorem qw_x2 (a b : Int32) : a ^^^ (a ^^^ b) = b := by rw [← Int32.xor_assoc, Int32.xor_self, Int32.zero_xor]
theorem qw_x3 (a b c : Int32) : (a ^^^ c) ^^^ (b ^^^ c) = a ^^^ b := by
  rw [Int32.xor_comm b c, Int32.xor_assoc, ← Int32.xor_assoc c c b, Int32.xor_self, Int32.zero_xor]
theorem qw_x4 (a b c : Int32) : (a ^^^ c) ^^^ b = (a ^^^ b) ^^^ c := by
  rw [Int32.xor_assoc, Int32.xor_comm c b, ← Int32.xor_assoc]
theorem qw_x5 {a b : Int32} (h : a ^^^ b = 0) : a = b := by
  have := qw_x1 a b
  rw [h, Int32.zero_xor] at this
  exact this.symm
end
section
/-! the xor-span of c 0 .. c (m - 1) -/
def qs_sp (c : Nat → Int32) : Nat → Int32 → Prop
  | 0, w => w = 0
  | m + 1, w => qs_sp c m w ∨ qs_sp c m (w ^^^ c m)
theorem qs_0 (c : Nat → Int32) : ∀ m, qs_sp c m 0
  | 0 => rfl
  | m + 1 => Or.inl (qs_0 c m)
theorem qs_x {c : Nat → Int32} : ∀ {m : Nat} {a b : Int32}, qs_sp c m a → qs_sp c m b → qs_sp c m (a ^^^ b) := by
  intro m
  induction m with
  | zero =>
    intro a b ha hb
    have ha : a = 0 := ha
    have hb : b = 0 := hb
    rw [ha, hb]
    exact Int32.xor_zero
  | succ m ih =>
    intro a b ha hb
    rcases ha with ha | ha <;> rcases hb with hb | hb
    · exact Or.inl (ih ha hb)
    · refine Or.inr ?_
      have := ih ha hb
      rw [← Int32.xor_assoc] at this
      exact this
    · refine Or.inr ?_
      have := ih ha hb
      rw [qw_x4] at this
      exact this
    · refine Or.inl ?_
      have := ih ha hb
      rw [qw_x3] at this
      exact this
theorem qs_g {c : Nat → Int32} : ∀ {m j : Nat}, j < m → qs_sp c m (c j) := by
  intro m
  induction m with
  | zero => intro j h; exact absurd h (Nat.not_lt_zero j)
  | succ m ih =>
    intro j h
    rcases Nat.lt_or_ge j m with z | z
    · exact Or.inl (ih z)
    · have : j = m := by omega
      subst this
      refine Or.inr ?_
      rw [Int32.xor_self]
      exact qs_0 c j
/-- what holds 0 and the members and is closed holds the span -/
theorem qs_i {c : Nat → Int32} {S : Int32 → Prop} (h0 : S 0) (hx : ∀ a b, S a → S b → S (a ^^^ b)) : ∀ {m : Nat}, (∀ j, j < m → S (c j)) → ∀ {w : Int32}, qs_sp c m w → S w := by
  intro m
  induction m with
  | zero =>
    intro _ w hw
    have hw : w = 0 := hw
    rw [hw]
    exact h0
  | succ m ih =>
    intro hg w hw
    rcases hw with hw | hw
    · exact ih (fun j hj => hg j (by omega)) hw
    · have h1 := hx _ _ (ih (fun j hj => hg j (by omega)) hw) (hg m (by omega))
      rw [qw_x1] at h1
      exact h1
theorem qs_s {c d : Nat → Int32} {m m' : Nat} (h : ∀ j, j < m → qs_sp d m' (c j)) {w : Int32} (hw : qs_sp c m w) : qs_sp d m' w :=
  qs_i (S := qs_sp d m') (qs_0 d m') (fun _ _ ha hb => qs_x ha hb) h hw
theorem qs_m {c : Nat → Int32} {m m' : Nat} (h : m ≤ m') {w : Int32} (hw : qs_sp c m w) : qs_sp c m' w :=
  qs_s (fun _ hj => qs_g (by omega)) hw
theorem qs_c {c d : Nat → Int32} {m : Nat} (h : ∀ j, j < m → c j = d j) {w : Int32} (hw : qs_sp c m w) : qs_sp d m w :=
  qs_s (fun j hj => by rw [h j hj]; exact qs_g hj) hw
/-- cut by f -/
theorem qs_ct {c : Nat → Int32} {f : Nat} (hf : f < 32) {m : Nat} {w : Int32} (hw : qs_sp c m w) : qs_sp (fun j => qw_ct f (c j)) m (qw_ct f w) :=
  qs_i (S := fun w => qs_sp (fun j => qw_ct f (c j)) m (qw_ct f w)) (by rw [qw_ct0 hf]; exact qs_0 _ m)
    (fun a b ha hb => by rw [qw_ctx hf]; exact qs_x ha hb) (fun j hj => qs_g (c := fun j => qw_ct f (c j)) hj) hw
/-- no two members have the same top bit -/
def qs_d (c : Nat → Int32) (m : Nat) : Prop := ∀ a b, a < m → b < m → ∀ l, qw_hi (c a) l → qw_hi (c b) l → a = b
theorem qs_l {c : Nat → Int32} : ∀ {m : Nat}, qs_d c m → ∀ {w : Int32}, qs_sp c m w → w ≠ 0 → ∃ b l, b < m ∧ qw_hi (c b) l ∧ qw_hi w l := by
  intro m
  induction m with
  | zero => intro _ w hw h; exact absurd hw h
  | succ m ih =>
    intro hd w hw h
    have hd' : qs_d c m := fun a b ha hb => hd a b (by omega) (by omega)
    rcases hw with hw | hw
    · obtain ⟨b, l, hb, h1, h2⟩ := ih hd' hw h
      exact ⟨b, l, by omega, h1, h2⟩
    · by_cases hc : c m = 0
      · rw [hc, Int32.xor_zero] at hw
        obtain ⟨b, l, hb, h1, h2⟩ := ih hd' hw h
        exact ⟨b, l, by omega, h1, h2⟩
      · obtain ⟨l2, h2⟩ := qw_hie hc
        by_cases hv : w ^^^ c m = 0
        · have e : w = c m := qw_x5 hv
          exact ⟨m, l2, by omega, h2, by rw [e]; exact h2⟩
        · obtain ⟨b, l1, hb, h1, h3⟩ := ih hd' hw hv
          have e : w = (w ^^^ c m) ^^^ c m := (qw_x1 _ _).symm
          rcases Nat.lt_trichotomy l1 l2 with z | z | z
          · refine ⟨m, l2, by omega, h2, ?_⟩
            rw [e]
            exact qw_hix h3 h2 z
          · subst z
            have := hd b m (by omega) (by omega) l1 h1 h2
            omega
          · refine ⟨b, l1, by omega, h1, ?_⟩
            rw [e, Int32.xor_comm]
            exact qw_hix h2 h3 z
theorem qs_dct {c : Nat → Int32} {m f : Nat} (hf : f < 32) (h : qs_d c m) : qs_d (fun j => qw_ct f (c j)) m :=
  fun a b ha hb l h1 h2 => h a b ha hb l (qw_hic hf h1).2 (qw_hic hf h2).2
/-! elimination by bottom bits: the reference's rows -/
def qs_ri (c : Nat → Int32) (r : Nat) : Prop := ∀ a, a < r → c a ≠ 0 ∧ ∀ b, a < b → b < r → ∀ p, qw_lo (c a) p → bt (c b) p = false
def qs_pz (c : Nat → Int32) (r : Nat) (w : Int32) : Prop := ∀ a, a < r → ∀ p, qw_lo (c a) p → bt w p = false
/-- a word of the span with no pivot is 0 -/
theorem qs_e {c : Nat → Int32} : ∀ {r : Nat}, qs_ri c r → ∀ {w : Int32}, qs_sp c r w → qs_pz c r w → w = 0 := by
  intro r
  induction r with
  | zero => intro _ w hw _; exact hw
  | succ r ih =>
    intro hr w hw hp
    have hr' : qs_ri c r := fun a ha => ⟨(hr a (by omega)).1, fun b h1 h2 => (hr a (by omega)).2 b h1 (by omega)⟩
    rcases hw with hw | hw
    · exact ih hr' hw (fun a ha => hp a (by omega))
    · have hz := ih hr' hw (fun a ha p h => by
        rw [b_xor, hp a (by omega) p h, (hr a (by omega)).2 r ha (by omega) p h]
        rfl)
      have e : w = c r := qw_x5 hz
      obtain ⟨p, h⟩ := qw_loe (hr r (by omega)).1
      have h1 := hp r (by omega) p h
      rw [e, h.2.1] at h1
      exact absurd h1 (by decide)
theorem qs_pz1 {c : Nat → Int32} {r : Nat} (hr : qs_ri c r) {a : Nat} (ha : a < r) {w : Int32} (h : qs_pz c a w) : 
    ((w &&& (c a &&& (-(c a)))) = 0 → qs_pz c (a + 1) w) ∧ (¬ (w &&& (c a &&& (-(c a)))) = 0 → qs_pz c (a + 1) (w ^^^ c a)) := by
  obtain ⟨p, hp⟩ := qw_loe (hr a ha).1
  have hu : ∀ q, qw_lo (c a) q → q = p := fun q hq => by
    rcases Nat.lt_trichotomy q p with z | z | z
    · have := hp.2.2 q z
      rw [hq.2.1] at this
      exact absurd this (by decide)
    · exact z
    · have := hq.2.2 p z
      rw [hp.2.1] at this
      exact absurd this (by decide)
  rw [qw_tst hp]
  constructor
  · intro e b hb q hq
    rcases Nat.lt_or_ge b a with z | z
    · exact h b z q hq
    · have : b = a := by omega
      subst this
      rw [hu q hq]
      exact e
  · intro e b hb q hq
    rcases Nat.lt_or_ge b a with z | z
    · rw [b_xor, h b z q hq, (hr b (by omega)).2 a z ha q hq]
      rfl
    · have : b = a := by omega
      subst this
      rw [hu q hq, b_xor, hp.2.1]
      cases g : bt w p
      · exact absurd g e
      · rfl
/-- the row that comes new -/
theorem qs_rin {c : Nat → Int32} {r : Nat} (hr : qs_ri c r) {w : Int32} (hw : w ≠ 0) (hp : qs_pz c r w) : qs_ri (upd c r w) (r + 1) := by
  intro a ha
  rcases Nat.lt_or_ge a r with z | z
  · rw [pk_un (by omega : a ≠ r)]
    refine ⟨(hr a z).1, fun b h1 h2 p h => ?_⟩
    rcases Nat.lt_or_ge b r with y | y
    · rw [pk_un (by omega : b ≠ r)]
      exact (hr a z).2 b h1 y p h
    · have : b = r := by omega
      subst this
      rw [pk_us]
      exact hp a z p h
  · have : a = r := by omega
    subst this
    rw [pk_us]
    exact ⟨hw, fun b h1 h2 => by omega⟩
end
section
/-! xor sums, borders of chains, counts -/
def qs_xs (f : Nat → Int32) : Nat → Int32
  | 0 => 0
  | m + 1 => qs_xs f m ^^^ f m
theorem qs_xsc {f g : Nat → Int32} : ∀ m, (∀ j, j < m → f j = g j) → qs_xs f m = qs_xs g m
  | 0, _ => rfl
  | m + 1, h => by
    show qs_xs f m ^^^ f m = qs_xs g m ^^^ g m
    rw [qs_xsc m (fun j hj => h j (by omega)), h m (by omega)]
theorem qs_xsx (f g : Nat → Int32) : ∀ m, qs_xs (fun j => f j ^^^ g j) m = qs_xs f m ^^^ qs_xs g m
  | 0 => Int32.xor_zero.symm
  | m + 1 => by
    show qs_xs (fun j => f j ^^^ g j) m ^^^ (f m ^^^ g m) = (qs_xs f m ^^^ f m) ^^^ (qs_xs g m ^^^ g m)
    rw [qs_xsx f g m]
    ac_rfl
theorem qs_xs0 : ∀ m, qs_xs (fun _ => 0) m = 0
  | 0 => rfl
  | m + 1 => by
    show qs_xs (fun _ => 0) m ^^^ 0 = 0
    rw [qs_xs0 m, Int32.xor_zero]
/-- a symmetric double sum with nothing on the diagonal -/
theorem qs_sym (g : Nat → Nat → Int32) (hs : ∀ p q, g p q = g q p) (hd : ∀ p, g p p = 0) : ∀ m, qs_xs (fun p => qs_xs (g p) m) m = 0
  | 0 => rfl
  | m + 1 => by
    show qs_xs (fun p => qs_xs (g p) m ^^^ g p m) m ^^^ (qs_xs (g m) m ^^^ g m m) = 0
    rw [qs_xsx (fun p => qs_xs (g p) m) (fun p => g p m) m, qs_sym g hs hd m, hd m, Int32.xor_zero, Int32.zero_xor,
      qs_xsc (f := fun p => g p m) (g := g m) m (fun j _ => hs j m), Int32.xor_self]
/-- the border of a chain: S j for the bits j below m -/
def qc_bd (S : Nat → Int32) (w : Int32) : Nat → Int32
  | 0 => 0
  | j + 1 => if bt w j = true then qc_bd S w j ^^^ S j else qc_bd S w j
theorem qc_bdt {S : Nat → Int32} {w : Int32} {j : Nat} (h : bt w j = true) : qc_bd S w (j + 1) = qc_bd S w j ^^^ S j := if_pos h
theorem qc_bdf {S : Nat → Int32} {w : Int32} {j : Nat} (h : bt w j = false) : qc_bd S w (j + 1) = qc_bd S w j :=
  if_neg (fun e => by rw [h] at e; exact Bool.false_ne_true e)
theorem qc_bdx (S : Nat → Int32) (a b : Int32) : ∀ m, qc_bd S (a ^^^ b) m = qc_bd S a m ^^^ qc_bd S b m
  | 0 => Int32.xor_zero.symm
  | m + 1 => by
    have ih := qc_bdx S a b m
    have hx : bt (a ^^^ b) m = (bt a m ^^ bt b m) := b_xor a b m
    cases ha : bt a m <;> cases hb : bt b m
    · rw [ha, hb] at hx
      rw [qc_bdf hx, qc_bdf ha, qc_bdf hb, ih]
    · rw [ha, hb] at hx
      rw [qc_bdt hx, qc_bdf ha, qc_bdt hb, ih, Int32.xor_assoc]
    · rw [ha, hb] at hx
      rw [qc_bdt hx, qc_bdt ha, qc_bdf hb, ih, qw_x4]
    · rw [ha, hb] at hx
      rw [qc_bdf hx, qc_bdt ha, qc_bdt hb, ih, qw_x3]
theorem qc_bd0 (S : Nat → Int32) : ∀ m, qc_bd S 0 m = 0
  | 0 => rfl
  | m + 1 => by rw [qc_bdf (b_0 m), qc_bd0 S m]
theorem qc_bdxs (S f : Nat → Int32) (m : Nat) : ∀ k, qc_bd S (qs_xs f k) m = qs_xs (fun p => qc_bd S (f p) m) k
  | 0 => qc_bd0 S m
  | k + 1 => by
    show qc_bd S (qs_xs f k ^^^ f k) m = qs_xs (fun p => qc_bd S (f p) m) k ^^^ qc_bd S (f k) m
    rw [qc_bdx, qc_bdxs S f m k]
/-- above the top bit nothing comes -/
theorem qc_bdh (S : Nat → Int32) {w : Int32} {l : Nat} (h : ∀ j, l ≤ j → bt w j = false) : ∀ m, l ≤ m → qc_bd S w m = qc_bd S w l := by
  intro m
  induction m with
  | zero => intro hm; have : l = 0 := by omega
            rw [this]
  | succ m ih =>
    intro hm
    rcases Nat.lt_or_ge m l with z | z
    · have : l = m + 1 := by omega
      rw [this]
    · rw [qc_bdf (h m z), ih z]
theorem qc_bd1 (S : Nat → Int32) {j : Nat} (hj : j < 32) {m : Nat} (hm : j < m) : qc_bd S ((1 : Int32) <<< (nI j &&& 31)) m = S j := by
  have lo : ∀ k, k ≤ j → qc_bd S ((1 : Int32) <<< (nI j &&& 31)) k = 0 := by
    intro k
    induction k with
    | zero => intro _; rfl
    | succ k ih =>
      intro hk
      rw [qc_bdf (by rw [qw_one hj, decide_eq_false (by omega)]), ih (by omega)]
  rw [qc_bdh S (l := j + 1) (fun k hk => by rw [qw_one hj, decide_eq_false (by omega)]) m hm, qc_bdt (by rw [qw_one hj, decide_eq_true rfl]), lo j (Nat.le_refl j), Int32.zero_xor]
/-- counts -/
def qn_c (p : Nat → Bool) : Nat → Nat
  | 0 => 0
  | m + 1 => qn_c p m + (p m).toNat
theorem qn_s (p : Nat → Bool) (m : Nat) : qn_c p (m + 1) = qn_c p m + (p m).toNat := rfl
theorem qn_cc {p q : Nat → Bool} : ∀ m, (∀ j, j < m → p j = q j) → qn_c p m = qn_c q m
  | 0, _ => rfl
  | m + 1, h => by rw [qn_s, qn_s, qn_cc m (fun j hj => h j (by omega)), h m (by omega)]
theorem qn_ca {p q r : Nat → Bool} : ∀ m, (∀ j, j < m → (p j).toNat = (q j).toNat + (r j).toNat) → qn_c p m = qn_c q m + qn_c r m
  | 0, _ => rfl
  | m + 1, h => by
    have := qn_ca m (fun j hj => h j (by omega))
    have := h m (by omega)
    rw [qn_s, qn_s, qn_s]
    omega
theorem qn_z {p : Nat → Bool} : ∀ m, (∀ j, j < m → p j = false) → qn_c p m = 0
  | 0, _ => rfl
  | m + 1, h => by rw [qn_s, qn_z m (fun j hj => h j (by omega)), h m (by omega)]; rfl
theorem qn_1 {p : Nat → Bool} {b : Nat} : ∀ m, (∀ j, j < m → p j = decide (j = b)) → qn_c p m = if b < m then 1 else 0
  | 0, _ => rfl
  | m + 1, h => by
    rw [qn_s, qn_1 m (fun j hj => h j (by omega)), h m (by omega)]
    by_cases e : m = b
    · subst e
      rw [if_neg (by omega), if_pos (by omega), decide_eq_true rfl]
      rfl
    · rw [decide_eq_false e]
      by_cases g : b < m
      · rw [if_pos g, if_pos (by omega)]; rfl
      · rw [if_neg g, if_neg (by omega)]; rfl
theorem qn_le (p : Nat → Bool) : ∀ m, qn_c p m ≤ m
  | 0 => Nat.le_refl 0
  | m + 1 => by
    have := qn_le p m
    have : (p m).toNat ≤ 1 := Bool.toNat_le _
    rw [qn_s]
    omega
theorem qn_t {p : Nat → Bool} {m : Nat} (h : p m = true) : qn_c p (m + 1) = qn_c p m + 1 := by rw [qn_s, h]; rfl
theorem qn_f {p : Nat → Bool} {m : Nat} (h : p m = false) : qn_c p (m + 1) = qn_c p m := by rw [qn_s, h]; rfl
theorem qn_mo (p : Nat → Bool) {a b : Nat} (h : a ≤ b) : qn_c p a ≤ qn_c p b := by
  induction b with
  | zero => have : a = 0 := by omega
            rw [this]; exact Nat.le_refl _
  | succ b ih =>
    rcases Nat.lt_or_ge b a with z | z
    · have : a = b + 1 := by omega
      rw [this]; exact Nat.le_refl _
    · have := ih z
      rw [qn_s]
      omega
end
section
/-! pieces, their sides, the border columns -/
def qw_ps (x : Int32) : Nat → Nat
  | 0 => 0
  | i + 1 => qw_ps x i + (bt x i).toNat
def qw_pc (x : Int32) : Nat := qw_ps x 6
def qc_pe (x : Int32) : Prop := ∃ q : Nat, 1 ≤ q ∧ q < 64 ∧ x = nI q
theorem qf_1 : ∀ q, q < 64 → ∀ p, p < 6 → qw_cl (nI q) p = nI (qw_cl (nI q) p).toNatClampNeg ∧ (qw_cl (nI q) p).toNatClampNeg ≤ q := by decide +kernel
theorem qf_2 : ∀ q, q < 64 → ∀ p, p < 6 → bt (nI q) p = true → (qw_cl (nI q) p).toNatClampNeg < q := by decide +kernel
theorem qf_3 : ∀ q, q < 64 → ∀ p, p < 6 → bt (nI q) p = true → qw_pc (qw_cl (nI q) p) + 1 = qw_pc (nI q) := by decide +kernel
theorem qf_4 : ∀ q, q < 64 → 1 ≤ q → 1 ≤ qw_pc (nI q) := by decide +kernel
theorem qf_5 : ∀ q, q < 64 → ∀ p, p < 6 → bt (nI q) p = true → (qw_cl (nI q) p = 0 ↔ qw_pc (nI q) = 1) := by decide +kernel
theorem qf_6 : ∀ a, a < 64 → ∀ b, b < 64 → qw_pc (nI b) + 1 = qw_pc (nI a) → nI b &&& nI a = nI b → ∃ p, p < 6 ∧ bt (nI a) p = true ∧ nI b = qw_cl (nI a) p := by decide +kernel
theorem qc_pe0 {x : Int32} (h : qc_pe x) : x ≠ 0 := by
  obtain ⟨q, h1, h2, rfl⟩ := h
  exact nI_ne0 (by omega) (by omega)
theorem qc_pe1 {x : Int32} (h : qc_pe x) : 1 ≤ qw_pc x := by
  obtain ⟨q, h1, h2, rfl⟩ := h
  exact qf_4 q h2 h1
/-- a side of a piece that isn't empty is a piece, with one point less -/
theorem qc_pec {x : Int32} (h : qc_pe x) {p : Nat} (hp : p < 6) (h0 : qw_cl x p ≠ 0) : qc_pe (qw_cl x p) := by
  obtain ⟨q, h1, h2, rfl⟩ := h
  obtain ⟨e, g⟩ := qf_1 q h2 p hp
  refine ⟨_, ?_, ?_, e⟩
  · rcases Nat.eq_zero_or_pos (qw_cl (nI q) p).toNatClampNeg with z | z
    · rw [z, nI_0] at e
      exact absurd e h0
    · exact z
  · omega
theorem qc_pcs {x : Int32} (h : qc_pe x) {p : Nat} (hp : p < 6) (hb : bt x p = true) : qw_pc (qw_cl x p) + 1 = qw_pc x := by
  obtain ⟨q, h1, h2, rfl⟩ := h
  exact qf_3 q h2 p hp hb
theorem qc_cle {x : Int32} {p : Nat} (hp : p < 32) : qw_cl x p = x ↔ bt x p = false := by
  constructor
  · intro e
    have := qw_clb x hp p
    rw [e, decide_eq_true rfl, Bool.not_true, Bool.and_false] at this
    exact this
  · intro e
    apply b_ext
    intro j _
    rw [qw_clb x hp]
    by_cases g : j = p
    · subst g
      rw [e, Bool.false_and]
    · rw [decide_eq_false g, Bool.not_false, Bool.and_true]
/-- the reference's test of a side -/
def qc_if (x y : Int32) : Bool := decide (qw_pc y + 1 = qw_pc x) && decide (y &&& x = y)
theorem qc_ifp {x y : Int32} (hx : qc_pe x) (hy : qc_pe y) : qc_if x y = true ↔ ∃ p, p < 6 ∧ bt x p = true ∧ y = qw_cl x p := by
  unfold qc_if
  rw [Bool.and_eq_true, decide_eq_true_eq, decide_eq_true_eq]
  constructor
  · intro ⟨h1, h2⟩
    obtain ⟨a, _, ha, rfl⟩ := hx
    obtain ⟨b, _, hb, rfl⟩ := hy
    exact qf_6 a ha b hb h1 h2
  · intro ⟨p, hp, hb, e⟩
    subst e
    refine ⟨qc_pcs hx hp hb, ?_⟩
    apply b_ext
    intro j _
    rw [b_and, qw_clb x (by omega)]
    cases bt x j <;> cases decide (j = p) <;> rfl
def qc_ys (x : Int32) (L : Nat → Int32) : Nat → Int32
  | 0 => 0
  | j + 1 => if qc_if x (L j) = true then qc_ys x L j ||| ((1 : Int32) <<< (nI j &&& 31)) else qc_ys x L j
theorem qc_ysb (x : Int32) (L : Nat → Int32) : ∀ m, m ≤ 32 → ∀ j, bt (qc_ys x L m) j = (decide (j < m) && qc_if x (L j)) := by
  intro m
  induction m with
  | zero => intro _ j; rw [show qc_ys x L 0 = 0 from rfl, b_0, decide_eq_false (Nat.not_lt_zero j), Bool.false_and]
  | succ m ih =>
    intro hm j
    have ih := ih (by omega) j
    cases e : qc_if x (L m)
    · rw [show qc_ys x L (m + 1) = qc_ys x L m from if_neg (by rw [e]; exact Bool.false_ne_true), ih]
      by_cases g : j = m
      · subst g
        rw [e, Bool.and_false, Bool.and_false]
      · rw [show decide (j < m) = decide (j < m + 1) from decide_eq_decide.mpr (by omega)]
    · rw [show qc_ys x L (m + 1) = qc_ys x L m ||| ((1 : Int32) <<< (nI m &&& 31)) from if_pos e, b_or, ih, qw_one (by omega)]
      by_cases g : j = m
      · subst g
        rw [e, decide_eq_true rfl, decide_eq_true (by omega : j < j + 1), Bool.or_true]
        rfl
      · rw [decide_eq_false g, Bool.or_false, show decide (j < m) = decide (j < m + 1) from decide_eq_decide.mpr (by omega)]
/-- the border column of piece i -/
def qc_sd (L : Nat → Int32) (i : Nat) : Int32 := qc_ys (L i) L i
def qc_dm (L : Nat → Int32) (i : Nat) : Nat := qw_pc (L i) - 1
/-- the first n of the list are a complex: pieces, different, the sides of each ahead of it -/
def qc_cx (L : Nat → Int32) (n : Nat) : Prop := ∀ i, i < n → qc_pe (L i) ∧ qw_pc (L i) ≤ 4 ∧ (∀ j, j < i → L j ≠ L i) ∧
  (∀ p, p < 6 → bt (L i) p = true → qw_cl (L i) p ≠ 0 → ∃ j, j < i ∧ L j = qw_cl (L i) p)
theorem qc_inj {L : Nat → Int32} {n : Nat} (hc : qc_cx L n) {i j : Nat} (hi : i < n) (hj : j < n) (e : L i = L j) : i = j := by
  rcases Nat.lt_trichotomy i j with z | z | z
  · exact absurd e ((hc j hj).2.2.1 i z)
  · exact z
  · exact absurd e.symm ((hc i hi).2.2.1 j z)
theorem qc_dms {L : Nat → Int32} {n : Nat} (hc : qc_cx L n) {i : Nat} (hi : i < n) : qw_pc (L i) = qc_dm L i + 1 := by
  have := qc_pe1 (hc i hi).1
  unfold qc_dm
  omega
theorem qc_dm3 {L : Nat → Int32} {n : Nat} (hc : qc_cx L n) {i : Nat} (hi : i < n) : qc_dm L i ≤ 3 := by
  have := (hc i hi).2.1
  unfold qc_dm
  omega
section
variable {L : Nat → Int32} {n : Nat}
theorem qc_ysd (hc : qc_cx L n) (hn : n ≤ 26) {i m : Nat} (hi : i < n) (h1 : i ≤ m) (h2 : m ≤ n) : qc_ys (L i) L m = qc_sd L i := by
  apply b_ext
  intro j _
  unfold qc_sd
  rw [qc_ysb _ _ m (by omega), qc_ysb _ _ i (by omega)]
  by_cases g : j < i
  · rw [decide_eq_true g, decide_eq_true (by omega : j < m)]
  · rw [decide_eq_false g, Bool.false_and]
    by_cases g2 : j < m
    · cases e : qc_if (L i) (L j)
      · rw [Bool.and_false]
      · obtain ⟨p, hp, hb, ee⟩ := (qc_ifp (hc i hi).1 (hc j (by omega)).1).mp e
        have h0 : qw_cl (L i) p ≠ 0 := by rw [← ee]; exact qc_pe0 (hc j (by omega)).1
        obtain ⟨j', hj', e'⟩ := (hc i hi).2.2.2 p hp hb h0
        have := qc_inj hc (i := j') (j := j) (by omega) (by omega) (by rw [e', ee])
        omega
    · rw [decide_eq_false g2, Bool.false_and]
theorem qc_sdb (hc : qc_cx L n) (hn : n ≤ 26) {i : Nat} (hi : i < n) (j : Nat) : bt (qc_sd L i) j = true ↔ j < i ∧ ∃ p, p < 6 ∧ bt (L i) p = true ∧ L j = qw_cl (L i) p := by
  unfold qc_sd
  rw [qc_ysb _ _ i (by omega), Bool.and_eq_true, decide_eq_true_eq]
  constructor
  · intro ⟨h1, h2⟩
    exact ⟨h1, (qc_ifp (hc i hi).1 (hc j (by omega)).1).mp h2⟩
  · intro ⟨h1, h2⟩
    exact ⟨h1, (qc_ifp (hc i hi).1 (hc j (by omega)).1).mpr h2⟩
theorem qc_sdd (hc : qc_cx L n) (hn : n ≤ 26) {i : Nat} (hi : i < n) {j : Nat} (h : bt (qc_sd L i) j = true) : j < i ∧ qc_dm L j + 1 = qc_dm L i := by
  obtain ⟨h1, p, hp, hb, e⟩ := (qc_sdb hc hn hi j).mp h
  refine ⟨h1, ?_⟩
  have e1 := qc_pcs (hc i hi).1 hp hb
  have e2 := qc_dms hc hi
  have e3 := qc_dms hc (i := j) (by omega)
  rw [← e] at e1
  omega
end
/-- the table of places -/
def qc_pl (L : Nat → Int32) (n : Nat) (pl : Nat → Int32) : Prop := ∀ q, q < 64 → (∃ j, j < n ∧ L j = nI q ∧ pl q = nI j) ∨ (pl q = -2 ∧ ∀ j, j < n → L j ≠ nI q)
section
variable {L pl : Nat → Int32} {n : Nat}
theorem qc_pla (hc : qc_cx L n) (hp : qc_pl L n pl) {j : Nat} (hj : j < n) : pl (L j).toNatClampNeg = nI j := by
  obtain ⟨q, h1, h2, e⟩ := (hc j hj).1
  rw [e, nI_clamp (by omega)]
  rcases hp q h2 with ⟨j', hj', e', g⟩ | ⟨_, g⟩
  · rw [g, qc_inj hc hj' hj (by rw [e', e])]
  · exact absurd e (g j hj)
/-- the component's fold over the six points -/
def qc_xo (x : Int32) (pl : Nat → Int32) : Nat → Int32
  | 0 => 0
  | p + 1 => if bt x p = true ∧ qw_cl x p ≠ 0 then qc_xo x pl p ||| ((1 : Int32) <<< (pl (qw_cl x p).toNatClampNeg &&& 31)) else qc_xo x pl p
def qc_ef (x : Int32) (pl : Nat → Int32) (p : Nat) : Int32 := if bt x p = true ∧ qw_cl x p ≠ 0 then (1 : Int32) <<< (pl (qw_cl x p).toNatClampNeg &&& 31) else 0
theorem qc_xob (hc : qc_cx L n) (hn : n ≤ 26) (hp : qc_pl L n pl) {i : Nat} (hi : i < n) : ∀ m, m ≤ 6 → ∀ j, bt (qc_xo (L i) pl m) j = true ↔
    (j < i ∧ ∃ p, p < m ∧ bt (L i) p = true ∧ qw_cl (L i) p ≠ 0 ∧ L j = qw_cl (L i) p) := by
  intro m
  induction m with
  | zero =>
    intro _ j
    rw [show qc_xo (L i) pl 0 = 0 from rfl, b_0]
    exact ⟨fun h => absurd h Bool.false_ne_true, fun ⟨_, p, h, _⟩ => absurd h (Nat.not_lt_zero p)⟩
  | succ m ih =>
    intro hm j
    have ih := ih (by omega) j
    by_cases c : bt (L i) m = true ∧ qw_cl (L i) m ≠ 0
    · obtain ⟨j0, hj0, e0⟩ := (hc i hi).2.2.2 m (by omega) c.1 c.2
      rw [show qc_xo (L i) pl (m + 1) = qc_xo (L i) pl m ||| ((1 : Int32) <<< (pl (qw_cl (L i) m).toNatClampNeg &&& 31)) from if_pos c,
        ← e0, qc_pla hc hp (by omega), b_or, qw_one (by omega), Bool.or_eq_true, ih, decide_eq_true_eq]
      constructor
      · rintro (⟨h1, p, h2, h3⟩ | h)
        · exact ⟨h1, p, by omega, h3⟩
        · subst h
          exact ⟨hj0, m, by omega, c.1, c.2, e0⟩
      · rintro ⟨h1, p, h2, h3, h4, h5⟩
        rcases Nat.lt_or_ge p m with z | z
        · exact Or.inl ⟨h1, p, z, h3, h4, h5⟩
        · have : p = m := by omega
          subst this
          exact Or.inr (qc_inj hc (by omega) (by omega) (by rw [h5, e0]))
    · rw [show qc_xo (L i) pl (m + 1) = qc_xo (L i) pl m from if_neg c, ih]
      constructor
      · rintro ⟨h1, p, h2, h3⟩
        exact ⟨h1, p, by omega, h3⟩
      · rintro ⟨h1, p, h2, h3, h4, h5⟩
        rcases Nat.lt_or_ge p m with z | z
        · exact ⟨h1, p, z, h3, h4, h5⟩
        · have : p = m := by omega
          subst this
          exact absurd ⟨h3, h4⟩ c
theorem qc_xosd (hc : qc_cx L n) (hn : n ≤ 26) (hp : qc_pl L n pl) {i : Nat} (hi : i < n) : qc_xo (L i) pl 6 = qc_sd L i := by
  apply b_ext
  intro j _
  rw [Bool.eq_iff_iff, qc_xob hc hn hp hi 6 (by omega), qc_sdb hc hn hi]
  constructor
  · rintro ⟨h1, p, h2, h3, _, h5⟩
    exact ⟨h1, p, h2, h3, h5⟩
  · rintro ⟨h1, p, h2, h3, h5⟩
    exact ⟨h1, p, h2, h3, by rw [← h5]; exact qc_pe0 (hc j (by omega)).1, h5⟩
theorem qc_xoxs (hc : qc_cx L n) (hn : n ≤ 26) (hp : qc_pl L n pl) {i : Nat} (hi : i < n) : ∀ m, m ≤ 6 → qc_xo (L i) pl m = qs_xs (qc_ef (L i) pl) m := by
  intro m
  induction m with
  | zero => intro _; rfl
  | succ m ih =>
    intro hm
    have ih := ih (by omega)
    show _ = qs_xs (qc_ef (L i) pl) m ^^^ qc_ef (L i) pl m
    by_cases c : bt (L i) m = true ∧ qw_cl (L i) m ≠ 0
    · obtain ⟨j0, hj0, e0⟩ := (hc i hi).2.2.2 m (by omega) c.1 c.2
      rw [show qc_xo (L i) pl (m + 1) = qc_xo (L i) pl m ||| ((1 : Int32) <<< (pl (qw_cl (L i) m).toNatClampNeg &&& 31)) from if_pos c,
        show qc_ef (L i) pl m = (1 : Int32) <<< (pl (qw_cl (L i) m).toNatClampNeg &&& 31) from if_pos c, ← ih,
        ← e0, qc_pla hc hp (by omega)]
      apply b_ext
      intro j _
      rw [b_or, b_xor, qw_one (by omega)]
      by_cases g : j = j0
      · subst g
        have : bt (qc_xo (L i) pl m) j = false := by
          cases e : bt (qc_xo (L i) pl m) j
          · rfl
          · obtain ⟨_, p, h2, h3, _, h5⟩ := (qc_xob hc hn hp hi m (by omega) j).mp e
            rw [e0] at h5
            have h6 := congrArg (fun z => bt z m) h5
            rw [qw_clb _ (by omega), qw_clb _ (by omega), c.1, decide_eq_true rfl, decide_eq_false (by omega : ¬ m = p)] at h6
            exact absurd h6 (by decide)
        rw [this, decide_eq_true rfl]
        rfl
      · rw [decide_eq_false g, Bool.or_false, Bool.xor_false]
    · rw [show qc_xo (L i) pl (m + 1) = qc_xo (L i) pl m from if_neg c, show qc_ef (L i) pl m = 0 from if_neg c, Int32.xor_zero, ih]
theorem qc_cl2 (x : Int32) (p q : Nat) : qw_cl (qw_cl x p) q = qw_cl (qw_cl x q) p := by
  unfold qw_cl
  rw [Int32.and_assoc, Int32.and_comm (((1 : Int32) <<< (nI p &&& 31)) ^^^ (-1)), ← Int32.and_assoc]
theorem qc_cl0 (q : Nat) : qw_cl 0 q = 0 := by
  unfold qw_cl
  exact Int32.zero_and
def qc_g (x : Int32) (pl : Nat → Int32) (p q : Nat) : Int32 :=
  if p ≠ q ∧ bt x p = true ∧ bt x q = true ∧ qw_cl (qw_cl x p) q ≠ 0 then (1 : Int32) <<< (pl (qw_cl (qw_cl x p) q).toNatClampNeg &&& 31) else 0
theorem qc_gs (x : Int32) (pl : Nat → Int32) (p q : Nat) : qc_g x pl p q = qc_g x pl q p := by
  unfold qc_g
  rw [qc_cl2 x q p]
  by_cases h : p ≠ q ∧ bt x p = true ∧ bt x q = true ∧ qw_cl (qw_cl x p) q ≠ 0
  · rw [if_pos h, if_pos ⟨fun e => h.1 e.symm, h.2.2.1, h.2.1, h.2.2.2⟩]
  · rw [if_neg h, if_neg (fun g => h ⟨fun e => g.1 e.symm, g.2.2.1, g.2.1, g.2.2.2⟩)]
/-- the border of a border is nothing -/
theorem qc_dd (hc : qc_cx L n) (hn : n ≤ 26) (hp : qc_pl L n pl) {i m : Nat} (hi : i < n) (hm : i ≤ m) : qc_bd (qc_sd L) (qc_sd L i) m = 0 := by
  rw [← qc_xosd hc hn hp hi, qc_xoxs hc hn hp hi 6 (Nat.le_refl 6), qc_bdxs]
  rw [qs_xsc (g := fun p => qs_xs (qc_g (L i) pl p) 6) 6 ?_]
  · exact qs_sym _ (qc_gs (L i) pl) (fun p => if_neg (fun h => h.1 rfl)) 6
  · intro p hp6
    by_cases c : bt (L i) p = true ∧ qw_cl (L i) p ≠ 0
    · obtain ⟨j0, hj0, e0⟩ := (hc i hi).2.2.2 p hp6 c.1 c.2
      rw [show qc_ef (L i) pl p = (1 : Int32) <<< (pl (qw_cl (L i) p).toNatClampNeg &&& 31) from if_pos c, ← e0, qc_pla hc hp (by omega),
        qc_bd1 _ (by omega) (by omega), ← qc_xosd hc hn hp (i := j0) (by omega), qc_xoxs hc hn hp (i := j0) (by omega) 6 (Nat.le_refl 6)]
      apply qs_xsc
      intro q hq
      unfold qc_ef qc_g
      rw [e0, qw_clb _ (by omega)]
      by_cases g : bt (L i) q = true ∧ q ≠ p
      · by_cases z : qw_cl (qw_cl (L i) p) q ≠ 0
        · rw [if_pos ⟨by rw [g.1, decide_eq_false g.2]; rfl, z⟩, if_pos ⟨fun e => g.2 e.symm, c.1, g.1, z⟩]
        · rw [if_neg (fun h => z h.2), if_neg (fun h => z h.2.2.2)]
      · rw [if_neg, if_neg]
        · exact fun h => g ⟨h.2.2.1, fun e => h.1 e.symm⟩
        · intro h
          have h1 := h.1
          rw [Bool.and_eq_true, Bool.not_eq_true', decide_eq_false_iff_not] at h1
          exact g h1
    · rw [show qc_ef (L i) pl p = 0 from if_neg c, qc_bd0]
      rw [qs_xsc (f := qc_g (L i) pl p) (g := fun _ => 0) 6 ?_, qs_xs0]
      intro q _
      refine if_neg (fun h => c ⟨h.2.1, fun e => h.2.2.2 ?_⟩)
      rw [e, qc_cl0]
end
end
section
/-! the reduced columns: what holds of the first s of them -/
def qv_mk (L c : Nat → Int32) (k : Nat) : Nat → Int32 := fun j => if qc_dm L j = k then c j else 0
theorem qv_mkt {L c : Nat → Int32} {k j : Nat} (h : qc_dm L j = k) : qv_mk L c k j = c j := if_pos h
theorem qv_mkf {L c : Nat → Int32} {k j : Nat} (h : ¬ qc_dm L j = k) : qv_mk L c k j = 0 := if_neg h
def qv_sv (L : Nat → Int32) (s : Nat) (C P K : Nat → Int32) : Prop :=
  (∀ i, i < s → qs_sp (qv_mk L C (qc_dm L i)) i (C i ^^^ qc_sd L i)) ∧
  (∀ i, i < s → ∀ j, bt (C i) j = true → j < i ∧ qc_dm L j + 1 = qc_dm L i) ∧
  (∀ i, i < s → ∀ l, qw_hi (C i) l → K l = nI i ∧ P i = nI l) ∧
  (∀ l, l < s → K l = -2 ∨ ∃ b, l < b ∧ b < s ∧ K l = nI b ∧ qw_hi (C b) l) ∧
  (∀ i, i < s → C i = 0 → P i = K i)
theorem qv_0 (L C P K : Nat → Int32) : qv_sv L 0 C P K :=
  ⟨fun i h => absurd h (Nat.not_lt_zero i), fun i h => absurd h (Nat.not_lt_zero i), fun i h => absurd h (Nat.not_lt_zero i), fun i h => absurd h (Nat.not_lt_zero i), fun i h => absurd h (Nat.not_lt_zero i)⟩
/-- the columns speak of the list below s alone -/
theorem qc_ysc {x : Int32} {L L' : Nat → Int32} : ∀ m, (∀ j, j < m → L j = L' j) → qc_ys x L m = qc_ys x L' m
  | 0, _ => rfl
  | m + 1, h => by
    show (if qc_if x (L m) = true then qc_ys x L m ||| _ else qc_ys x L m) = (if qc_if x (L' m) = true then qc_ys x L' m ||| _ else qc_ys x L' m)
    rw [qc_ysc m (fun j hj => h j (by omega)), h m (by omega)]
theorem qv_cg {L L' : Nat → Int32} {s : Nat} {C P K : Nat → Int32} (h : ∀ j, j < s → L j = L' j) (hv : qv_sv L s C P K) : qv_sv L' s C P K := by
  obtain ⟨h1, h2, h3, h4, h5⟩ := hv
  have hd : ∀ j, j < s → qc_dm L j = qc_dm L' j := fun j hj => by unfold qc_dm; rw [h j hj]
  have hs : ∀ j, j < s → qc_sd L j = qc_sd L' j := fun j hj => by
    unfold qc_sd
    rw [h j hj]
    exact qc_ysc j (fun i hi => h i (by omega))
  refine ⟨fun i hi => ?_, fun i hi j hj => ?_, h3, h4, h5⟩
  · rw [← hd i hi, ← hs i hi]
    refine qs_c (fun j hj => ?_) (h1 i hi)
    unfold qv_mk
    rw [hd j (by omega)]
  · have := h2 i hi j hj
    rw [← hd i hi, ← hd j (by omega)]
    exact this
section
variable {L C P K pl : Nat → Int32} {n s : Nat}
/-- the two spans are one -/
theorem qv_e1 (hv : qv_sv L s C P K) (k : Nat) : ∀ m, m ≤ s → ∀ w, qs_sp (qv_mk L C k) m w → qs_sp (qv_mk L (qc_sd L) k) m w := by
  intro m
  induction m with
  | zero => intro _ w hw; exact hw
  | succ m ih =>
    intro hm w hw
    refine qs_s (fun j hj => ?_) hw
    rcases Nat.lt_or_ge j m with z | z
    · exact qs_m (by omega : m ≤ m + 1) (ih (by omega) _ (qs_g z))
    · have : j = m := by omega
      subst this
      by_cases e : qc_dm L j = k
      · have h1 := hv.1 j (by omega)
        rw [e] at h1
        have h2 := qs_m (by omega : j ≤ j + 1) (ih (by omega) _ h1)
        have h3 : qs_sp (qv_mk L (qc_sd L) k) (j + 1) (qv_mk L (qc_sd L) k j) := qs_g (by omega)
        rw [qv_mkt e] at h3
        have h4 := qs_x h2 h3
        rw [qw_x1] at h4
        rw [qv_mkt e]
        exact h4
      · rw [qv_mkf e]
        exact qs_0 _ _
theorem qv_e2 (hv : qv_sv L s C P K) (k : Nat) {m : Nat} (hm : m ≤ s) {w : Int32} (hw : qs_sp (qv_mk L (qc_sd L) k) m w) : qs_sp (qv_mk L C k) m w := by
  refine qs_s (fun j hj => ?_) hw
  by_cases e : qc_dm L j = k
  · have h1 := hv.1 j (by omega)
    rw [e] at h1
    have h2 := qs_m (by omega : j ≤ m) h1
    have h3 : qs_sp (qv_mk L C k) m (qv_mk L C k j) := qs_g hj
    rw [qv_mkt e] at h3
    have h4 := qs_x h3 h2
    rw [qw_x2] at h4
    rw [qv_mkt e]
    exact h4
  · rw [qv_mkf e]
    exact qs_0 _ _
theorem qv_hk {k j l : Nat} (h : qw_hi (qv_mk L C k j) l) : qc_dm L j = k ∧ qw_hi (C j) l := by
  by_cases e : qc_dm L j = k
  · rw [qv_mkt e] at h
    exact ⟨e, h⟩
  · rw [qv_mkf e] at h
    have := h.1
    rw [b_0] at this
    exact absurd this Bool.false_ne_true
theorem qv_u (hs : s ≤ 26) (hv : qv_sv L s C P K) {a b l : Nat} (ha : a < s) (hb : b < s) (h1 : qw_hi (C a) l) (h2 : qw_hi (C b) l) : a = b := by
  have e1 := (hv.2.2.1 a ha l h1).1
  have e2 := (hv.2.2.1 b hb l h2).1
  rw [e1] at e2
  exact (nI_eq (by omega) (by omega)).mp e2
theorem qv_d (hs : s ≤ 26) (hv : qv_sv L s C P K) (k : Nat) {m : Nat} (hm : m ≤ s) : qs_d (qv_mk L C k) m :=
  fun a b ha hb _ h1 h2 => qv_u hs hv (by omega) (by omega) (qv_hk h1).2 (qv_hk h2).2
/-- a member of the span of the columns of dimension k has the top bit of one of them -/
theorem qv_l (hs : s ≤ 26) (hv : qv_sv L s C P K) {k m : Nat} (hm : m ≤ s) {w : Int32} (hw : qs_sp (qv_mk L C k) m w) {l : Nat} (h : qw_hi w l) : ∃ b, b < m ∧ qc_dm L b = k ∧ qw_hi (C b) l := by
  obtain ⟨b, l', hb, h1, h2⟩ := qs_l (qv_d hs hv k hm) hw (qw_nz h.1)
  have : l' = l := qw_hiu h2 h
  subst this
  exact ⟨b, hb, (qv_hk h1).1, (qv_hk h1).2⟩
/-- the rank grows at b just where the cut column isn't empty -/
theorem qv_i (hs : s ≤ 26) (hv : qv_sv L s C P K) {b f : Nat} (hb : b < s) (hf : f < 32) :
    qs_sp (fun j => qw_ct f (qv_mk L (qc_sd L) (qc_dm L b) j)) b (qw_ct f (qc_sd L b)) ↔ qw_ct f (C b) = 0 := by
  have h0 := hv.1 b hb
  constructor
  · intro h
    have h1 : qs_sp (fun j => qw_ct f (qv_mk L C (qc_dm L b) j)) b (qw_ct f (qc_sd L b)) := by
      refine qs_s (fun j hj => ?_) h
      exact qs_ct hf (qv_e2 hv _ (by omega) (qs_g hj))
    have h2 := qs_ct hf h0
    rw [qw_ctx hf] at h2
    have h3 := qs_x h2 h1
    rw [qw_x1] at h3
    apply Classical.byContradiction
    intro hz
    obtain ⟨j, l, hj, h4, h5⟩ := qs_l (qs_dct hf (qv_d hs hv _ (by omega))) h3 hz
    have := qv_u hs hv (by omega) hb (qv_hk (qw_hic hf h4).2).2 (qw_hic hf h5).2
    omega
  · intro h
    have h2 := qs_ct hf (qv_e1 hv _ b (by omega) _ h0)
    rw [qw_ctx hf, h, Int32.zero_xor] at h2
    exact h2
/-- what a column in work is: its bits are of one dimension below, it differs from the border by the span -/
def qv_w (L C : Nat → Int32) (i : Nat) (w : Int32) : Prop := qs_sp (qv_mk L C (qc_dm L i)) i (w ^^^ qc_sd L i) ∧ ∀ j, bt w j = true → j < i ∧ qc_dm L j + 1 = qc_dm L i
theorem qv_w0 (hc : qc_cx L n) (hn : n ≤ 26) {i : Nat} (hi : i < n) : qv_w L C i (qc_sd L i) := by
  refine ⟨?_, fun j hj => qc_sdd hc hn hi hj⟩
  rw [Int32.xor_self]
  exact qs_0 _ _
theorem qv_w1 (hv : qv_sv L s C P K) {w : Int32} (h : qv_w L C s w) {b l : Nat} (hb : b < s) (hl : qw_hi w l) (hbl : qw_hi (C b) l) :
    qv_w L C s (w ^^^ C b) ∧ ∀ j, l ≤ j → bt (w ^^^ C b) j = false := by
  have e1 := (h.2 l hl.1).2
  have e2 := (hv.2.1 b hb l hbl.1).2
  have e : qc_dm L b = qc_dm L s := by omega
  refine ⟨⟨?_, fun j hj => ?_⟩, fun j hj => ?_⟩
  · have h3 : qs_sp (qv_mk L C (qc_dm L s)) s (qv_mk L C (qc_dm L s) b) := qs_g hb
    rw [qv_mkt e] at h3
    have h4 := qs_x h.1 h3
    rw [qw_x4] at h4
    exact h4
  · rw [b_xor] at hj
    cases g : bt w j
    · rw [g, Bool.false_xor] at hj
      have := hv.2.1 b hb j hj
      omega
    · exact h.2 j g
  · rw [b_xor]
    rcases Nat.lt_or_ge l j with z | z
    · rw [hl.2 j z, hbl.2 j z]; rfl
    · have : j = l := by omega
      subst this
      rw [hl.1, hbl.1]; rfl
/-- the top bit of a column in work is of a piece whose own column is empty -/
theorem qv_z (hc : qc_cx L n) (hn : n ≤ 26) (hp : qc_pl L n pl) (hv : qv_sv L s C P K) {i : Nat} (hi : i < n) (his : i ≤ s) {w : Int32} (h : qv_w L C i w) {l : Nat} (hl : qw_hi w l) (hls : l < s) (hs : s ≤ 26) : C l = 0 := by
  obtain ⟨hli, hld⟩ := h.2 l hl.1
  have hb : qc_bd (qc_sd L) w n = 0 := by
    have h1 : qc_bd (qc_sd L) (w ^^^ qc_sd L i) n = 0 := by
      refine qs_i (S := fun w => qc_bd (qc_sd L) w n = 0) (qc_bd0 _ n) (fun a b ha hb => ?_) (fun j hj => ?_) (qv_e1 hv _ i his _ h.1)
      · try dsimp only at ha hb ⊢
        rw [qc_bdx, ha, hb, Int32.xor_zero]
      · try dsimp only
        by_cases e : qc_dm L j = qc_dm L i
        · rw [qv_mkt e]
          exact qc_dd hc hn hp (by omega) (by omega)
        · rw [qv_mkf e, qc_bd0]
    rw [qc_bdx, qc_dd hc hn hp hi (by omega), Int32.xor_zero] at h1
    exact h1
  rw [qc_bdh _ (l := l + 1) (fun j hj => hl.2 j hj) n (by omega), qc_bdt hl.1] at hb
  have hb := qw_x5 hb
  have h2 : ∀ m, m ≤ l → qs_sp (qv_mk L (qc_sd L) (qc_dm L l)) l (qc_bd (qc_sd L) w m) := by
    intro m
    induction m with
    | zero => intro _; exact qs_0 _ _
    | succ m ih =>
      intro hm
      have ih := ih (by omega)
      cases g : bt w m
      · rw [qc_bdf g]
        exact ih
      · rw [qc_bdt g]
        have e := (h.2 m g).2
        have h3 : qs_sp (qv_mk L (qc_sd L) (qc_dm L l)) l (qv_mk L (qc_sd L) (qc_dm L l) m) := qs_g (by omega)
        rw [qv_mkt (by omega)] at h3
        exact qs_x ih h3
  have h3 := h2 l (Nat.le_refl l)
  rw [hb] at h3
  have h4 := qs_x (hv.1 l hls) (qv_e2 hv _ (by omega) h3)
  rw [qw_x1] at h4
  apply Classical.byContradiction
  intro hz
  obtain ⟨m, hm⟩ := qw_hie hz
  obtain ⟨b, hb, _, h5⟩ := qv_l hs hv (by omega) h4 hm
  have := qv_u hs hv (by omega) hls h5 hm
  omega
/-- a solved column that isn't empty closes a piece whose own column is empty -/
theorem qv_zz (hc : qc_cx L n) (hn : n ≤ 26) (hp : qc_pl L n pl) (hv : qv_sv L s C P K) (hs : s ≤ n) {b l : Nat} (hb : b < s) (hl : qw_hi (C b) l) : C l = 0 ∧ l < b ∧ qc_dm L l + 1 = qc_dm L b := by
  have h := hv.2.1 b hb l hl.1
  exact ⟨qv_z hc hn hp hv (i := b) (by omega) (by omega) ⟨hv.1 b hb, hv.2.1 b hb⟩ hl (by omega) (by omega), h.1, h.2⟩
/-- one more column, empty -/
theorem qv_s0 (hv : qv_sv L s C P K) (hs : s < 26) (h : qv_w L C s 0) : qv_sv L (s + 1) (upd C s 0) (upd P s (-2)) (upd K s (-2)) := by
  obtain ⟨h1, h2, h3, h4, h5⟩ := hv
  have hm : ∀ k i, i ≤ s → ∀ w, qs_sp (qv_mk L C k) i w → qs_sp (qv_mk L (upd C s 0) k) i w := fun k i hi w hw => by
    refine qs_c (fun j hj => ?_) hw
    unfold qv_mk
    rw [pk_un (by omega : j ≠ s)]
  refine ⟨fun i hi => ?_, fun i hi j hj => ?_, fun i hi l hl => ?_, fun l hl => ?_, fun i hi e => ?_⟩
  · rcases Nat.lt_or_ge i s with z | z
    · rw [pk_un (by omega : i ≠ s)]
      exact hm _ i (by omega) _ (h1 i z)
    · have : i = s := by omega
      subst this
      rw [pk_us]
      exact hm _ i (by omega) _ h.1
  · rcases Nat.lt_or_ge i s with z | z
    · rw [pk_un (by omega : i ≠ s)] at hj
      exact h2 i z j hj
    · have : i = s := by omega
      subst this
      rw [pk_us, b_0] at hj
      exact absurd hj Bool.false_ne_true
  · rcases Nat.lt_or_ge i s with z | z
    · rw [pk_un (by omega : i ≠ s)] at hl
      have := (h2 i z l hl.1).1
      rw [pk_un (by omega : l ≠ s), pk_un (by omega : i ≠ s)]
      exact h3 i z l hl
    · have : i = s := by omega
      subst this
      rw [pk_us] at hl
      have := hl.1
      rw [b_0] at this
      exact absurd this Bool.false_ne_true
  · rcases Nat.lt_or_ge l s with z | z
    · rw [pk_un (by omega : l ≠ s)]
      rcases h4 l z with g | ⟨b, g1, g2, g3, g4⟩
      · exact Or.inl g
      · refine Or.inr ⟨b, g1, by omega, g3, ?_⟩
        rw [pk_un (by omega : b ≠ s)]
        exact g4
    · have : l = s := by omega
      subst this
      rw [pk_us]
      exact Or.inl rfl
  · rcases Nat.lt_or_ge i s with z | z
    · rw [pk_un (by omega : i ≠ s)] at e
      rw [pk_un (by omega : i ≠ s), pk_un (by omega : i ≠ s)]
      exact h5 i z e
    · have : i = s := by omega
      subst this
      rw [pk_us, pk_us]
/-- one more column, with top bit l that no other has -/
theorem qv_s1 (hc : qc_cx L n) (hn : n ≤ 26) (hp : qc_pl L n pl) (hv : qv_sv L s C P K) (hs : s < n) {w : Int32} (h : qv_w L C s w) {l : Nat} (hl : qw_hi w l) (hk : ¬ 0 ≤ K l) :
    qv_sv L (s + 1) (upd C s w) (upd (upd (upd P s (-2)) l (nI s)) s (nI l)) (upd (upd K s (-2)) l (nI s)) := by
  have hls := (h.2 l hl.1).1
  have hz := qv_z hc hn hp hv (i := s) hs (by omega) h hl hls (by omega)
  obtain ⟨h1, h2, h3, h4, h5⟩ := hv
  have hm : ∀ k i, i ≤ s → ∀ v, qs_sp (qv_mk L C k) i v → qs_sp (qv_mk L (upd C s w) k) i v := fun k i hi v hw => by
    refine qs_c (fun j hj => ?_) hw
    unfold qv_mk
    rw [pk_un (by omega : j ≠ s)]
  refine ⟨fun i hi => ?_, fun i hi j hj => ?_, fun i hi l' hl' => ?_, fun l' hl' => ?_, fun i hi e => ?_⟩
  · rcases Nat.lt_or_ge i s with z | z
    · rw [pk_un (by omega : i ≠ s)]
      exact hm _ i (by omega) _ (h1 i z)
    · have : i = s := by omega
      subst this
      rw [pk_us]
      exact hm _ i (by omega) _ h.1
  · rcases Nat.lt_or_ge i s with z | z
    · rw [pk_un (by omega : i ≠ s)] at hj
      exact h2 i z j hj
    · have : i = s := by omega
      subst this
      rw [pk_us] at hj
      exact h.2 j hj
  · rcases Nat.lt_or_ge i s with z | z
    · rw [pk_un (by omega : i ≠ s)] at hl'
      have g1 := (h2 i z l' hl'.1).1
      have g2 := h3 i z l' hl'
      have n1 : l' ≠ l := fun e => by
        subst e
        rw [g2.1] at hk
        exact hk (nI_pos' (by omega))
      have n2 : i ≠ l := fun e => by
        subst e
        have := hl'.1
        rw [hz, b_0] at this
        exact Bool.false_ne_true this
      rw [pk_un n1, pk_un (by omega : l' ≠ s), pk_un (by omega : i ≠ s), pk_un n2, pk_un (by omega : i ≠ s)]
      exact g2
    · have : i = s := by omega
      subst this
      rw [pk_us] at hl'
      have : l' = l := qw_hiu hl' hl
      subst this
      rw [pk_us, pk_us]
      exact ⟨rfl, rfl⟩
  · by_cases e : l' = l
    · subst e
      refine Or.inr ⟨s, hls, by omega, pk_us, ?_⟩
      rw [pk_us]
      exact hl
    · rw [pk_un e]
      rcases Nat.lt_or_ge l' s with z | z
      · rw [pk_un (by omega : l' ≠ s)]
        rcases h4 l' z with g | ⟨b, g1, g2, g3, g4⟩
        · exact Or.inl g
        · refine Or.inr ⟨b, g1, by omega, g3, ?_⟩
          rw [pk_un (by omega : b ≠ s)]
          exact g4
      · have : l' = s := by omega
        subst this
        rw [pk_us]
        exact Or.inl rfl
  · rcases Nat.lt_or_ge i s with z | z
    · rw [pk_un (by omega : i ≠ s)] at e
      rw [pk_un (by omega : i ≠ s)]
      by_cases g : i = l
      · subst g
        rw [pk_us, pk_us]
      · rw [pk_un g, pk_un g, pk_un (by omega : i ≠ s), pk_un (by omega : i ≠ s)]
        exact h5 i z e
    · have : i = s := by omega
      subst this
      rw [pk_us] at e
      exact absurd e (qw_nz hl.1)
end
end
section
/-! the plain law: ranks, living holes, partners -/
def qv_ta (L : Nat → Int32) (k t : Nat) : Nat := qn_c (fun b => decide (qc_dm L b = k)) t
def qv_rp (L C : Nat → Int32) (k f b : Nat) : Bool := decide (qc_dm L b = k) && decide (qw_ct f (C b) ≠ 0)
def qv_rk (L C : Nat → Int32) (k f t : Nat) : Nat := qn_c (qv_rp L C k f) t
def qv_cd (P : Nat → Int32) (j a : Nat) : Bool := decide (0 ≤ P a) && decide (P a < nI j)
def qv_lp (L C P : Nat → Int32) (k j a : Nat) : Bool := decide (qc_dm L a = k) && (decide (C a = 0) && !qv_cd P j a)
def qv_lv (L C P : Nat → Int32) (k j i : Nat) : Nat := qn_c (qv_lp L C P k j) i
theorem qv_n2 {b : Nat} (h : b < 2 ^ 31) : (-2 : Int32) ≠ nI b := fun e => by
  have h1 := nI_pos' h
  rw [← e] at h1
  exact absurd h1 (by decide)
theorem qv_cd2 {P : Nat → Int32} {j a : Nat} (h : P a = -2) : qv_cd P j a = false := by
  unfold qv_cd
  rw [h, decide_eq_false (by decide : ¬ (0 : Int32) ≤ -2), Bool.false_and]
theorem qv_cdn {P : Nat → Int32} {j a b : Nat} (h : P a = nI b) (hb : b < 2 ^ 31) (hj : j < 2 ^ 31) : qv_cd P j a = decide (b < j) := by
  unfold qv_cd
  rw [h, decide_eq_true (nI_pos' hb), Bool.true_and]
  exact decide_eq_decide.mpr (nI_ltI hb hj)
section
variable {L C P K pl : Nat → Int32} {n : Nat}
theorem qv_p0 (hv : qv_sv L n C P K) {i : Nat} (hi : i < n) (h : C i = 0) :
    (P i = -2 ∧ K i = -2) ∨ ∃ b, i < b ∧ b < n ∧ P i = nI b ∧ K i = nI b ∧ qw_hi (C b) i := by
  have e := hv.2.2.2.2 i hi h
  rcases hv.2.2.2.1 i hi with g | ⟨b, g1, g2, g3, g4⟩
  · exact Or.inl ⟨by rw [e, g], g⟩
  · exact Or.inr ⟨b, g1, g2, by rw [e, g3], g3, g4⟩
theorem qv_p1 (hc : qc_cx L n) (hn : n ≤ 26) (hp : qc_pl L n pl) (hv : qv_sv L n C P K) {i : Nat} (hi : i < n) (h : C i ≠ 0) :
    ∃ l, l < i ∧ qw_hi (C i) l ∧ P i = nI l ∧ K l = nI i ∧ P l = nI i ∧ C l = 0 ∧ qc_dm L l + 1 = qc_dm L i := by
  obtain ⟨l, hl⟩ := qw_hie h
  obtain ⟨h1, h2, h3⟩ := qv_zz hc hn hp hv (Nat.le_refl n) hi hl
  obtain ⟨h4, h5⟩ := hv.2.2.1 i hi l hl
  exact ⟨l, h2, hl, h5, h4, by rw [hv.2.2.2.2 l (by omega) h1, h4], h1, h3⟩
theorem qv_kb (hn : n ≤ 26) (hv : qv_sv L n C P K) {i b : Nat} (hi : i < n) (hb : b < n) : K i = nI b ↔ qw_hi (C b) i := by
  constructor
  · intro e
    rcases hv.2.2.2.1 i hi with g | ⟨b', g1, g2, g3, g4⟩
    · rw [g] at e
      exact absurd e (qv_n2 (by omega))
    · rw [e] at g3
      rw [(nI_eq (by omega) (by omega)).mp g3]
      exact g4
  · intro h
    exact (hv.2.2.1 b hb i h).1
theorem qv_dl (hc : qc_cx L n) (hn : n ≤ 26) (hp : qc_pl L n pl) (hv : qv_sv L n C P K) {i j : Nat} (hi : i < n) (hj : j ≤ n) (k : Nat) :
    qn_c (fun b => decide (qc_dm L b = k + 1) && decide (K i = nI b)) j = (decide (qc_dm L i = k) && (decide (C i = 0) && qv_cd P j i)).toNat := by
  rcases hv.2.2.2.1 i hi with g | ⟨b, g1, g2, g3, g4⟩
  · rw [qn_z j (fun b hb => by
      try dsimp only
      rw [g, decide_eq_false (qv_n2 (by omega : b < 2 ^ 31)), Bool.and_false])]
    by_cases e : C i = 0
    · have : P i = -2 := by rw [hv.2.2.2.2 i hi e, g]
      rw [qv_cd2 this, Bool.and_false, Bool.and_false]
      rfl
    · rw [decide_eq_false e, Bool.false_and, Bool.and_false]
      rfl
  · obtain ⟨z1, z2, z3⟩ := qv_zz hc hn hp hv (Nat.le_refl n) g2 g4
    have hP : P i = nI b := by rw [hv.2.2.2.2 i hi z1, g3]
    rw [qv_cdn hP (by omega) (by omega), decide_eq_true z1, Bool.true_and]
    by_cases e : qc_dm L i = k
    · rw [decide_eq_true e, Bool.true_and, qn_1 (b := b) j (fun c hc' => by
        try dsimp only
        by_cases q : c = b
        · subst q
          rw [decide_eq_true (by omega : qc_dm L c = k + 1), decide_eq_true g3, decide_eq_true rfl]
          rfl
        · have : ¬ K i = nI c := fun h => q (by
            rw [g3] at h
            exact ((nI_eq (by omega) (by omega)).mp h).symm)
          rw [decide_eq_false this, decide_eq_false q, Bool.and_false])]
      by_cases y : b < j
      · rw [if_pos y, decide_eq_true y]; rfl
      · rw [if_neg y, decide_eq_false y]; rfl
    · rw [decide_eq_false e, Bool.false_and, qn_z j (fun c hc' => by
        try dsimp only
        by_cases q : c = b
        · subst q
          rw [decide_eq_false (by omega : ¬ qc_dm L c = k + 1), Bool.false_and]
        · have : ¬ K i = nI c := fun h => q (by
            rw [g3] at h
            exact ((nI_eq (by omega) (by omega)).mp h).symm)
          rw [decide_eq_false this, Bool.and_false])]
      rfl
theorem qv_rs (hc : qc_cx L n) (hn : n ≤ 26) (hp : qc_pl L n pl) (hv : qv_sv L n C P K) {i j : Nat} (hi : i < n) (hj : j ≤ n) (k : Nat) :
    qv_rk L C (k + 1) i j = qv_rk L C (k + 1) (i + 1) j + (decide (qc_dm L i = k) && (decide (C i = 0) && qv_cd P j i)).toNat := by
  rw [← qv_dl hc hn hp hv hi hj k]
  refine qn_ca j (fun b hb => ?_)
  unfold qv_rp
  by_cases e : qc_dm L b = k + 1
  · rw [decide_eq_true e, Bool.true_and, Bool.true_and, Bool.true_and]
    have hkb := qv_kb hn hv hi (by omega : b < n)
    by_cases z : C b = 0
    · have h1 : ¬ K i = nI b := fun h => qw_nz (hkb.mp h).1 z
      rw [z, qw_ct0 (by omega), qw_ct0 (by omega), decide_eq_false h1]
      rfl
    · obtain ⟨l, hl⟩ := qw_hie z
      have h1 := qw_ctn (f := i) (by omega) hl
      have h2 := qw_ctn (f := i + 1) (by omega) hl
      have h3 : K i = nI b ↔ l = i := by
        rw [hkb]
        exact ⟨fun h => qw_hiu hl h, fun h => by rw [← h]; exact hl⟩
      rcases Nat.lt_trichotomy l i with y | y | y
      · have a1 : ¬ (qw_ct i (C b) ≠ 0) := fun h => h (h1.mpr y)
        have a2 : ¬ (qw_ct (i + 1) (C b) ≠ 0) := fun h => h (h2.mpr (by omega))
        have a3 : ¬ (K i = nI b) := fun h => by have := h3.mp h; omega
        rw [decide_eq_false a1, decide_eq_false a2, decide_eq_false a3]
        rfl
      · have a1 : qw_ct i (C b) ≠ 0 := fun h => by have := h1.mp h; omega
        have a2 : ¬ (qw_ct (i + 1) (C b) ≠ 0) := fun h => h (h2.mpr (by omega))
        rw [decide_eq_true a1, decide_eq_false a2, decide_eq_true (h3.mpr y)]
        rfl
      · have a1 : qw_ct i (C b) ≠ 0 := fun h => by have := h1.mp h; omega
        have a2 : qw_ct (i + 1) (C b) ≠ 0 := fun h => by have := h2.mp h; omega
        have a3 : ¬ (K i = nI b) := fun h => by have := h3.mp h; omega
        rw [decide_eq_true a1, decide_eq_true a2, decide_eq_false a3]
        rfl
  · rw [decide_eq_false e, Bool.false_and, Bool.false_and, Bool.false_and]
    rfl
/-- the reference's 'last' counts the living holes -/
theorem qv_last (hc : qc_cx L n) (hn : n ≤ 26) (hp : qc_pl L n pl) (hv : qv_sv L n C P K) {j : Nat} (hj : j ≤ n) (k : Nat) : ∀ i, i ≤ n →
    qv_ta L k i + qv_rk L C (k + 1) i j = qv_lv L C P k j i + qv_rk L C k 0 i + qv_rk L C (k + 1) 0 j := by
  intro i
  induction i with
  | zero =>
    intro _
    show 0 + _ = 0 + 0 + _
    omega
  | succ i ih =>
    intro hi
    have ih := ih (by omega)
    have e1 : qv_ta L k (i + 1) = qv_ta L k i + (decide (qc_dm L i = k)).toNat := rfl
    have e2 : qv_rk L C k 0 (i + 1) = qv_rk L C k 0 i + (decide (qc_dm L i = k) && decide (qw_ct 0 (C i) ≠ 0)).toNat := rfl
    have e3 : qv_lv L C P k j (i + 1) = qv_lv L C P k j i + (decide (qc_dm L i = k) && (decide (C i = 0) && !qv_cd P j i)).toNat := rfl
    have e4 := qv_rs hc hn hp hv (i := i) (by omega) hj k
    have e5 : (decide (qc_dm L i = k)).toNat = (decide (qc_dm L i = k) && (decide (C i = 0) && !qv_cd P j i)).toNat + (decide (qc_dm L i = k) && decide (qw_ct 0 (C i) ≠ 0)).toNat + (decide (qc_dm L i = k) && (decide (C i = 0) && qv_cd P j i)).toNat := by
      rw [qw_ctz]
      by_cases z : C i = 0
      · have a1 : ¬ (C i ≠ 0) := fun h => h z
        rw [decide_eq_true z, decide_eq_false a1]
        cases decide (qc_dm L i = k) <;> cases qv_cd P j i <;> rfl
      · have a1 : C i ≠ 0 := z
        rw [decide_eq_false z, decide_eq_true a1]
        cases decide (qc_dm L i = k) <;> cases qv_cd P j i <;> rfl
    omega
/-- piece i makes a hole just if its column is empty -/
theorem qv_op (hn : n ≤ 26) (hv : qv_sv L n C P K) {i : Nat} (hi : i < n) :
    qv_lv L C P (qc_dm L i) (i + 1) (i + 1) = qv_lv L C P (qc_dm L i) i i + (decide (C i = 0)).toNat := by
  have e1 : qv_lv L C P (qc_dm L i) (i + 1) (i + 1) = qv_lv L C P (qc_dm L i) (i + 1) i + (qv_lp L C P (qc_dm L i) (i + 1) i).toNat := rfl
  have e2 : qv_lp L C P (qc_dm L i) (i + 1) i = decide (C i = 0) := by
    unfold qv_lp
    rw [decide_eq_true rfl, Bool.true_and]
    by_cases z : C i = 0
    · rw [decide_eq_true z, Bool.true_and]
      rcases qv_p0 hv hi z with ⟨h, _⟩ | ⟨b, h1, h2, h3, _⟩
      · rw [qv_cd2 h]; rfl
      · rw [qv_cdn h3 (by omega) (by omega), decide_eq_false (by omega)]; rfl
    · rw [decide_eq_false z, Bool.false_and]
  have e3 : qv_lv L C P (qc_dm L i) (i + 1) i = qv_lv L C P (qc_dm L i) i i := by
    refine qn_cc i (fun a ha => ?_)
    unfold qv_lp
    by_cases d : qc_dm L a = qc_dm L i
    · by_cases z : C a = 0
      · rcases qv_p0 hv (by omega : a < n) z with ⟨h, _⟩ | ⟨b, h1, h2, h3, _, h4⟩
        · rw [qv_cd2 h, qv_cd2 h]
        · have h5 := (hv.2.1 b h2 a h4.1).2
          have : b ≠ i := fun e => by subst e; omega
          rw [qv_cdn h3 (by omega) (by omega), qv_cdn h3 (by omega) (by omega), show decide (b < i + 1) = decide (b < i) from decide_eq_decide.mpr (by omega)]
      · rw [decide_eq_false z, Bool.false_and, Bool.false_and]
    · rw [decide_eq_false d, Bool.false_and, Bool.false_and]
  rw [e1, e2, e3]
/-- i and j are partners just if the count of the four says so -/
theorem qv_pa (hn : n ≤ 26) (hv : qv_sv L n C P K) {i j : Nat} (hi : i < n) (hj : j < n) :
    (((nI (qv_lv L C P (qc_dm L i) j (i + 1)) - nI (qv_lv L C P (qc_dm L i) (j + 1) (i + 1))) - nI (qv_lv L C P (qc_dm L i) j i)) + nI (qv_lv L C P (qc_dm L i) (j + 1) i)) = 1 ↔ (C i = 0 ∧ P i = nI j) := by
  have e1 : qv_lv L C P (qc_dm L i) j (i + 1) = qv_lv L C P (qc_dm L i) j i + (qv_lp L C P (qc_dm L i) j i).toNat := rfl
  have e2 : qv_lv L C P (qc_dm L i) (j + 1) (i + 1) = qv_lv L C P (qc_dm L i) (j + 1) i + (qv_lp L C P (qc_dm L i) (j + 1) i).toNat := rfl
  have e3 : ∀ a b c d : Nat, (((nI (a + c) - nI (b + d)) - nI a) + nI b) = nI c - nI d := fun a b c d => by
    rw [← nI_add, ← nI_add]
    grind
  rw [e1, e2, e3]
  unfold qv_lp
  rw [decide_eq_true rfl, Bool.true_and, Bool.true_and]
  by_cases z : C i = 0
  · rw [decide_eq_true z, Bool.true_and, Bool.true_and]
    rcases qv_p0 hv hi z with ⟨h, _⟩ | ⟨b, h1, h2, h3, _⟩
    · rw [qv_cd2 h, qv_cd2 h]
      constructor
      · intro g
        exact absurd g (by decide)
      · rintro ⟨_, g⟩
        rw [h] at g
        exact absurd g (qv_n2 (by omega))
    · rw [qv_cdn h3 (by omega) (by omega), qv_cdn h3 (by omega) (by omega), h3, nI_eq (by omega) (by omega)]
      rcases Nat.lt_trichotomy b j with y | y | y
      · rw [decide_eq_true y, decide_eq_true (by omega : b < j + 1)]
        exact ⟨fun g => absurd g (by decide), fun g => absurd g.2 (by omega)⟩
      · rw [decide_eq_false (by omega : ¬ b < j), decide_eq_true (by omega : b < j + 1)]
        exact ⟨fun _ => ⟨z, y⟩, fun _ => by decide⟩
      · rw [decide_eq_false (by omega : ¬ b < j), decide_eq_false (by omega : ¬ b < j + 1)]
        exact ⟨fun g => absurd g (by decide), fun g => absurd g.2 (by omega)⟩
  · rw [decide_eq_false z, Bool.false_and, Bool.false_and]
    exact ⟨fun g => absurd g (by decide), fun g => absurd g.1 z⟩
end
end
section
/-! the reference's small methods -/
theorem qw_psn (x : Int32) {i : Nat} (hi : i < 32) : nI (qw_ps x i) + ((x >>> (nI i &&& 31)) &&& 1) = nI (qw_ps x (i + 1)) := by
  rw [qw_bit x hi, show qw_ps x (i + 1) = qw_ps x i + (bt x i).toNat from rfl]
  cases bt x i
  · rw [if_neg Bool.false_ne_true, Int32.add_zero]; rfl
  · rw [if_pos rfl, nI_1]; rfl
theorem qw_psl (x : Int32) : ∀ i, qw_ps x i ≤ i
  | 0 => Nat.le_refl 0
  | i + 1 => by
    have := qw_psl x i
    have : (bt x i).toNat ≤ 1 := Bool.toNat_le _
    show qw_ps x i + (bt x i).toNat ≤ i + 1
    omega
theorem qw_pc6 (x : Int32) : qw_pc x ≤ 6 := qw_psl x 6
theorem qy_pts {post : Int32 → Prop} {x c : Int32} {a b : Nat → Int32} (h : post (nI (qw_pc x))) :
    ∀ d i, i + d = 6 → wY_points_4 post x c a b (d + 1) (nI (qw_ps x i)) (nI i) := by
  intro d
  induction d with
  | zero =>
    intro i hi
    have : i = 6 := by omega
    subst this
    exact br_t (nI_le (a := 6) (by omega) (by omega)) h
  | succ d ih =>
    intro i hi
    exact br_f (nI_ge (b := 6) (by omega) (by omega)) (nm_r (qw_psn x (by omega)) (nm_r (nI_1 i) (ih (i + 1) (by omega))))
theorem qy_points {post : Int32 → Prop} {x c : Int32} {a b : Nat → Int32} (h : post (nI (qw_pc x))) : wpY_points post (c, a, b) x :=
  ⟨7, qy_pts h 6 0 rfl⟩
section
variable {L col : Nat → Int32} {n : Nat}
theorem qy_dim (hc : qc_cx L n) (hn : n ≤ 26) {i : Nat} (hi : i < n) {c : Int32} {post : Int32 → Prop} (h : post (nI (qc_dm L i))) : wpY_dimension post (c, L, col) (nI i) := by
  refine And.intro (vp_in_nI (by omega) (by omega)) ?_
  rw [nI_clamp (by omega)]
  refine qy_points ?_
  rw [qc_dms hc hi, nI_pred]
  exact h
theorem qy_fnd (hn : n ≤ 26) {x : Int32} {post : Int32 → Prop} (h1 : ∀ j, j < n → L j = x → post (nI j)) (h2 : (∀ j, j < n → L j ≠ x) → post (-1)) :
    ∀ d i, i + d = n → (∀ j, j < i → L j ≠ x) → wY_find_2 post x (nI n) L col (d + 1) (nI i) := by
  intro d
  induction d with
  | zero =>
    intro i hi hl
    have : i = n := by omega
    subst this
    exact br_t (nI_le (by omega) (by omega)) (h2 hl)
  | succ d ih =>
    intro i hi hl
    refine br_f (nI_ge (by omega) (by omega)) (br_f (nI_ge (b := 26) (by omega) (by omega)) (And.intro (vp_in_nI (by omega) (by omega)) ?_))
    rw [nI_clamp (by omega)]
    refine br_c (fun e => h1 i (by omega) e) (fun e => nm_r (nI_1 i) (ih (i + 1) (by omega) (fun j hj => ?_)))
    rcases Nat.lt_or_ge j i with z | z
    · exact hl j z
    · have : j = i := by omega
      subst this
      exact e
theorem qy_find (hn : n ≤ 26) {x : Int32} {post : Int32 → Prop} (h1 : ∀ j, j < n → L j = x → post (nI j)) (h2 : (∀ j, j < n → L j ≠ x) → post (-1)) : wpY_find post (nI n, L, col) x :=
  ⟨n + 1, qy_fnd hn h1 h2 n 0 (by omega) (fun j hj => absurd hj (Nat.not_lt_zero j))⟩
/-- a piece that may come in -/
def qc_ok (x : Int32) : Prop := qc_pe x ∧ qw_pc x ≤ 4
theorem qc_pei {x : Int32} (h1 : ¬ x < 1) (h2 : ¬ 63 < x) : qc_pe x := by
  have e0 : (0 : Int32).toInt = 0 := by decide
  have e1 : (1 : Int32).toInt = 1 := by decide
  have e63 : (63 : Int32).toInt = 63 := by decide
  have h0 : ¬ x < 0 := by
    rw [Int32.lt_iff_toInt_lt] at h1 ⊢
    omega
  obtain ⟨q, hq, rfl⟩ := nI_of h0
  rw [Int32.lt_iff_toInt_lt, nI_toInt hq] at h1 h2
  exact ⟨q, by omega, by omega, rfl⟩
theorem qc_pe1' {x : Int32} (h : qc_pe x) : ¬ x < 1 ∧ ¬ 63 < x := by
  obtain ⟨q, h1, h2, rfl⟩ := h
  exact ⟨nI_nlt (b := 1) (by omega) (by omega), nI_nlt (a := 63) (by omega) (by omega)⟩
theorem qy_badp {x c : Int32} {a b : Nat → Int32} {post : Int32 → Prop} (h0 : qc_ok x → post 0) (h1 : ¬ qc_ok x → post 1) : wpY_badPiece post (c, a, b) x := by
  by_cases a1 : x < 1
  · exact br_t a1 (h1 (fun h => (qc_pe1' h.1).1 a1))
  · refine br_f a1 ?_
    by_cases a2 : 63 < x
    · exact br_t a2 (h1 (fun h => (qc_pe1' h.1).2 a2))
    · refine br_f a2 (qy_points ?_)
      have := qw_pc6 x
      exact pk_le (qw_pc x) 4 (fun h => h0 ⟨qc_pei a1 a2, h⟩) (fun h => h1 (fun g => by have := g.2; omega))
/-- all sides are there -/
def qc_so (L : Nat → Int32) (n : Nat) (x : Int32) : Prop := ∀ p, p < 6 → bt x p = true → qw_cl x p ≠ 0 → ∃ j, j < n ∧ L j = qw_cl x p
theorem qy_sth1 (hn : n ≤ 26) {x : Int32} {post : Int32 → Prop} (hx : ∀ p, p < 6 → bt x p = true → qw_cl x p ≠ 0) (h1 : qc_so L n x → post 1) (h0 : ¬ qc_so L n x → post 0) :
    ∀ d i, i + d = 6 → (∀ p, p < i → bt x p = true → ∃ j, j < n ∧ L j = qw_cl x p) → wY_sidesThere_13 post x (nI n) L col (d + 1) (nI i) := by
  intro d
  induction d with
  | zero =>
    intro i hi hl
    have : i = 6 := by omega
    subst this
    exact br_t (nI_le (a := 6) (by omega) (by omega)) (h1 (fun p hp hb _ => hl p hp hb))
  | succ d ih =>
    intro i hi hl
    refine br_f (nI_ge (b := 6) (by omega) (by omega)) ?_
    cases g : bt x i
    · refine br_f (fun e => ?_) (nm_r (nI_1 i) (ih (i + 1) (by omega) (fun p hp hb => ?_)))
      · rw [qw_t x (by omega), g] at e
        exact Bool.false_ne_true e
      · rcases Nat.lt_or_ge p i with z | z
        · exact hl p z hb
        · have : p = i := by omega
          subst this
          rw [g] at hb
          exact absurd hb Bool.false_ne_true
    · refine br_t ((qw_t x (by omega)).mpr g) (qy_find hn (fun j hj e => ?_) (fun e => ?_))
      · refine br_t (nI_pos' (by omega)) (nm_r (nI_1 i) (ih (i + 1) (by omega) (fun p hp hb => ?_)))
        rcases Nat.lt_or_ge p i with z | z
        · exact hl p z hb
        · have : p = i := by omega
          subst this
          exact ⟨j, hj, e⟩
      · refine br_f (by decide) (h0 (fun h => ?_))
        obtain ⟨j, hj, e'⟩ := h i (by omega) g (hx i (by omega) g)
        exact e j hj e'
theorem qy_sth (hn : n ≤ 26) {x : Int32} {post : Int32 → Prop} (hx : qc_pe x) (h1 : qc_so L n x → post 1) (h0 : ¬ qc_so L n x → post 0) : wpY_sidesThere post (nI n, L, col) x := by
  refine qy_points ?_
  have h6 := qw_pc6 x
  refine pk_eq (qw_pc x) 1 (fun h => h1 (fun p hp hb hz => ?_)) (fun h => ⟨7, qy_sth1 hn (fun p hp hb => ?_) h1 h0 6 0 rfl (fun p hp => absurd hp (Nat.not_lt_zero p))⟩)
  · obtain ⟨q, _, hq, rfl⟩ := hx
    exact absurd ((qf_5 q hq p hp hb).mpr h) hz
  · obtain ⟨q, _, hq, rfl⟩ := hx
    exact fun e => h ((qf_5 q hq p hp hb).mp e)
theorem qc_sd0 (hc : qc_cx L n) (hn : n ≤ 26) {i : Nat} (hi : i < n) (h : qc_dm L i = 0) : qc_sd L i = 0 := by
  apply b_ext
  intro j _
  rw [b_0]
  cases e : bt (qc_sd L i) j
  · rfl
  · have := (qc_sdd hc hn hi e).2
    omega
theorem qy_sds (hc : qc_cx L n) (hn : n ≤ 26) {i : Nat} (hi : i < n) (h1 : 1 ≤ qc_dm L i) {post : Int32 → Prop} (h : post (qc_sd L i)) :
    ∀ d j, j + d = n → wY_sides_14 post (nI i) (nI n) L col (d + 1) (qc_ys (L i) L j) (nI j) := by
  intro d
  induction d with
  | zero =>
    intro j hj
    have : j = n := by omega
    subst this
    refine br_t (nI_le (by omega) (by omega)) ?_
    rw [qc_ysd hc hn hi (by omega) (by omega)]
    exact h
  | succ d ih =>
    intro j hj
    have hd1 := qc_dm3 hc hi
    have hd2 := qc_dm3 hc (i := j) (by omega)
    have hp1 := qc_dms hc hi
    have hp2 := qc_dms hc (i := j) (by omega)
    have ex : nI (qc_dm L i) - 1 = nI (qc_dm L i - 1) := by
      obtain ⟨m, hm⟩ : ∃ m, qc_dm L i = m + 1 := ⟨qc_dm L i - 1, by omega⟩
      rw [hm, nI_pred]
      rfl
    have ih := ih (j + 1) (by omega)
    refine br_f (nI_ge (by omega) (by omega)) (br_f (nI_ge (b := 26) (by omega) (by omega)) (qy_dim hc hn (i := j) (by omega) (qy_dim hc hn hi ?_)))
    refine pk_eq (qc_dm L j) (qc_dm L i - 1) (fun e => And.intro (vp_in_nI (by omega) (by omega)) (And.intro (vp_in_nI (by omega) (by omega)) (And.intro (vp_in_nI (by omega) (by omega)) ?_))) (fun e => nm_r (nI_1 j) ?_) rfl ex
    · rw [nI_clamp (by omega), nI_clamp (by omega)]
      by_cases g : L j &&& L i = L j
      · refine br_t g (nm_r ?_ (nm_r (nI_1 j) ih))
        exact (if_pos (by unfold qc_if; rw [decide_eq_true g, decide_eq_true (by omega)]; rfl) : qc_ys (L i) L (j + 1) = _).symm
      · refine br_f g (nm_r (nI_1 j) ?_)
        rw [show qc_ys (L i) L (j + 1) = qc_ys (L i) L j from if_neg (by unfold qc_if; rw [decide_eq_false g, Bool.and_false]; exact Bool.false_ne_true)] at ih
        exact ih
    · rw [show qc_ys (L i) L (j + 1) = qc_ys (L i) L j from if_neg (by unfold qc_if; rw [decide_eq_false (by omega), Bool.false_and]; exact Bool.false_ne_true)] at ih
      exact ih
theorem qy_sides (hc : qc_cx L n) (hn : n ≤ 26) {i : Nat} (hi : i < n) {post : Int32 → Prop} (h : post (qc_sd L i)) : wpY_sides post (nI n, L, col) (nI i) := by
  unfold wpY_sides
  dsimp only
  refine qy_dim hc hn hi ?_
  have hd1 := qc_dm3 hc hi
  refine pk_eq (qc_dm L i) 0 (fun e => ?_) (fun e => ⟨n + 1, qy_sds hc hn hi (by omega) h n 0 (by omega)⟩)
  rw [qc_sd0 hc hn hi e] at h
  exact h
theorem qy_tal (hc : qc_cx L n) (hn : n ≤ 26) {t k : Nat} (ht : t ≤ n) (hk : k < 2 ^ 31) {post : Int32 → Prop} (h : post (nI (qv_ta L k t))) :
    ∀ d i, i + d = t → wY_tally_5 post (nI t) (nI k) (nI n) L col (d + 1) (nI (qv_ta L k i)) (nI i) := by
  intro d
  induction d with
  | zero =>
    intro i hi
    have : i = t := by omega
    subst this
    exact br_t (nI_le (by omega) (by omega)) h
  | succ d ih =>
    intro i hi
    have hd1 := qc_dm3 hc (i := i) (by omega)
    have ih := ih (i + 1) (by omega)
    refine br_f (nI_ge (by omega) (by omega)) (br_f (nI_ge (b := 26) (by omega) (by omega)) (qy_dim hc hn (i := i) (by omega) ?_))
    refine pk_eq (qc_dm L i) k (fun e => nm_r (nI_1 _) (nm_r (nI_1 i) ?_)) (fun e => nm_r (nI_1 i) ?_)
    · rw [show qv_ta L k (i + 1) = qv_ta L k i + 1 from qn_t (decide_eq_true e)] at ih
      exact ih
    · rw [show qv_ta L k (i + 1) = qv_ta L k i from qn_f (decide_eq_false e)] at ih
      exact ih
theorem qy_tally (hc : qc_cx L n) (hn : n ≤ 26) {t k : Nat} (ht : t ≤ n) (hk : k < 2 ^ 31) {post : Int32 → Prop} (h : post (nI (qv_ta L k t))) : wpY_tally post (nI n, L, col) (nI t) (nI k) :=
  ⟨t + 1, qy_tal hc hn ht hk h t 0 (by omega)⟩
end
end
section
/-! the reference's rank and what rests on it -/
section
variable {L C P K pl : Nat → Int32} {n : Nat}
/-- one row's elimination -/
theorem qy_el {post : Int32 → SY → Prop} {J : Int32 → Int32 → (Nat → Int32) → (Nat → Int32) → Prop} {a1 a2 a3 : Int32} {i R : Nat} {fc : Int32} {col : Nat → Int32} {w0 : Int32}
    (hR : R < 26) (hri : qs_ri col R) (hz : qs_sp col R w0 → J (nI R) (nI (i + 1)) L col)
    (hnz : ∀ w, w ≠ 0 → qs_sp col R (w ^^^ w0) → qs_pz col R w → J (nI (R + 1)) (nI (i + 1)) L (upd col R w)) :
    ∀ d r w, r + d = R → qs_sp col R (w ^^^ w0) → qs_pz col r w → wY_rank_44 post J a1 a2 a3 (nI R) (nI i) fc L col (d + 1) w (nI r) := by
  intro d
  induction d with
  | zero =>
    intro r w hr hs hp
    have : r = R := by omega
    subst this
    refine br_t (nI_le (by omega) (by omega)) ?_
    by_cases e : w = 0
    · refine br_t e (nm_r (nI_1 i) (hz ?_))
      rw [e, Int32.zero_xor] at hs
      exact hs
    · refine br_f e (And.intro (vp_in_nI (by omega) (by omega)) ?_)
      rw [nI_clamp (by omega)]
      exact nm_e (nm_r (nI_1 r) (nm_r (nI_1 i) (hnz w e hs hp)))
  | succ d ih =>
    intro r w hr hs hp
    refine br_f (nI_ge (by omega) (by omega)) (And.intro (vp_in_nI (by omega) (by omega)) (And.intro (vp_in_nI (by omega) (by omega)) ?_))
    rw [nI_clamp (by omega)]
    have h1 := qs_pz1 hri (by omega : r < R) hp
    refine nm_e (br_c (fun e => nm_r (nI_1 r) (ih (r + 1) w (by omega) hs (h1.1 e))) (fun e => And.intro (vp_in_nI (by omega) (by omega)) (nm_e (nm_r (nI_1 r) (ih (r + 1) _ (by omega) ?_ (h1.2 e))))))
    have h2 := qs_x hs (qs_g (c := col) (by omega : r < R))
    rw [qw_x4] at h2
    exact h2
def qy_gn (L : Nat → Int32) (k f : Nat) : Nat → Int32 := fun j => qw_ct f (qv_mk L (qc_sd L) k j)
theorem qy_rk1 (hc : qc_cx L n) (hn : n ≤ 26) (hv : qv_sv L n C P K) {t k f : Nat} (ht : t ≤ n) (hf : f ≤ 26) (hk : k < 2 ^ 31) {post : Int32 → SY → Prop}
    (h : ∀ col, qs_ri col (qv_rk L C k f t) → (∀ w, qs_sp col (qv_rk L C k f t) w ↔ qs_sp (qy_gn L k f) t w) → post (nI (qv_rk L C k f t)) (nI n, L, col)) :
    ∀ d i col, i + d = t → qs_ri col (qv_rk L C k f i) → (∀ w, qs_sp col (qv_rk L C k f i) w ↔ qs_sp (qy_gn L k f) i w) →
      wY_rank_6 post (nI t) (nI k) (nI f) (nI n) (d + 1) (nI (qv_rk L C k f i)) (nI i) L col := by
  intro d
  induction d with
  | zero =>
    intro i col hi hr hs
    have : i = t := by omega
    subst this
    exact br_t (nI_le (by omega) (by omega)) (h col hr hs)
  | succ d ih =>
    intro i col hi hr hs
    have hd1 := qc_dm3 hc (i := i) (by omega)
    have hRi : qv_rk L C k f i ≤ i := qn_le _ i
    refine br_f (nI_ge (by omega) (by omega)) (br_f (nI_ge (b := 26) (by omega) (by omega)) (qy_dim hc hn (i := i) (by omega) ?_))
    refine pk_eq (qc_dm L i) k (fun e => qy_sides hc hn (i := i) (by omega) (nm_e ⟨qv_rk L C k f i + 1, ?_⟩)) (fun e => nm_r (nI_1 i) ?_)
    · have hq := qv_i (f := f) (by omega : n ≤ 26) hv (by omega : i < n) (by omega)
      rw [e] at hq
      have hgi : qy_gn L k f i = qw_ct f (qc_sd L i) := by
        unfold qy_gn
        rw [qv_mkt e]
      refine qy_el (i := i) (R := qv_rk L C k f i) (w0 := qw_ct f (qc_sd L i)) (by omega) hr (fun hz => ?_) (fun w hw0 hw hp => ?_) (qv_rk L C k f i) 0 (qw_ct f (qc_sd L i)) (by omega) ?_ (fun a ha => absurd ha (Nat.not_lt_zero a))
      · have hz' := (hs _).mp hz
        have h0 : qw_ct f (C i) = 0 := hq.mp hz'
        have er : qv_rk L C k f (i + 1) = qv_rk L C k f i := qn_f (by unfold qv_rp; rw [decide_eq_false (fun z => z h0 : ¬ (qw_ct f (C i) ≠ 0)), Bool.and_false])
        have := ih (i + 1) col (by omega)
        rw [er] at this
        refine this hr (fun w => ?_)
        rw [hs w]
        constructor
        · exact fun z => Or.inl z
        · rintro (z | z)
          · exact z
          · rw [hgi] at z
            have := qs_x z hz'
            rw [qw_x1] at this
            exact this
      · have hnot : ¬ qs_sp col (qv_rk L C k f i) (qw_ct f (qc_sd L i)) := fun z => by
          have z2 := qs_x hw z
          rw [qw_x1] at z2
          exact hw0 (qs_e hr z2 hp)
        have h0 : qw_ct f (C i) ≠ 0 := fun z => hnot ((hs _).mpr (hq.mpr z))
        have er : qv_rk L C k f (i + 1) = qv_rk L C k f i + 1 := qn_t (by unfold qv_rp; rw [decide_eq_true e, decide_eq_true h0]; rfl)
        have := ih (i + 1) (upd col (qv_rk L C k f i) w) (by omega)
        rw [er] at this
        refine this (qs_rin hr hw0 hp) (fun v => ?_)
        have hcg : ∀ v, qs_sp (upd col (qv_rk L C k f i) w) (qv_rk L C k f i) v ↔ qs_sp col (qv_rk L C k f i) v := fun v =>
          ⟨fun z => qs_c (fun j hj => pk_un (by omega : j ≠ qv_rk L C k f i)) z, fun z => qs_c (fun j hj => (pk_un (by omega : j ≠ qv_rk L C k f i)).symm) z⟩
        show (qs_sp _ _ _ ∨ qs_sp _ _ _) ↔ (qs_sp _ _ _ ∨ qs_sp _ _ _)
        rw [hcg, hcg, pk_us, ← hs v, ← hs, hgi]
        refine or_congr Iff.rfl ⟨fun z => ?_, fun z => ?_⟩
        · have := qs_x z hw
          rw [← Int32.xor_assoc, qw_x1] at this
          exact this
        · have := qs_x z hw
          rw [Int32.xor_comm w, ← Int32.xor_assoc, qw_x1] at this
          exact this
      · rw [Int32.xor_self]
        exact qs_0 _ _
    · have er : qv_rk L C k f (i + 1) = qv_rk L C k f i := qn_f (by unfold qv_rp; rw [decide_eq_false e, Bool.false_and])
      have hgi : qy_gn L k f i = 0 := by
        unfold qy_gn
        rw [qv_mkf e, qw_ct0 (by omega)]
      have := ih (i + 1) col (by omega)
      rw [er] at this
      refine this hr (fun w => ?_)
      rw [hs w]
      constructor
      · exact fun z => Or.inl z
      · rintro (z | z)
        · exact z
        · rw [hgi, Int32.xor_zero] at z
          exact z
theorem qy_rank (hc : qc_cx L n) (hn : n ≤ 26) (hv : qv_sv L n C P K) {t k f : Nat} (ht : t ≤ n) (hf : f ≤ 26) (hk : k < 2 ^ 31) {post : Int32 → SY → Prop} {col : Nat → Int32}
    (h : ∀ col, qs_ri col (qv_rk L C k f t) → (∀ w, qs_sp col (qv_rk L C k f t) w ↔ qs_sp (qy_gn L k f) t w) → post (nI (qv_rk L C k f t)) (nI n, L, col)) :
    wpY_rank post (nI n, L, col) (nI t) (nI k) (nI f) :=
  ⟨t + 1, qy_rk1 hc hn hv ht hf hk h t 0 col (by omega) (fun a ha => absurd ha (Nat.not_lt_zero a)) (fun _ => Iff.rfl)⟩
theorem qy_ar {a b c d e : Nat} (h : a + b = c + d + e) : (nI a - nI d) - (nI e - nI b) = nI c := by
  have h1 := congrArg nI h
  rw [← nI_add, ← nI_add, ← nI_add] at h1
  grind
theorem qy_last (hc : qc_cx L n) (hn : n ≤ 26) (hp : qc_pl L n pl) (hv : qv_sv L n C P K) {i j k : Nat} (hi : i ≤ n) (hj : j ≤ n) (hk : k ≤ 3) {post : Int32 → SY → Prop} {col : Nat → Int32}
    (h : ∀ col, post (nI (qv_lv L C P k j i)) (nI n, L, col)) : wpY_last post (nI n, L, col) (nI i) (nI j) (nI k) := by
  unfold wpY_last
  dsimp only
  refine qy_tally hc hn hi (by omega) ?_
  refine qy_rank hc hn hv (f := 0) hi (by omega) (by omega) (fun col1 _ _ => nm_e ?_)
  rw [nI_1 k]
  refine qy_rank hc hn hv (f := 0) hj (by omega) (by omega) (fun col2 _ _ => ?_)
  refine qy_rank hc hn hv hj (by omega) (by omega) (fun col3 _ _ => nm_e ?_)
  rw [qy_ar (qv_last hc hn hp hv hj k i hi)]
  exact h col3
theorem qy_opening (hc : qc_cx L n) (hn : n ≤ 26) (hp : qc_pl L n pl) (hv : qv_sv L n C P K) {i : Nat} (hi : i < n) {post : Int32 → SY → Prop} {col : Nat → Int32}
    (h0 : C i ≠ 0 → ∀ col, post 0 (nI n, L, col)) (h1 : C i = 0 → ∀ col, post 1 (nI n, L, col)) : wpY_opening post (nI n, L, col) (nI i) := by
  unfold wpY_opening
  dsimp only
  refine qy_dim hc hn hi ?_
  have hd := qc_dm3 hc hi
  rw [nI_1 i]
  refine qy_last hc hn hp hv (by omega) (by omega) hd (fun col1 => ?_)
  refine qy_last hc hn hp hv (by omega) (by omega) hd (fun col2 => ?_)
  have e := qv_op hn hv hi
  have l1 : qv_lv L C P (qc_dm L i) (i + 1) (i + 1) ≤ i + 1 := qn_le _ _
  have l2 : qv_lv L C P (qc_dm L i) i i ≤ i := qn_le _ _
  refine pk_le (qv_lv L C P (qc_dm L i) (i + 1) (i + 1)) (qv_lv L C P (qc_dm L i) i i) (fun g => ?_) (fun g => ?_)
  · refine h0 (fun z => ?_) col2
    rw [decide_eq_true z] at e
    have : (true).toNat = 1 := rfl
    omega
  · refine h1 ?_ col2
    apply Classical.byContradiction
    intro z
    rw [decide_eq_false z] at e
    have : (false).toNat = 0 := rfl
    omega
theorem qy_partners (hc : qc_cx L n) (hn : n ≤ 26) (hp : qc_pl L n pl) (hv : qv_sv L n C P K) {i j : Nat} (hi : i < n) (hj : j < n) {post : Int32 → SY → Prop} {col : Nat → Int32}
    (h0 : ¬ (C i = 0 ∧ P i = nI j) → ∀ col, post 0 (nI n, L, col)) (h1 : C i = 0 ∧ P i = nI j → ∀ col, post 1 (nI n, L, col)) : wpY_partners post (nI n, L, col) (nI i) (nI j) := by
  unfold wpY_partners
  dsimp only
  refine qy_dim hc hn hi (qy_dim hc hn hj ?_)
  have hd := qc_dm3 hc hi
  have hd2 := qc_dm3 hc hj
  refine pk_eq (qc_dm L j) (qc_dm L i + 1) (fun g => ?_) (fun g => ?_) rfl (nI_1 _)
  · rw [nI_1 i, nI_1 j]
    refine qy_last hc hn hp hv (by omega) (by omega) hd (fun col1 => ?_)
    refine qy_last hc hn hp hv (by omega) (by omega) hd (fun col2 => ?_)
    refine qy_last hc hn hp hv (by omega) (by omega) hd (fun col3 => ?_)
    refine qy_last hc hn hp hv (by omega) (by omega) hd (fun col4 => ?_)
    have e := qv_pa hn hv hi hj
    exact br_c (fun z => h1 (e.mp z) col4) (fun z => h0 (fun y => z (e.mpr y)) col4)
  · refine h0 (fun z => g ?_) col
    rcases qv_p0 hv hi z.1 with ⟨y, _⟩ | ⟨b, y1, y2, y3, _, y4⟩
    · rw [y] at z
      exact absurd z.2 (qv_n2 (by omega))
    · rw [y3] at z
      have e := (nI_eq (by omega) (by omega)).mp z.2
      subst e
      have := (hv.2.1 b y2 i y4.1).2
      omega
end
end
section
/-! the reference's mate is the component's partner -/
section
variable {L C P K pl : Nat → Int32} {n : Nat}
/-- the second test of a turn: a piece that closes looks for the one it closes -/
theorem qy_mt0 (hc : qc_cx L n) (hn : n ≤ 26) (hp : qc_pl L n pl) (hv : qv_sv L n C P K) {i j l : Nat} (hi : i < n) (hj : j < n) (hz : C i ≠ 0) (hl : qw_hi (C i) l) (hli : l < i) (hP : P l = nI i) (hCl : C l = 0)
    {post : Int32 → SY → Prop} {J : Int32 → Int32 → (Nat → Int32) → (Nat → Int32) → Prop} {col : Nat → Int32}
    (h1 : j = l → ∀ col, post (nI j) (nI n, L, col)) (h2 : j ≠ l → ∀ col, J (nI (j + 1)) (nI n) L col) :
    wY_mate_44 post J (nI i) 0 (nI j) (nI n) L col := by
  refine br_t rfl (pk_le i j (fun g => nm_r (nI_1 j) (h2 (by omega) col)) (fun g => ?_))
  refine qy_opening hc hn hp hv hj (fun z col1 => br_t rfl (nm_r (nI_1 j) (h2 (fun e => by subst e; exact z hCl) col1))) (fun z col1 => br_f (by decide) ?_)
  refine qy_partners hc hn hp hv hj hi (fun y col2 => br_t rfl (nm_r (nI_1 j) (h2 (fun e => by subst e; exact y ⟨hCl, hP⟩) col2))) (fun y col2 => br_f (by decide) (h1 ?_ col2))
  rcases qv_p0 hv hj y.1 with ⟨q, _⟩ | ⟨b, q1, q2, q3, _, q4⟩
  · rw [q] at y
    exact absurd y.2 (qv_n2 (by omega))
  · rw [q3] at y
    have e := (nI_eq (by omega) (by omega)).mp y.2
    subst e
    exact qw_hiu q4 hl
theorem qy_mt1 {i j : Nat} {post : Int32 → SY → Prop} {J : Int32 → Int32 → (Nat → Int32) → (Nat → Int32) → Prop} {col : Nat → Int32}
    (h : J (nI (j + 1)) (nI n) L col) : wY_mate_44 post J (nI i) 1 (nI j) (nI n) L col :=
  br_f (by decide) (nm_r (nI_1 j) h)
theorem qy_mtc (hc : qc_cx L n) (hn : n ≤ 26) (hp : qc_pl L n pl) (hv : qv_sv L n C P K) {i l : Nat} (hi : i < n) (hz : C i ≠ 0) (hl : qw_hi (C i) l) (hli : l < i) (hP : P l = nI i) (hCl : C l = 0)
    {post : Int32 → SY → Prop} (h : ∀ col, post (nI l) (nI n, L, col)) :
    ∀ d j col, j + d = n → j ≤ l → wY_mate_8 post (nI i) 0 (d + 1) (nI j) (nI n) L col := by
  intro d
  induction d with
  | zero => intro j col hj hjl; omega
  | succ d ih =>
    intro j col hj hjl
    refine br_f (nI_ge (by omega) (by omega)) (br_t rfl (qy_mt0 hc hn hp hv hi (by omega) hz hl hli hP hCl (fun e col1 => ?_) (fun e col1 => ih (j + 1) col1 (by omega) (by omega))))
    subst e
    exact h col1
/-- the first test of a turn: a piece that makes a hole looks for the one that closes it -/
theorem qy_mto (hc : qc_cx L n) (hn : n ≤ 26) (hp : qc_pl L n pl) (hv : qv_sv L n C P K) {i : Nat} (hi : i < n) (hz : C i = 0)
    {post : Int32 → SY → Prop} (h : ∀ col, post (P i) (nI n, L, col)) :
    ∀ d j col, j + d = n → (∀ b, b < j → P i ≠ nI b) → wY_mate_8 post (nI i) 1 (d + 1) (nI j) (nI n) L col := by
  intro d
  induction d with
  | zero =>
    intro j col hj hb
    have : j = n := by omega
    subst this
    refine br_t (nI_le (by omega) (by omega)) ?_
    rcases qv_p0 hv hi hz with ⟨q, _⟩ | ⟨b, q1, q2, q3, _, q4⟩
    · have := h col
      rw [q] at this
      exact this
    · exact absurd q3 (hb b q2)
  | succ d ih =>
    intro j col hj hb
    have go : P i ≠ nI j → ∀ col, wY_mate_8 post (nI i) 1 (d + 1) (nI (j + 1)) (nI n) L col := fun e col => ih (j + 1) col (by omega) (fun b hb' => by
      rcases Nat.lt_or_ge b j with z | z
      · exact hb b z
      · have : b = j := by omega
        subst this
        exact e)
    refine br_f (nI_ge (by omega) (by omega)) (br_f (by decide) (pk_le j i (fun g => qy_mt1 (go ?_ col)) (fun g => ?_)))
    · intro e
      rcases qv_p0 hv hi hz with ⟨q, _⟩ | ⟨b, q1, q2, q3, _, q4⟩
      · rw [q] at e
        exact qv_n2 (by omega) e
      · rw [q3] at e
        have := (nI_eq (by omega) (by omega)).mp e
        omega
    · refine qy_opening hc hn hp hv (by omega) (fun z col1 => br_t rfl ?_) (fun z col1 => br_f (by decide) (qy_mt1 (go ?_ col1)))
      · refine qy_partners hc hn hp hv hi (by omega) (fun y col2 => br_t rfl (qy_mt1 (go (fun e => y ⟨hz, e⟩) col2))) (fun y col2 => br_f (by decide) ?_)
        have := h col2
        rw [y.2] at this
        exact this
      · intro e
        rcases qv_p0 hv hi hz with ⟨q, _⟩ | ⟨b, q1, q2, q3, _, q4⟩
        · rw [q] at e
          exact qv_n2 (by omega) e
        · rw [q3] at e
          have := (nI_eq (by omega) (by omega)).mp e
          subst this
          exact qw_nz q4.1 z
theorem qy_mate (hc : qc_cx L n) (hn : n ≤ 26) (hp : qc_pl L n pl) (hv : qv_sv L n C P K) {i : Nat} (hi : i < n) {post : Int32 → SY → Prop} {col : Nat → Int32}
    (h : ∀ col, post (P i) (nI n, L, col)) : wpY_mate post (nI n, L, col) (nI i) := by
  unfold wpY_mate
  dsimp only
  refine qy_opening hc hn hp hv hi (fun z col1 => ⟨n + 1, ?_⟩) (fun z col1 => ⟨n + 1, qy_mto hc hn hp hv hi z h n 0 col1 (by omega) (fun b hb => absurd hb (Nat.not_lt_zero b))⟩)
  obtain ⟨l, h1, h2, h3, _, h5, h6, _⟩ := qv_p1 hc hn hp hv hi z
  refine qy_mtc hc hn hp hv hi z h2 h1 h5 h6 (fun col2 => ?_) n 0 col1 (by omega) (by omega)
  rw [← h3]
  exact h col2
end
end
section
/-! the component's small methods -/
theorem qx_pts {post : Int32 → Prop} {x : Int32} (h : post (nI (qw_pc x))) : ∀ d i, i + d = 6 → wX_points_4 post x (d + 1) (nI (qw_ps x i)) (nI i) := by
  intro d
  induction d with
  | zero =>
    intro i hi
    have : i = 6 := by omega
    subst this
    exact br_t (nI_le (a := 6) (by omega) (by omega)) h
  | succ d ih =>
    intro i hi
    exact br_f (nI_ge (b := 6) (by omega) (by omega)) (nm_r (qw_psn x (by omega)) (nm_r (nI_1 i) (ih (i + 1) (by omega))))
theorem qx_points {post : Int32 → Prop} {x : Int32} (h : post (nI (qw_pc x))) : wpX_points post x := ⟨7, qx_pts h 6 0 rfl⟩
theorem qx_isp {x : Int32} {post : Int32 → Prop} (h1 : qc_ok x → post 1) (h0 : ¬ qc_ok x → post 0) : wpX_isPiece post x := by
  by_cases a1 : x < 1
  · exact br_t a1 (h0 (fun h => (qc_pe1' h.1).1 a1))
  · refine br_f a1 ?_
    by_cases a2 : 63 < x
    · exact br_t a2 (h0 (fun h => (qc_pe1' h.1).2 a2))
    · refine br_f a2 (qx_points ?_)
      have := qw_pc6 x
      exact pk_lt 4 (qw_pc x) (fun h => h0 (fun g => by have := g.2; omega)) (fun h => h1 ⟨qc_pei a1 a2, h⟩)
section
variable {L pl C P K : Nat → Int32} {n : Nat} {c s : Int32}
theorem qx_dim (hc : qc_cx L n) (hn : n ≤ 26) {i : Nat} (hi : i < n) {post : Int32 → Prop} (h : post (nI (qc_dm L i))) : wpX_dimension post (c, s, L, pl, C, P, K) (nI i) := by
  refine And.intro (vp_in_nI (by omega) (by omega)) ?_
  rw [nI_clamp (by omega)]
  refine qx_points ?_
  rw [qc_dms hc hi, nI_pred]
  exact h
theorem qx_hs1 (hp : qc_pl L n pl) (hn : n ≤ 26) {x : Int32} (hx : qc_pe x) {post : Int32 → Prop} (h1 : qc_so L n x → post 1) (h0 : ¬ qc_so L n x → post 0) :
    ∀ d i, i + d = 6 → (∀ p, p < i → bt x p = true → qw_cl x p ≠ 0 → ∃ j, j < n ∧ L j = qw_cl x p) → wX_hasSides_2 post x c s L pl C P K (d + 1) (nI i) := by
  intro d
  induction d with
  | zero =>
    intro i hi hl
    have : i = 6 := by omega
    subst this
    exact br_t (nI_le (a := 6) (by omega) (by omega)) (h1 hl)
  | succ d ih =>
    intro i hi hl
    have go : (bt x i = true → qw_cl x i ≠ 0 → ∃ j, j < n ∧ L j = qw_cl x i) → wX_hasSides_2 post x c s L pl C P K (d + 1) (nI (i + 1)) := fun hq => ih (i + 1) (by omega) (fun p hp' hb hz => by
      rcases Nat.lt_or_ge p i with z | z
      · exact hl p z hb hz
      · have : p = i := by omega
        subst this
        exact hq hb hz)
    refine br_f (nI_ge (b := 6) (by omega) (by omega)) (nm_r (e' := qw_cl x i) rfl ?_)
    cases g : bt x i
    · exact br_t ((qc_cle (by omega)).mpr g) (nm_r (nI_1 i) (go (fun e => by rw [g] at e; exact absurd e Bool.false_ne_true)))
    · refine br_f (fun e => by rw [(qc_cle (by omega)).mp e] at g; exact Bool.false_ne_true g) ?_
      by_cases z : qw_cl x i = 0
      · exact br_t z (nm_r (nI_1 i) (go (fun _ e => absurd z e)))
      · refine br_f z ?_
        obtain ⟨q, hq1, hq2, e⟩ := qc_pec hx (by omega : i < 6) z
        rw [e]
        refine And.intro (vp_in_nI hq2 (by omega)) ?_
        rw [nI_clamp (by omega)]
        rcases hp q hq2 with ⟨j, hj, e1, e2⟩ | ⟨e1, e2⟩
        · rw [e2]
          exact br_t (nI_pos' (by omega)) (nm_r (nI_1 i) (go (fun _ _ => ⟨j, hj, by rw [e1, e]⟩)))
        · rw [e1]
          refine br_f (by decide) (h0 (fun h => ?_))
          obtain ⟨j, hj, e3⟩ := h i (by omega) g z
          exact e2 j hj (by rw [e3, e])
theorem qx_hs (hp : qc_pl L n pl) (hn : n ≤ 26) {x : Int32} (hx : qc_pe x) {post : Int32 → Prop} (h1 : qc_so L n x → post 1) (h0 : ¬ qc_so L n x → post 0) : wpX_hasSides post (c, s, L, pl, C, P, K) x :=
  ⟨7, qx_hs1 hp hn hx h1 h0 6 0 rfl (fun p hp' => absurd hp' (Nat.not_lt_zero p))⟩
theorem qx_enter (hn : n < 26) {q : Nat} (hq : q < 64) {post : SX → Prop} (h : post (nI (n + 1), s, upd L n (nI q), upd pl q (nI n), C, P, K)) : wpX_enter post (nI n, s, L, pl, C, P, K) (nI q) := by
  refine And.intro (vp_in_nI hn (by omega)) ?_
  rw [nI_clamp (by omega), nI_clamp (by omega)]
  exact nm_e (And.intro (vp_in_nI hq (by omega)) (nm_e (nm_r (nI_1 n) h)))
/-- a piece comes in -/
theorem qc_addc (hc : qc_cx L n) {x : Int32} (hx : qc_ok x) (hs : qc_so L n x) (hf : ∀ j, j < n → L j ≠ x) : qc_cx (upd L n x) (n + 1) := by
  intro i hi
  rcases Nat.lt_or_ge i n with z | z
  · rw [pk_un (by omega : i ≠ n)]
    obtain ⟨h1, h2, h3, h4⟩ := hc i z
    refine ⟨h1, h2, fun j hj => ?_, fun p hp hb h0 => ?_⟩
    · rw [pk_un (by omega : j ≠ n)]
      exact h3 j hj
    · obtain ⟨j, hj, e⟩ := h4 p hp hb h0
      refine ⟨j, hj, ?_⟩
      rw [pk_un (by omega : j ≠ n)]
      exact e
  · have : i = n := by omega
    subst this
    rw [pk_us]
    refine ⟨hx.1, hx.2, fun j hj => ?_, fun p hp hb h0 => ?_⟩
    · rw [pk_un (by omega : j ≠ i)]
      exact hf j hj
    · obtain ⟨j, hj, e⟩ := hs p hp hb h0
      refine ⟨j, hj, ?_⟩
      rw [pk_un (by omega : j ≠ i)]
      exact e
theorem qc_addp (hp : qc_pl L n pl) {q : Nat} (hq : q < 64) (hf : ∀ j, j < n → L j ≠ nI q) : qc_pl (upd L n (nI q)) (n + 1) (upd pl q (nI n)) := by
  intro r hr
  by_cases e : r = q
  · subst e
    exact Or.inl ⟨n, by omega, pk_us, pk_us⟩
  · rw [pk_un e]
    rcases hp r hr with ⟨j, hj, e1, e2⟩ | ⟨e1, e2⟩
    · refine Or.inl ⟨j, by omega, ?_, e2⟩
      rw [pk_un (by omega : j ≠ n)]
      exact e1
    · refine Or.inr ⟨e1, fun j hj => ?_⟩
      rcases Nat.lt_or_ge j n with z | z
      · rw [pk_un (by omega : j ≠ n)]
        exact e2 j z
      · have : j = n := by omega
        subst this
        rw [pk_us]
        exact fun h => e ((nI_eq (by omega) (by omega)).mp h).symm
/-- the border column by the table of places -/
theorem qx_sd1 (hc : qc_cx L n) (hn : n ≤ 26) (hp : qc_pl L n pl) {i : Nat} (hi : i < n) {post : Int32 → Prop} (h : post (qc_sd L i)) :
    ∀ d p, p + d = 6 → wX_sidesOf_4 post (nI i) c s L pl C P K (d + 1) (qc_xo (L i) pl p) (nI p) := by
  intro d
  induction d with
  | zero =>
    intro p hp'
    have : p = 6 := by omega
    subst this
    refine br_t (nI_le (a := 6) (by omega) (by omega)) ?_
    rw [qc_xosd hc hn hp hi]
    exact h
  | succ d ih =>
    intro p hp'
    have ih := ih (p + 1) (by omega)
    have hin : vp_in (nI i) 26 := vp_in_nI (by omega) (by omega)
    refine br_f (nI_ge (b := 6) (by omega) (by omega)) (And.intro hin ?_)
    rw [nI_clamp (by omega)]
    refine nm_r (e' := qw_cl (L i) p) rfl (And.intro hin ?_)
    by_cases g : bt (L i) p = true ∧ qw_cl (L i) p ≠ 0
    · rw [show qc_xo (L i) pl (p + 1) = qc_xo (L i) pl p ||| ((1 : Int32) <<< (pl (qw_cl (L i) p).toNatClampNeg &&& 31)) from if_pos g] at ih
      refine br_f (fun e => by have := g.1; rw [(qc_cle (by omega)).mp e] at this; exact Bool.false_ne_true this) (br_f g.2 (And.intro ?_ (nm_e (nm_r (nI_1 p) ih))))
      obtain ⟨q, _, hq, e⟩ := qc_pec (hc i hi).1 (by omega : p < 6) g.2
      rw [e]
      exact vp_in_nI hq (by omega)
    · rw [show qc_xo (L i) pl (p + 1) = qc_xo (L i) pl p from if_neg g] at ih
      cases b : bt (L i) p
      · exact br_t ((qc_cle (by omega)).mpr b) (nm_r (nI_1 p) ih)
      · refine br_f (fun e => by rw [(qc_cle (by omega)).mp e] at b; exact Bool.false_ne_true b) (br_t ?_ (nm_r (nI_1 p) ih))
        apply Classical.byContradiction
        exact fun z => g ⟨b, z⟩
theorem qx_sd (hc : qc_cx L n) (hn : n ≤ 26) (hp : qc_pl L n pl) {i : Nat} (hi : i < n) {post : Int32 → Prop} (h : post (qc_sd L i)) : wpX_sidesOf post (c, s, L, pl, C, P, K) (nI i) :=
  ⟨7, qx_sd1 hc hn hp hi h 6 0 rfl⟩
end
theorem qx_lw {w : Int32} {l : Nat} (h : qw_hi w l) {post : Int32 → Prop} (hp : post (nI l)) : ∀ d, l + d < 26 → wX_lowest_3 post w (d + 1) (nI (l + d)) := by
  intro d
  induction d with
  | zero =>
    intro hd
    rcases Nat.eq_zero_or_pos l with z | z
    · subst z
      exact br_t (by decide) hp
    · refine br_f (nI_nle (by omega) (by omega)) (br_f (fun e => ?_) hp)
      rw [Nat.add_zero, qw_f w (by omega), h.1] at e
      exact absurd e (by decide)
  | succ d ih =>
    intro hd
    refine br_f (nI_nle (by omega) (by omega)) (br_t ?_ (nm_r (pk_m1 (l + d)) (ih (by omega))))
    rw [qw_f w (by omega)]
    exact h.2 _ (by omega)
theorem qx_lowest {w : Int32} {l : Nat} (h : qw_hi w l) (hl : l < 26) {post : Int32 → Prop} (hp : post (nI l)) : wpX_lowest post w := by
  have := qx_lw h hp (25 - l) (by omega)
  rw [show l + (25 - l) = 25 from by omega] at this
  exact ⟨_, this⟩
end
section
/-! the component's solve -/
section
variable {L pl C P K : Nat → Int32} {n : Nat} {s : Int32}
/-- the end of a column: it is stored, and its partner marked -/
theorem qx_end {post : SX → Prop} {J : Int32 → (Nat → Int32) → (Nat → Int32) → (Nat → Int32) → (Nat → Int32) → (Nat → Int32) → Prop} {c : Int32} {i : Nat} {w : Int32} (hi : i < 26)
    (h0 : w = 0 → J (nI (i + 1)) L pl (upd C i 0) P K)
    (h1 : ∀ l, qw_hi w l → l < 26 ∧ J (nI (i + 1)) L pl (upd C i w) (upd (upd P l (nI i)) i (nI l)) (upd K l (nI i))) :
    wX_solve_87 post J (nI i) w c s L pl C P K := by
  have hin : vp_in (nI i) 26 := vp_in_nI hi (by omega)
  refine And.intro hin ?_
  rw [nI_clamp (by omega)]
  refine nm_e ?_
  by_cases z : w = 0
  · refine br_t z (nm_r (nI_1 i) ?_)
    have := h0 z
    rw [← z] at this
    exact this
  · obtain ⟨l, hl⟩ := qw_hie z
    obtain ⟨hl2, hJ⟩ := h1 l hl
    refine br_f z (qx_lowest hl hl2 ?_)
    refine And.intro (vp_in_nI hl2 (by omega)) ?_
    rw [nI_clamp (by omega)]
    exact nm_e (And.intro (vp_in_nI hl2 (by omega)) (nm_e (And.intro hin (nm_e (nm_r (nI_1 i) hJ)))))
/-- the reduction of a column -/
theorem qx_red (hn : n ≤ 26) {i : Nat} (hi : i < n) (hv : qv_sv L i C P K) {post : SX → Prop} {J : Int32 → (Nat → Int32) → (Nat → Int32) → (Nat → Int32) → (Nat → Int32) → (Nat → Int32) → Prop} {c : Int32} {P1 : Nat → Int32}
    (h : ∀ w, qv_w L C i w → (∀ l, qw_hi w l → ¬ 0 ≤ K l) → wX_solve_87 post J (nI i) w c s L pl C P1 (upd K i (-2))) :
    ∀ d t w, t + d = 26 → qv_w L C i w → (∀ j, 26 ≤ j + t → bt w j = false) → wX_solve_37 post J (nI i) c s L pl C P1 (upd K i (-2)) (d + 1) w (nI t) := by
  have hz0 : qv_w L C i 0 → wX_solve_87 post J (nI i) 0 c s L pl C P1 (upd K i (-2)) := fun hw => h 0 hw (fun l hl => by
    have := hl.1
    rw [b_0] at this
    exact absurd this Bool.false_ne_true)
  intro d
  induction d with
  | zero =>
    intro t w ht hw hb
    refine br_t (nI_le (a := 26) (by omega) (by omega)) ?_
    have : w = 0 := by
      apply b_ext
      intro j _
      rw [b_0]
      exact hb j (by omega)
    subst this
    exact hz0 hw
  | succ d ih =>
    intro t w ht hw hb
    refine br_f (nI_ge (b := 26) (by omega) (by omega)) ?_
    by_cases z : w = 0
    · subst z
      exact br_t rfl (hz0 hw)
    · obtain ⟨l, hl⟩ := qw_hie z
      have hli := (hw.2 l hl.1).1
      refine br_f z (qx_lowest hl (by omega) ?_)
      have hin : vp_in (nI l) 26 := vp_in_nI (by omega) (by omega)
      refine And.intro hin ?_
      rw [nI_clamp (by omega), pk_un (by omega : l ≠ i)]
      rcases hv.2.2.2.1 l hli with g | ⟨b, g1, g2, g3, g4⟩
      · rw [g]
        refine br_f (by decide) (h w hw (fun l' hl' => ?_))
        rw [qw_hiu hl' hl, g]
        decide
      · rw [g3, nI_clamp (by omega)]
        obtain ⟨q1, q2⟩ := qv_w1 hv hw g2 hl g4
        refine br_t (nI_pos' (by omega)) (And.intro hin (And.intro (vp_in_nI (by omega) (by omega)) (nm_e (nm_r (nI_1 t) (ih (t + 1) _ (by omega) q1 (fun j hj => ?_))))))
        refine q2 j ?_
        have : ¬ 26 ≤ l + t := fun y => by
          have := hb l y
          rw [hl.1] at this
          exact absurd this (by decide)
        omega
theorem qx_slv (hc : qc_cx L n) (hn : n ≤ 26) (hp : qc_pl L n pl) {post : SX → Prop} (h : ∀ C P K, qv_sv L n C P K → post (nI n, nI n, L, pl, C, P, K)) :
    ∀ d i C P K, i + d = n → qv_sv L i C P K → wX_solve_5 post (nI n) s (d + 1) (nI i) L pl C P K := by
  intro d
  induction d with
  | zero =>
    intro i C P K hi hv
    have : i = n := by omega
    subst this
    exact br_t (nI_le (by omega) (by omega)) (h C P K hv)
  | succ d ih =>
    intro i C P K hi hv
    have hin : vp_in (nI i) 26 := vp_in_nI (by omega) (by omega)
    refine br_f (nI_ge (by omega) (by omega)) (And.intro hin ?_)
    rw [nI_clamp (by omega)]
    refine nm_e (And.intro hin (nm_e (qx_sd hc hn hp (i := i) (by omega) ⟨27, ?_⟩)))
    refine qx_red hn (by omega : i < n) hv (fun w hw hk => ?_) 26 0 _ (by omega) (qv_w0 hc hn (by omega)) (fun j hj => ?_)
    · refine qx_end (by omega) (fun z => ?_) (fun l hl => ⟨?_, ?_⟩)
      · subst z
        exact ih (i + 1) _ _ _ (by omega) (qv_s0 hv (by omega) hw)
      · have := (hw.2 l hl.1).1
        omega
      · exact ih (i + 1) _ _ _ (by omega) (qv_s1 hc hn hp hv (by omega) hw hl (hk l hl))
    · cases e : bt (qc_sd L i) j
      · rfl
      · have := (qc_sdd hc hn (by omega) e).1
        omega
theorem qx_solve (hc : qc_cx L n) (hn : n ≤ 26) (hp : qc_pl L n pl) {m : Nat} (hm : m ≤ n) (hv : qv_sv L m C P K) {post : SX → Prop} (h : ∀ C P K, qv_sv L n C P K → post (nI n, nI n, L, pl, C, P, K)) :
    wpX_solve post (nI n, nI m, L, pl, C, P, K) :=
  ⟨n - m + 1, qx_slv hc hn hp h (n - m) m C P K (by omega) hv⟩
end
end
section
/-! the component's counting loops -/
section
variable {L pl C P K : Nat → Int32} {n : Nat} {c s : Int32}
theorem qx_pcs1 (hc : qc_cx L n) (hn : n ≤ 26) {t k : Nat} (ht : t ≤ n) (hk : k < 2 ^ 31) {post : Int32 → Prop} (h : post (nI (qv_ta L k t))) :
    ∀ d i, i + d = t → wX_pieces_31 post (nI t) (nI k) c s L pl C P K (d + 1) (nI (qv_ta L k i)) (nI i) := by
  intro d
  induction d with
  | zero =>
    intro i hi
    have : i = t := by omega
    subst this
    exact br_t (nI_le (by omega) (by omega)) h
  | succ d ih =>
    intro i hi
    have hd1 := qc_dm3 hc (i := i) (by omega)
    have ih := ih (i + 1) (by omega)
    refine br_f (nI_ge (by omega) (by omega)) (qx_dim hc hn (i := i) (by omega) ?_)
    refine pk_eq (qc_dm L i) k (fun e => nm_r (nI_1 _) (nm_r (nI_1 i) ?_)) (fun e => nm_r (Int32.add_zero _) (nm_r (nI_1 i) ?_))
    · rw [show qv_ta L k (i + 1) = qv_ta L k i + 1 from qn_t (decide_eq_true e)] at ih
      exact ih
    · rw [show qv_ta L k (i + 1) = qv_ta L k i from qn_f (decide_eq_false e)] at ih
      exact ih
/-- one turn of living -/
theorem qx_l42 (hc : qc_cx L n) (hn : n ≤ 26) {post : Int32 → SX → Prop} {J : Int32 → Int32 → Prop} {a1 a2 : Int32} {k m a : Nat} {z : Int32} (hk : k < 2 ^ 31) (ha : a < n)
    (h1 : qc_dm L a = k → C a = 0 → z = 0 → J (nI (m + 1)) (nI (a + 1))) (h2 : ¬ (qc_dm L a = k ∧ C a = 0 ∧ z = 0) → J (nI m) (nI (a + 1))) :
    wX_living_42 post J a1 a2 (nI k) (nI m) (nI a) z c s L pl C P K := by
  have hd1 := qc_dm3 hc ha
  refine qx_dim hc hn ha (pk_eq (qc_dm L a) k (fun e => And.intro (vp_in_nI (by omega) (by omega)) ?_) (fun e => nm_r (Int32.add_zero _) (nm_r (nI_1 a) (h2 (fun g => e g.1)))))
  rw [nI_clamp (by omega)]
  refine br_c (fun e2 => br_c (fun e3 => nm_r (nI_1 m) (nm_r (nI_1 a) (h1 e e2 e3))) (fun e3 => nm_r (Int32.add_zero _) (nm_r (nI_1 a) (h2 (fun g => e3 g.2.2))))) (fun e2 => nm_r (Int32.add_zero _) (nm_r (nI_1 a) (h2 (fun g => e2 g.2.1))))
theorem qx_lv1 (hc : qc_cx L n) (hn : n ≤ 26) {i j k : Nat} (hi : i ≤ n) (hj : j ≤ n) (hk : k < 2 ^ 31) {post : Int32 → SX → Prop} (h : post (nI (qv_lv L C P k j i)) (c, s, L, pl, C, P, K)) :
    ∀ d a, a + d = i → wX_living_10 post (nI i) (nI j) (nI k) c s L pl C P K (d + 1) (nI (qv_lv L C P k j a)) (nI a) := by
  intro d
  induction d with
  | zero =>
    intro a ha
    have : a = i := by omega
    subst this
    exact br_t (nI_le (by omega) (by omega)) h
  | succ d ih =>
    intro a ha
    have ih := ih (a + 1) (by omega)
    have h1 : qc_dm L a = k → C a = 0 → qv_cd P j a = false → wX_living_10 post (nI i) (nI j) (nI k) c s L pl C P K (d + 1) (nI (qv_lv L C P k j a + 1)) (nI (a + 1)) := fun e1 e2 e3 => by
      rw [show qv_lv L C P k j (a + 1) = qv_lv L C P k j a + 1 from qn_t (by unfold qv_lp; rw [decide_eq_true e1, decide_eq_true e2, e3]; rfl)] at ih
      exact ih
    have h2 : ¬ (qc_dm L a = k ∧ C a = 0 ∧ qv_cd P j a = false) → wX_living_10 post (nI i) (nI j) (nI k) c s L pl C P K (d + 1) (nI (qv_lv L C P k j a)) (nI (a + 1)) := fun e => by
      rw [show qv_lv L C P k j (a + 1) = qv_lv L C P k j a from qn_f (by
        unfold qv_lp
        by_cases e1 : qc_dm L a = k
        · by_cases e2 : C a = 0
          · cases e3 : qv_cd P j a
            · exact absurd ⟨e1, e2, e3⟩ e
            · rw [Bool.not_true, Bool.and_false, Bool.and_false]
          · rw [decide_eq_false e2, Bool.false_and, Bool.and_false]
        · rw [decide_eq_false e1, Bool.false_and])] at ih
      exact ih
    have hin : vp_in (nI a) 26 := vp_in_nI (by omega) (by omega)
    refine br_f (nI_ge (by omega) (by omega)) (And.intro hin ?_)
    rw [nI_clamp (by omega)]
    refine br_c (fun g => ?_) (fun g => And.intro hin (br_c (fun g2 => ?_) (fun g2 => ?_)))
    · have e3 : qv_cd P j a = false := by
        unfold qv_cd
        rw [decide_eq_false (Int32.not_le.mpr g), Bool.false_and]
      exact qx_l42 hc hn hk (by omega) (fun e1 e2 _ => h1 e1 e2 e3) (fun e => h2 (fun q => e ⟨q.1, q.2.1, rfl⟩))
    · have e3 : qv_cd P j a = false := by
        unfold qv_cd
        rw [decide_eq_false (Int32.not_lt.mpr g2), Bool.and_false]
      exact qx_l42 hc hn hk (by omega) (fun e1 e2 _ => h1 e1 e2 e3) (fun e => h2 (fun q => e ⟨q.1, q.2.1, rfl⟩))
    · have e3 : qv_cd P j a = true := by
        unfold qv_cd
        rw [decide_eq_true (Int32.not_lt.mp g), decide_eq_true (Int32.not_le.mp g2)]
        rfl
      refine qx_l42 hc hn hk (by omega) (fun _ _ e => absurd e (by decide)) (fun _ => h2 (fun q => ?_))
      have := q.2.2
      rw [e3] at this
      exact absurd this (by decide)
theorem qx_living (hc : qc_cx L n) (hn : n ≤ 26) (hp : qc_pl L n pl) {m : Nat} (hm : m ≤ n) (hv : qv_sv L m C P K) {i j k : Nat} (hi : i ≤ n) (hj : j ≤ n) (hk : k < 2 ^ 31) {post : Int32 → SX → Prop}
    (h : ∀ C P K, qv_sv L n C P K → post (nI (qv_lv L C P k j i)) (nI n, nI n, L, pl, C, P, K)) : wpX_living post (nI n, nI m, L, pl, C, P, K) (nI i) (nI j) (nI k) :=
  qx_solve hc hn hp hm hv (fun C' P' K' hv' => ⟨i + 1, qx_lv1 hc hn hi hj hk (h C' P' K' hv') i 0 (by omega)⟩)
/-- the longest life -/
def qv_mx (L P : Nat → Int32) (k : Nat) : Nat → Nat
  | 0 => 0
  | i + 1 => if qc_dm L i = k ∧ qv_mx L P k i < (P i).toNatClampNeg - i then (P i).toNatClampNeg - i else qv_mx L P k i
theorem qv_mxt {k i : Nat} (h : qc_dm L i = k ∧ qv_mx L P k i < (P i).toNatClampNeg - i) : qv_mx L P k (i + 1) = (P i).toNatClampNeg - i := if_pos h
theorem qv_mxf {k i : Nat} (h : ¬ (qc_dm L i = k ∧ qv_mx L P k i < (P i).toNatClampNeg - i)) : qv_mx L P k (i + 1) = qv_mx L P k i := if_neg h
theorem qv_pp (hc : qc_cx L n) (hn : n ≤ 26) (hp : qc_pl L n pl) (hv : qv_sv L n C P K) {i : Nat} (hi : i < n) : P i = -2 ∨ ∃ b, b < n ∧ P i = nI b := by
  by_cases z : C i = 0
  · rcases qv_p0 hv hi z with ⟨g, _⟩ | ⟨b, _, g2, g3, _⟩
    · exact Or.inl g
    · exact Or.inr ⟨b, g2, g3⟩
  · obtain ⟨l, g1, _, g3, _⟩ := qv_p1 hc hn hp hv hi z
    exact Or.inr ⟨l, by omega, g3⟩
theorem qv_mxl (hc : qc_cx L n) (hn : n ≤ 26) (hp : qc_pl L n pl) (hv : qv_sv L n C P K) (k : Nat) : ∀ i, i ≤ n → qv_mx L P k i ≤ 26 := by
  intro i
  induction i with
  | zero => intro _; exact Nat.zero_le _
  | succ i ih =>
    intro hi
    by_cases g : qc_dm L i = k ∧ qv_mx L P k i < (P i).toNatClampNeg - i
    · rw [qv_mxt g]
      rcases qv_pp hc hn hp hv (by omega : i < n) with e | ⟨b, hb, e⟩
      · rw [e, show (-2 : Int32).toNatClampNeg = 0 from by decide]
        omega
      · rw [e, nI_clamp (by omega)]
        omega
    · rw [qv_mxf g]
      exact ih (by omega)
theorem qx_lon1 (hc : qc_cx L n) (hn : n ≤ 26) (hp : qc_pl L n pl) (hv : qv_sv L n C P K) {k : Nat} (hk : k < 2 ^ 31) {post : Int32 → SX → Prop} (h : post (nI (qv_mx L P k n)) (nI n, s, L, pl, C, P, K)) :
    ∀ d i, i + d = n → wX_longest_19 post (nI k) (nI n) s L pl C P K (d + 1) (nI (qv_mx L P k i)) (nI i) := by
  intro d
  induction d with
  | zero =>
    intro i hi
    have : i = n := by omega
    subst this
    exact br_t (nI_le (by omega) (by omega)) h
  | succ d ih =>
    intro i hi
    have hd1 := qc_dm3 hc (i := i) (by omega)
    have ih := ih (i + 1) (by omega)
    have hm := qv_mxl hc hn hp hv k i (by omega)
    have hin : vp_in (nI i) 26 := vp_in_nI (by omega) (by omega)
    refine br_f (nI_ge (by omega) (by omega)) (qx_dim hc hn (i := i) (by omega) ?_)
    refine pk_eq (qc_dm L i) k (fun e => And.intro hin ?_) (fun e => nm_r (nI_1 i) ?_)
    · rw [nI_clamp (by omega)]
      rcases qv_pp hc hn hp hv (by omega : i < n) with g | ⟨b, hb, g⟩
      · have gc : (P i).toNatClampNeg = 0 := by rw [g]; decide
        rw [qv_mxf (fun q => by have := q.2; omega)] at ih
        refine br_t ?_ (nm_r (nI_1 i) ih)
        rw [g]
        exact Int32.le_trans (by decide : (-2 : Int32) ≤ 0) (nI_pos' (by omega))
      · have gc : (P i).toNatClampNeg = b := by rw [g, nI_clamp (by omega)]
        rw [g]
        refine pk_le b i (fun y => ?_) (fun y => And.intro hin ?_)
        · rw [qv_mxf (fun q => by have := q.2; omega)] at ih
          exact nm_r (nI_1 i) ih
        · refine pk_le (b - i) (qv_mx L P k i) (fun z => ?_) (fun z => And.intro hin ?_) (pk_sub (by omega)) rfl
          · rw [qv_mxf (fun q => by have := q.2; omega)] at ih
            exact nm_r (nI_1 i) ih
          · rw [qv_mxt ⟨e, by omega⟩, gc] at ih
            exact nm_r (pk_sub (by omega)) (nm_r (nI_1 i) ih)
    · rw [qv_mxf (fun q => e q.1)] at ih
      exact ih
/-- the sum of signs -/
def qv_eu (L : Nat → Int32) (t : Nat) : Int32 := ((nI (qv_ta L 0 t) - nI (qv_ta L 1 t)) + nI (qv_ta L 2 t)) - nI (qv_ta L 3 t)
theorem qv_tas (L : Nat → Int32) (k t : Nat) : qv_ta L k (t + 1) = qv_ta L k t + (decide (qc_dm L t = k)).toNat := rfl
theorem qv_eus (L : Nat → Int32) (t : Nat) (h : qc_dm L t ≤ 3) : qv_eu L (t + 1) = if (nI (qc_dm L t) &&& 1) = 0 then qv_eu L t + 1 else qv_eu L t + (-1) := by
  unfold qv_eu
  rw [qv_tas, qv_tas, qv_tas, qv_tas]
  rcases (by omega : qc_dm L t = 0 ∨ qc_dm L t = 1 ∨ qc_dm L t = 2 ∨ qc_dm L t = 3) with e | e | e | e
  · rw [e, if_pos (by decide), show (decide (0 = 0)).toNat = 1 from rfl, show (decide (0 = 1)).toNat = 0 from rfl, show (decide (0 = 2)).toNat = 0 from rfl, show (decide (0 = 3)).toNat = 0 from rfl, Nat.add_zero, Nat.add_zero, Nat.add_zero, ← nI_1]
    grind
  · rw [e, if_neg (by decide), show (decide (1 = 0)).toNat = 0 from rfl, show (decide (1 = 1)).toNat = 1 from rfl, show (decide (1 = 2)).toNat = 0 from rfl, show (decide (1 = 3)).toNat = 0 from rfl, Nat.add_zero, Nat.add_zero, Nat.add_zero, ← nI_1]
    grind
  · rw [e, if_pos (by decide), show (decide (2 = 0)).toNat = 0 from rfl, show (decide (2 = 1)).toNat = 0 from rfl, show (decide (2 = 2)).toNat = 1 from rfl, show (decide (2 = 3)).toNat = 0 from rfl, Nat.add_zero, Nat.add_zero, Nat.add_zero, ← nI_1]
    grind
  · rw [e, if_neg (by decide), show (decide (3 = 0)).toNat = 0 from rfl, show (decide (3 = 1)).toNat = 0 from rfl, show (decide (3 = 2)).toNat = 0 from rfl, show (decide (3 = 3)).toNat = 1 from rfl, Nat.add_zero, Nat.add_zero, Nat.add_zero, ← nI_1]
    grind
theorem qx_eul1 (hc : qc_cx L n) (hn : n ≤ 26) {t : Nat} (ht : t ≤ n) {post : Int32 → Prop} (h : post (qv_eu L t)) :
    ∀ d i, i + d = t → wX_euler_20 post (nI t) c s L pl C P K (d + 1) (qv_eu L i) (nI i) := by
  intro d
  induction d with
  | zero =>
    intro i hi
    have : i = t := by omega
    subst this
    exact br_t (nI_le (by omega) (by omega)) h
  | succ d ih =>
    intro i hi
    have hd1 := qc_dm3 hc (i := i) (by omega)
    have ih := ih (i + 1) (by omega)
    rw [qv_eus L i hd1] at ih
    refine br_f (nI_ge (by omega) (by omega)) (qx_dim hc hn (i := i) (by omega) (br_c (fun e => nm_e (nm_r (nI_1 i) ?_)) (fun e => nm_e (nm_r (nI_1 i) ?_))))
    · rw [if_pos e] at ih
      exact ih
    · rw [if_neg e] at ih
      exact ih
end
end
section
/-! chains: their dimension, border, and whether they bound -/
theorem qw_bb {x : Int32} {n : Nat} (hn : n ≤ 26) (h0 : ¬ x < 0) (h1 : x < (1 : Int32) <<< (nI n &&& 31)) : ∀ j, n ≤ j → bt x j = false := by
  obtain ⟨m, hm, rfl⟩ := nI_of h0
  have hp : 2 ^ n ≤ 2 ^ 26 := Nat.pow_le_pow_right (by decide) hn
  have e : (1 : Int32) <<< (nI n &&& 31) = nI (2 ^ n) := by
    have := pk_shlN (n := 1) (nI n &&& 31) n (s_l n (by omega)) (by omega)
    rw [Nat.one_mul] at this
    exact this
  rw [e, nI_ltI hm (by omega)] at h1
  intro j hj
  have hq : 2 ^ n ≤ 2 ^ j := Nat.pow_le_pow_right (by decide) hj
  show (BitVec.ofNat 32 m).getLsbD j = false
  rw [BitVec.getLsbD_ofNat, Nat.testBit_lt_two_pow (by omega), Bool.and_false]
def qe_st (o : Option (Option Nat)) (e : Nat) : Option (Option Nat) := match o with
  | none => none
  | some none => some (some e)
  | some (some d) => if d = e then some (some d) else none
/-- what is known of a chain's dimension by its bits below i: none: several; some none: empty -/
def qe_sc (L : Nat → Int32) (w : Int32) : Nat → Option (Option Nat)
  | 0 => some none
  | i + 1 => if bt w i = true then qe_st (qe_sc L w i) (qc_dm L i) else qe_sc L w i
theorem qe_t {L : Nat → Int32} {w : Int32} {i : Nat} (h : bt w i = true) : qe_sc L w (i + 1) = qe_st (qe_sc L w i) (qc_dm L i) := if_pos h
theorem qe_f {L : Nat → Int32} {w : Int32} {i : Nat} (h : bt w i = false) : qe_sc L w (i + 1) = qe_sc L w i :=
  if_neg (fun e => by rw [h] at e; exact Bool.false_ne_true e)
theorem qe_nn {L : Nat → Int32} {w : Int32} {i : Nat} (h : qe_sc L w i = none) : ∀ m, i ≤ m → qe_sc L w m = none := by
  intro m
  induction m with
  | zero => intro hm; have : i = 0 := by omega
            rw [← this]; exact h
  | succ m ih =>
    intro hm
    rcases Nat.lt_or_ge m i with z | z
    · have : i = m + 1 := by omega
      rw [← this]; exact h
    · have ih := ih z
      cases g : bt w m
      · rw [qe_f g]; exact ih
      · rw [qe_t g, ih]; rfl
theorem qe_p {L : Nat → Int32} {w : Int32} : ∀ m o, qe_sc L w m = some o → ∀ j, j < m → bt w j = true → o = some (qc_dm L j) := by
  intro m
  induction m with
  | zero => intro _ _ j hj; exact absurd hj (Nat.not_lt_zero j)
  | succ m ih =>
    intro o ho j hj hb
    cases g : bt w m
    · rw [qe_f g] at ho
      rcases Nat.lt_or_ge j m with z | z
      · exact ih o ho j z hb
      · have : j = m := by omega
        subst this
        rw [g] at hb
        exact absurd hb Bool.false_ne_true
    · rw [qe_t g] at ho
      rcases e : qe_sc L w m with _ | o'
      · rw [e] at ho
        exact absurd ho (by intro z; cases z)
      · rcases o' with _ | d
        · rw [e] at ho
          have ho : some (some (qc_dm L m)) = some o := ho
          have ho2 := Option.some.inj ho
          rcases Nat.lt_or_ge j m with z | z
          · have := ih none e j z hb
            cases this
          · have : j = m := by omega
            subst this
            exact ho2.symm
        · rw [e] at ho
          have ho : (if d = qc_dm L m then some (some d) else none) = some o := ho
          by_cases y : d = qc_dm L m
          · rw [if_pos y] at ho
            have ho2 := Option.some.inj ho
            rcases Nat.lt_or_ge j m with z | z
            · rw [← ho2]
              exact ih (some d) e j z hb
            · have : j = m := by omega
              subst this
              rw [← ho2, y]
          · rw [if_neg y] at ho
            cases ho
theorem qe_d {L : Nat → Int32} {w : Int32} {n : Nat} (hc : qc_cx L n) : ∀ m, m ≤ n → ∀ d, qe_sc L w m = some (some d) → d ≤ 3 := by
  intro m
  induction m with
  | zero => intro _ d h; cases h
  | succ m ih =>
    intro hm d h
    have h3 := qc_dm3 hc (i := m) (by omega)
    cases g : bt w m
    · rw [qe_f g] at h
      exact ih (by omega) d h
    · rw [qe_t g] at h
      rcases e : qe_sc L w m with _ | o'
      · rw [e] at h
        cases h
      · rcases o' with _ | d'
        · rw [e] at h
          have h : some (some (qc_dm L m)) = some (some d) := h
          have := Option.some.inj (Option.some.inj h)
          omega
        · rw [e] at h
          have h : (if d' = qc_dm L m then some (some d') else none) = some (some d) := h
          by_cases y : d' = qc_dm L m
          · rw [if_pos y] at h
            have := Option.some.inj (Option.some.inj h)
            omega
          · rw [if_neg y] at h
            cases h
def qe_cx (o : Option Nat) : Int32 := match o with
  | none => -2
  | some d => nI d
def qe_cy (o : Option Nat) : Int32 := match o with
  | none => -1
  | some d => nI d
section
variable {L pl C P K : Nat → Int32} {n : Nat} {c s : Int32}
theorem qx_ev1 (hc : qc_cx L n) (hn : n ≤ 26) {w : Int32} {post : Int32 → Prop} (h1 : ∀ o, qe_sc L w n = some o → post 1) (h0 : qe_sc L w n = none → post 0) :
    ∀ d i o, i + d = n → qe_sc L w i = some o → wX_isEven_5 post w (nI n) s L pl C P K (d + 1) (qe_cx o) (nI i) := by
  intro d
  induction d with
  | zero =>
    intro i o hi ho
    have : i = n := by omega
    subst this
    exact br_t (nI_le (by omega) (by omega)) (h1 o ho)
  | succ d ih =>
    intro i o hi ho
    refine br_f (nI_ge (by omega) (by omega)) ?_
    cases g : bt w i
    · refine br_f (fun e => ?_) (nm_r (nI_1 i) (ih (i + 1) o (by omega) (by rw [qe_f g]; exact ho)))
      rw [qw_t w (by omega), g] at e
      exact Bool.false_ne_true e
    · refine br_t ((qw_t w (by omega)).mpr g) (qx_dim hc hn (i := i) (by omega) ?_)
      have h3 := qc_dm3 hc (i := i) (by omega)
      rcases o with _ | d'
      · exact br_t rfl (nm_r (nI_1 i) (ih (i + 1) (some (qc_dm L i)) (by omega) (by rw [qe_t g, ho]; rfl)))
      · have hd' := qe_d hc i (by omega) d' ho
        refine br_f (fun e => qv_n2 (b := d') (by omega) e.symm) (pk_eq d' (qc_dm L i) (fun e => nm_r (nI_1 i) ?_) (fun e => h0 (qe_nn (i := i + 1) ?_ n (by omega))))
        · rw [← e]
          exact ih (i + 1) (some d') (by omega) (by rw [qe_t g, ho]; exact if_pos e)
        · rw [qe_t g, ho]
          exact if_neg e
theorem qx_even (hc : qc_cx L n) (hn : n ≤ 26) {w : Int32} {post : Int32 → Prop} (h1 : ∀ o, qe_sc L w n = some o → post 1) (h0 : qe_sc L w n = none → post 0) : wpX_isEven post (nI n, s, L, pl, C, P, K) w :=
  ⟨n + 1, qx_ev1 hc hn h1 h0 n 0 none (by omega) rfl⟩
theorem qy_cd1 (hc : qc_cx L n) (hn : n ≤ 26) {w : Int32} {col : Nat → Int32} {post : Int32 → Prop} (h1 : ∀ o, qe_sc L w n = some o → post (qe_cy o)) (h0 : qe_sc L w n = none → post (-2)) :
    ∀ d i o, i + d = n → qe_sc L w i = some o → wY_chainDimension_4 post w (nI n) L col (d + 1) (qe_cy o) (nI i) := by
  intro d
  induction d with
  | zero =>
    intro i o hi ho
    have : i = n := by omega
    subst this
    exact br_t (nI_le (by omega) (by omega)) (h1 o ho)
  | succ d ih =>
    intro i o hi ho
    refine br_f (nI_ge (by omega) (by omega)) (br_f (nI_ge (b := 26) (by omega) (by omega)) ?_)
    cases g : bt w i
    · refine br_f (fun e => ?_) (nm_r (nI_1 i) (ih (i + 1) o (by omega) (by rw [qe_f g]; exact ho)))
      rw [qw_t w (by omega), g] at e
      exact Bool.false_ne_true e
    · refine br_t ((qw_t w (by omega)).mpr g) ?_
      have h3 := qc_dm3 hc (i := i) (by omega)
      rcases o with _ | d'
      · refine br_t (by decide) ?_
        unfold wY_chainDimension_43
        exact qy_dim hc hn (i := i) (by omega) (nm_r (nI_1 i) (ih (i + 1) (some (qc_dm L i)) (by omega) (by rw [qe_t g, ho]; rfl)))
      · have hd' := qe_d hc i (by omega) d' ho
        refine br_f (nI_pos (by omega)) (qy_dim hc hn (i := i) (by omega) (pk_eq (qc_dm L i) d' (fun e => ?_) (fun e => h0 (qe_nn (i := i + 1) ?_ n (by omega)))))
        · unfold wY_chainDimension_43
          refine qy_dim hc hn (i := i) (by omega) (nm_r (nI_1 i) ?_)
          rw [e]
          exact ih (i + 1) (some d') (by omega) (by rw [qe_t g, ho]; exact if_pos e.symm)
        · rw [qe_t g, ho]
          exact if_neg (fun z => e z.symm)
theorem qy_cdim (hc : qc_cx L n) (hn : n ≤ 26) {w : Int32} {col : Nat → Int32} {post : Int32 → Prop} (h1 : ∀ o, qe_sc L w n = some o → post (qe_cy o)) (h0 : qe_sc L w n = none → post (-2)) : wpY_chainDimension post (nI n, L, col) w :=
  ⟨n + 1, qy_cd1 hc hn h1 h0 n 0 none (by omega) rfl⟩
theorem qx_bo1 (hc : qc_cx L n) (hn : n ≤ 26) (hp : qc_pl L n pl) {w : Int32} {post : Int32 → Prop} (h : post (qc_bd (qc_sd L) w n)) :
    ∀ d i, i + d = n → wX_borderOf_4 post w (nI n) s L pl C P K (d + 1) (qc_bd (qc_sd L) w i) (nI i) := by
  intro d
  induction d with
  | zero =>
    intro i hi
    have : i = n := by omega
    subst this
    exact br_t (nI_le (by omega) (by omega)) h
  | succ d ih =>
    intro i hi
    have ih := ih (i + 1) (by omega)
    refine br_f (nI_ge (by omega) (by omega)) ?_
    cases g : bt w i
    · rw [qc_bdf g] at ih
      refine br_f (fun e => ?_) (nm_r (nI_1 i) ih)
      rw [qw_t w (by omega), g] at e
      exact Bool.false_ne_true e
    · rw [qc_bdt g] at ih
      exact br_t ((qw_t w (by omega)).mpr g) (qx_sd hc hn hp (i := i) (by omega) (nm_e (nm_r (nI_1 i) ih)))
theorem qx_border (hc : qc_cx L n) (hn : n ≤ 26) (hp : qc_pl L n pl) {w : Int32} {post : Int32 → Prop} (h : post (qc_bd (qc_sd L) w n)) : wpX_borderOf post (nI n, s, L, pl, C, P, K) w :=
  ⟨n + 1, qx_bo1 hc hn hp h n 0 (by omega)⟩
theorem qy_ed1 (hc : qc_cx L n) (hn : n ≤ 26) {w : Int32} {col : Nat → Int32} {post : Int32 → Prop} (h : post (qc_bd (qc_sd L) w n)) :
    ∀ d i, i + d = n → wY_edge_4 post w (nI n) L col (d + 1) (qc_bd (qc_sd L) w i) (nI i) := by
  intro d
  induction d with
  | zero =>
    intro i hi
    have : i = n := by omega
    subst this
    exact br_t (nI_le (by omega) (by omega)) h
  | succ d ih =>
    intro i hi
    have ih := ih (i + 1) (by omega)
    refine br_f (nI_ge (by omega) (by omega)) ?_
    cases g : bt w i
    · rw [qc_bdf g] at ih
      refine br_f (fun e => ?_) (nm_r (nI_1 i) ih)
      rw [qw_t w (by omega), g] at e
      exact Bool.false_ne_true e
    · rw [qc_bdt g] at ih
      exact br_t ((qw_t w (by omega)).mpr g) (qy_sides hc hn (i := i) (by omega) (nm_e (nm_r (nI_1 i) ih)))
theorem qy_edge (hc : qc_cx L n) (hn : n ≤ 26) {w : Int32} {col : Nat → Int32} {post : Int32 → Prop} (h : post (qc_bd (qc_sd L) w n)) : wpY_edge post (nI n, L, col) w :=
  ⟨n + 1, qy_ed1 hc hn h n 0 (by omega)⟩
/-- the component's test: the chain is reduced from the top -/
theorem qx_bn1 (hn : n ≤ 26) (hv : qv_sv L n C P K) {w0 : Int32} {e : Nat} {post : Int32 → SX → Prop}
    (h1 : qs_sp (qv_mk L C (e + 1)) n w0 → post 1 (c, s, L, pl, C, P, K)) (h0 : ¬ qs_sp (qv_mk L C (e + 1)) n w0 → post 0 (c, s, L, pl, C, P, K)) :
    ∀ m w, m ≤ n → qs_sp (qv_mk L C (e + 1)) n (w ^^^ w0) → (∀ j, m ≤ j → bt w j = false) → (∀ j, bt w j = true → qc_dm L j = e) → wX_bounds_44 post c s L pl C P K (m + 1) w (nI m - 1) := by
  intro m
  induction m with
  | zero =>
    intro w _ hs hb _
    refine br_t (by decide) (h1 ?_)
    have : w = 0 := by
      apply b_ext
      intro j _
      rw [b_0]
      exact hb j (Nat.zero_le j)
    rw [this, Int32.zero_xor] at hs
    exact hs
  | succ m ih =>
    intro w hm hs hb hd
    have em : nI m + (-1) = nI m - 1 := (Int32.sub_eq_add_neg _ _).symm
    rw [nI_pred]
    refine br_f (nI_pos (by omega)) ?_
    cases g : bt w m
    · refine br_f (fun z => ?_) (nm_r em (ih w (by omega) hs (fun j hj => ?_) hd))
      · rw [qw_t w (by omega), g] at z
        exact Bool.false_ne_true z
      · rcases Nat.lt_or_ge m j with y | y
        · exact hb j y
        · have : j = m := by omega
          subst this
          exact g
    · have hin : vp_in (nI m) 26 := vp_in_nI (by omega) (by omega)
      have hh : qw_hi w m := ⟨g, fun j hj => hb j hj⟩
      refine br_t ((qw_t w (by omega)).mpr g) (And.intro hin ?_)
      rw [nI_clamp (by omega)]
      rcases hv.2.2.2.1 m (by omega) with q | ⟨b, q1, q2, q3, q4⟩
      · rw [q]
        refine br_f (by decide) (h0 (fun z => ?_))
        have z2 := qs_x hs z
        rw [qw_x1] at z2
        obtain ⟨b, hb1, _, hb2⟩ := qv_l hn hv (Nat.le_refl n) z2 hh
        have := (hv.2.2.1 b hb1 m hb2).1
        rw [q] at this
        exact qv_n2 (by omega) this
      · rw [q3, nI_clamp (by omega)]
        have hdb := (hv.2.1 b q2 m q4.1).2
        have hdm := hd m g
        refine br_t (nI_pos' (by omega)) (And.intro hin (And.intro (vp_in_nI (by omega) (by omega)) (nm_e (nm_r em (ih _ (by omega) ?_ (fun j hj => ?_) (fun j hj => ?_))))))
        · have h3 : qs_sp (qv_mk L C (e + 1)) n (qv_mk L C (e + 1) b) := qs_g q2
          rw [qv_mkt (by omega)] at h3
          have h4 := qs_x hs h3
          rw [qw_x4] at h4
          exact h4
        · rw [b_xor]
          rcases Nat.lt_or_ge m j with y | y
          · rw [hb j y, q4.2 j y]; rfl
          · have : j = m := by omega
            subst this
            rw [g, q4.1]; rfl
        · rw [b_xor] at hj
          cases y : bt w j
          · rw [y, Bool.false_xor] at hj
            have := (hv.2.1 b q2 j hj).2
            omega
          · exact hd j y
/-- the reference's test: the chain is reduced by the rows -/
theorem qy_bn1 {col : Nat → Int32} {R : Nat} (hR : R ≤ 26) (hri : qs_ri col R) {w0 x2 : Int32} (hx : ¬ x2 < 0) {fc : Int32} {post : Int32 → SY → Prop}
    (h1 : qs_sp col R w0 → post 1 (fc, L, col)) (h0 : ¬ qs_sp col R w0 → post 0 (fc, L, col)) :
    ∀ d r w, r + d = R → qs_sp col R (w ^^^ w0) → qs_pz col r w → wY_bounds_60 post x2 (nI R) fc L col (d + 1) w (nI r) := by
  intro d
  induction d with
  | zero =>
    intro r w hr hs hp
    have : r = R := by omega
    subst this
    refine br_t (nI_le (by omega) (by omega)) ?_
    refine br_c (fun e => h1 ?_) (fun e => h0 (fun z => ?_))
    · rw [e, Int32.zero_xor] at hs
      exact hs
    · have z2 := qs_x hs z
      rw [qw_x1] at z2
      exact e (qs_e hri z2 hp)
  | succ d ih =>
    intro r w hr hs hp
    have hin : vp_in (nI r) 26 := vp_in_nI (by omega) (by omega)
    refine br_f (nI_ge (by omega) (by omega)) (br_f hx (br_f (nI_ge (b := 26) (by omega) (by omega)) (And.intro hin (And.intro hin ?_))))
    rw [nI_clamp (by omega)]
    have h2 := qs_pz1 hri (by omega : r < R) hp
    refine nm_e (br_c (fun e => nm_r (nI_1 r) (ih (r + 1) w (by omega) hs (h2.1 e))) (fun e => And.intro hin (nm_e (nm_r (nI_1 r) (ih (r + 1) _ (by omega) ?_ (h2.2 e))))))
    have h3 := qs_x hs (qs_g (c := col) (by omega : r < R))
    rw [qw_x4] at h3
    exact h3
/-- .. and of the empty chain -/
theorem qy_bn0 {x3 fc : Int32} {col : Nat → Int32} {post : Int32 → SY → Prop} (h1 : post 1 (fc, L, col)) : wY_bounds_60 post (-1) x3 fc L col 1 0 0 :=
  br_c (fun _ => br_t rfl h1) (fun _ => br_t (by decide) (br_t rfl h1))
end
end
section
/-! the reference's forever and longest -/
section
variable {L pl C P K : Nat → Int32} {n : Nat}
theorem qy_fo1 (hc : qc_cx L n) (hn : n ≤ 26) (hp : qc_pl L n pl) (hv : qv_sv L n C P K) {k : Nat} (hk : k < 2 ^ 31) {post : Int32 → SY → Prop} (h : ∀ col, post (nI (qv_lv L C P k n n)) (nI n, L, col)) :
    ∀ d i col, i + d = n → wY_forever_14 post (nI k) (d + 1) (nI (qv_lv L C P k n i)) (nI i) (nI n) L col := by
  intro d
  induction d with
  | zero =>
    intro i col hi
    have : i = n := by omega
    subst this
    exact br_t (nI_le (by omega) (by omega)) (h col)
  | succ d ih =>
    intro i col hi
    have hd1 := qc_dm3 hc (i := i) (by omega)
    have h2 : qv_lp L C P k n i = false → ∀ col, wY_forever_14 post (nI k) (d + 1) (nI (qv_lv L C P k n i)) (nI (i + 1)) (nI n) L col := fun e col => by
      have := ih (i + 1) col (by omega)
      rw [show qv_lv L C P k n (i + 1) = qv_lv L C P k n i from qn_f e] at this
      exact this
    refine br_f (nI_ge (by omega) (by omega)) (qy_dim hc hn (i := i) (by omega) ?_)
    refine pk_eq (qc_dm L i) k (fun e => ?_) (fun e => nm_r (nI_1 i) (h2 (by unfold qv_lp; rw [decide_eq_false e, Bool.false_and]) col))
    refine qy_opening hc hn hp hv (by omega) (fun z col1 => br_t rfl (nm_r (nI_1 i) (h2 (by unfold qv_lp; rw [decide_eq_false z, Bool.false_and, Bool.and_false]) col1))) (fun z col1 => br_f (by decide) ?_)
    refine qy_mate hc hn hp hv (by omega) (fun col2 => ?_)
    rcases qv_p0 hv (by omega : i < n) z with ⟨g, _⟩ | ⟨b, g1, g2, g3, _⟩
    · rw [g]
      refine br_f (by decide) (nm_r (nI_1 _) (nm_r (nI_1 i) ?_))
      have := ih (i + 1) col2 (by omega)
      rw [show qv_lv L C P k n (i + 1) = qv_lv L C P k n i + 1 from qn_t (by unfold qv_lp; rw [decide_eq_true e, decide_eq_true z, qv_cd2 g]; rfl)] at this
      exact this
    · rw [g3]
      refine br_t (nI_pos' (by omega)) (nm_r (nI_1 i) (h2 ?_ col2))
      unfold qv_lp
      rw [qv_cdn g3 (by omega) (by omega), decide_eq_true g2, Bool.not_true, Bool.and_false, Bool.and_false]
theorem qy_m2 {i m : Nat} (hi : i < 2 ^ 30) (hm : m < 2 ^ 31) : (-2 : Int32) - nI i ≤ nI m := by
  rw [Int32.le_iff_toInt_le, Int32.toInt_sub, nI_toInt (by omega), nI_toInt hm, show (-2 : Int32).toInt = -2 from by decide, Int.bmod_eq_of_le (by omega) (by omega)]
  omega
theorem qy_49 {post : Int32 → SY → Prop} {J : Int32 → Int32 → Int32 → (Nat → Int32) → (Nat → Int32) → Prop} {x1 fc : Int32} {col : Nat → Int32} {m i : Nat} (hi : i < 2 ^ 30) (hm : m < 2 ^ 31)
    (h : J (nI m) (nI (i + 1)) fc L col) : wY_longest_49 post J x1 (nI m) (nI i) (-2) fc L col :=
  br_t (qy_m2 hi hm) (nm_r (nI_1 i) h)
theorem qy_lo1 (hc : qc_cx L n) (hn : n ≤ 26) (hp : qc_pl L n pl) (hv : qv_sv L n C P K) {k : Nat} (hk : k < 2 ^ 31) {post : Int32 → SY → Prop} (h : ∀ col, post (nI (qv_mx L P k n)) (nI n, L, col)) :
    ∀ d i col, i + d = n → wY_longest_14 post (nI k) (d + 1) (nI (qv_mx L P k i)) (nI i) (nI n) L col := by
  intro d
  induction d with
  | zero =>
    intro i col hi
    have : i = n := by omega
    subst this
    exact br_t (nI_le (by omega) (by omega)) (h col)
  | succ d ih =>
    intro i col hi
    have hd1 := qc_dm3 hc (i := i) (by omega)
    have hm := qv_mxl hc hn hp hv k i (by omega)
    have h2 : ¬ (qc_dm L i = k ∧ qv_mx L P k i < (P i).toNatClampNeg - i) → ∀ col, wY_longest_14 post (nI k) (d + 1) (nI (qv_mx L P k i)) (nI (i + 1)) (nI n) L col := fun e col => by
      have := ih (i + 1) col (by omega)
      rw [qv_mxf e] at this
      exact this
    refine br_f (nI_ge (by omega) (by omega)) (qy_dim hc hn (i := i) (by omega) ?_)
    refine pk_eq (qc_dm L i) k (fun e => ?_) (fun e => qy_49 (by omega) (by omega) (h2 (fun q => e q.1) col))
    refine qy_opening hc hn hp hv (by omega) (fun z col1 => br_t rfl (qy_49 (by omega) (by omega) (h2 (fun q => ?_) col1))) (fun z col1 => br_f (by decide) ?_)
    · obtain ⟨l, g1, _, g3, _⟩ := qv_p1 hc hn hp hv (by omega : i < n) z
      have := q.2
      rw [g3, nI_clamp (by omega)] at this
      omega
    · refine qy_mate hc hn hp hv (by omega) (fun col2 => ?_)
      rcases qv_p0 hv (by omega : i < n) z with ⟨g, _⟩ | ⟨b, g1, g2, g3, _⟩
      · rw [g]
        refine qy_49 (by omega) (by omega) (h2 (fun q => ?_) col2)
        have := q.2
        rw [g, show (-2 : Int32).toNatClampNeg = 0 from by decide] at this
        omega
      · rw [g3]
        have gc : (P i).toNatClampNeg = b := by rw [g3, nI_clamp (by omega)]
        unfold wY_longest_49
        refine pk_le (b - i) (qv_mx L P k i) (fun y => nm_r (nI_1 i) (h2 (fun q => by have := q.2; omega) col2)) (fun y => nm_r (pk_sub (by omega)) (nm_r (nI_1 i) ?_)) (pk_sub (by omega)) rfl
        have := ih (i + 1) col2 (by omega)
        rw [qv_mxt ⟨e, by omega⟩, gc] at this
        exact this
end
end
section
/-! fill: all parts of a piece that aren't there -/
theorem ql_sub (a b : Int32) : (a &&& (b ^^^ (-1))) = 0 ↔ a &&& b = a := by
  constructor
  · intro e
    apply b_ext
    intro j hj
    have h : bt (a &&& (b ^^^ (-1))) j = bt 0 j := congrArg (fun z => bt z j) e
    rw [b_and, b_xor, b_m1 j hj, b_0] at h
    rw [b_and]
    cases ha : bt a j <;> cases hb : bt b j <;> rw [ha, hb] at h <;> first | rfl | exact absurd h (by decide)
  · intro e
    apply b_ext
    intro j hj
    have h : bt (a &&& b) j = bt a j := congrArg (fun z => bt z j) e
    rw [b_and] at h
    rw [b_and, b_xor, b_m1 j hj, b_0]
    cases ha : bt a j <;> cases hb : bt b j <;> rw [ha, hb] at h <;> first | rfl | exact absurd h (by decide)
theorem ql_psm {a b : Int32} (h : a &&& b = a) : ∀ m, qw_ps a m ≤ qw_ps b m
  | 0 => Nat.le_refl 0
  | m + 1 => by
    have h1 := ql_psm h m
    have h2 : bt (a &&& b) m = bt a m := congrArg (fun z => bt z m) h
    rw [b_and] at h2
    show qw_ps a m + (bt a m).toNat ≤ qw_ps b m + (bt b m).toNat
    cases ha : bt a m <;> cases hb : bt b m <;> rw [ha, hb] at h2 <;> first | exact absurd h2 (by decide) | skip
    · exact h1
    · have : (true).toNat = 1 := rfl
      have : (false).toNat = 0 := rfl
      omega
    · exact Nat.add_le_add_right h1 _
theorem ql_cls {a b : Int32} (h : a &&& b = a) {p : Nat} (hp : p < 32) : qw_cl a p &&& b = qw_cl a p := by
  apply b_ext
  intro j _
  have h2 : bt (a &&& b) j = bt a j := congrArg (fun z => bt z j) h
  rw [b_and] at h2
  rw [b_and, qw_clb a hp]
  cases ha : bt a j <;> cases hb : bt b j <;> rw [ha, hb] at h2 <;> first | exact absurd h2 (by decide) | (cases decide (j = p) <;> rfl)
theorem ql_le {q r : Nat} (hq : q < 64) (hr : r < 64) (h : nI q &&& nI r = nI q) : q ≤ r := by
  rw [nx_and] at h
  have h2 : q &&& r ≤ r := Nat.and_le_right
  rw [nI_eq (by omega) (by omega)] at h
  omega
/-- part q of piece r that isn't there at first -/
def ql_fr (pl : Nat → Int32) (r q : Nat) : Bool := decide (1 ≤ q) && (decide (nI q &&& nI r = nI q) && decide (¬ 0 ≤ pl q))
def ql_F (pl : Nat → Int32) (r q : Nat) : Nat := qn_c (ql_fr pl r) q
theorem ql_Ft {pl : Nat → Int32} {r q : Nat} (h1 : 1 ≤ q) (h2 : nI q &&& nI r = nI q) (h3 : ¬ 0 ≤ pl q) : ql_F pl r (q + 1) = ql_F pl r q + 1 :=
  qn_t (by unfold ql_fr; rw [decide_eq_true h1, decide_eq_true h2, decide_eq_true h3]; rfl)
theorem ql_Fs {pl : Nat → Int32} {r q : Nat} (h2 : ¬ nI q &&& nI r = nI q) : ql_F pl r (q + 1) = ql_F pl r q :=
  qn_f (by unfold ql_fr; rw [decide_eq_false h2, Bool.false_and, Bool.and_false])
theorem ql_Fp {pl : Nat → Int32} {r q : Nat} (h2 : 0 ≤ pl q) : ql_F pl r (q + 1) = ql_F pl r q := by
  have h3 : ¬ ¬ 0 ≤ pl q := fun z => z h2
  exact qn_f (by unfold ql_fr; rw [decide_eq_false h3, Bool.and_false, Bool.and_false])
section
variable {L pl C P K : Nat → Int32} {n r : Nat} {s : Int32}
theorem ql_F64 (hr : r < 64) : ∀ m, r + 1 ≤ m → m ≤ 64 → ql_F pl r m = ql_F pl r (r + 1) := by
  intro m
  induction m with
  | zero => intro h; omega
  | succ m ih =>
    intro h1 h2
    rcases Nat.lt_or_ge m (r + 1) with z | z
    · rw [show m + 1 = r + 1 from by omega]
    · rw [ql_Fs (fun e => by have := ql_le (by omega) hr e; omega), ih z (by omega)]
/-- the first pass counts -/
theorem qx_f13 (hr : r < 64) {post : Int32 → SX → Prop}
    (h : ((nI n + nI (ql_F pl r (r + 1))) ≤ 26 → (∃ f, wX_fill_65 post (nI r) f 1 (nI n) s L pl C P K)) ∧ (¬ (nI n + nI (ql_F pl r (r + 1))) ≤ 26 → post (-2) (nI n, s, L, pl, C, P, K))) :
    ∀ d q, q + d = r + 1 → 1 ≤ q → wX_fill_13 post (nI r) (nI n) s L pl C P K (d + 1) (nI (ql_F pl r q)) (nI q) := by
  intro d
  induction d with
  | zero =>
    intro q hq h1
    have : q = r + 1 := by omega
    subst this
    exact br_t (nI_lt (by omega) (by omega)) h
  | succ d ih =>
    intro q hq h1
    have ih := ih (q + 1) (by omega) (by omega)
    refine br_f (nI_nlt (by omega) (by omega)) ?_
    by_cases g : nI q &&& nI r = nI q
    · refine br_t ((ql_sub _ _).mpr g) (And.intro (vp_in_nI (by omega) (by omega)) ?_)
      rw [nI_clamp (by omega)]
      refine br_c (fun e => nm_r (Int32.add_zero _) (nm_r (nI_1 q) ?_)) (fun e => nm_r (nI_1 _) (nm_r (nI_1 q) ?_))
      · rw [ql_Fp e] at ih
        exact ih
      · rw [ql_Ft h1 g e] at ih
        exact ih
    · refine br_f (fun z => g ((ql_sub _ _).mp z)) (nm_r (Int32.add_zero _) (nm_r (nI_1 q) ?_))
      rw [ql_Fs g] at ih
      exact ih
theorem qy_f14 (hn : n ≤ 26) (hp : qc_pl L n pl) {post : Int32 → SY → Prop} {col : Nat → Int32}
    (h : ((nI n + nI (ql_F pl r 64)) ≤ 26 → (∃ f, wY_fill_60 post (nI r) f 1 (nI n) L col)) ∧ (¬ (nI n + nI (ql_F pl r 64)) ≤ 26 → post (-2) (nI n, L, col))) :
    ∀ d q, q + d = 64 → 1 ≤ q → wY_fill_14 post (nI r) (nI n) L col (d + 1) (nI (ql_F pl r q)) (nI q) := by
  intro d
  induction d with
  | zero =>
    intro q hq h1
    have : q = 64 := by omega
    subst this
    exact br_t (nI_le (a := 64) (by omega) (by omega)) h
  | succ d ih =>
    intro q hq h1
    have ih := ih (q + 1) (by omega) (by omega)
    refine br_f (nI_ge (b := 64) (by omega) (by omega)) ?_
    by_cases g : nI q &&& nI r = nI q
    · refine br_t g (qy_find hn (fun j hj e => br_t (nI_pos' (by omega)) (nm_r (nI_1 q) ?_)) (fun e => br_f (by decide) (nm_r (nI_1 _) (nm_r (nI_1 q) ?_))))
      · rcases hp q (by omega) with ⟨j', _, _, e2⟩ | ⟨_, e2⟩
        · rw [ql_Fp (by rw [e2]; exact nI_pos' (by omega))] at ih
          exact ih
        · exact absurd e (e2 j hj)
      · rcases hp q (by omega) with ⟨j', hj', e2, _⟩ | ⟨e2, _⟩
        · exact absurd e2 (e j' hj')
        · rw [ql_Ft h1 g (by rw [e2]; decide)] at ih
          exact ih
    · refine br_f g (nm_r (nI_1 q) ?_)
      rw [ql_Fs g] at ih
      exact ih
/-- beyond the piece the reference finds no part -/
theorem qy_f60 (hr : r < 64) {post : Int32 → SY → Prop} {col : Nat → Int32} (h : post (nI n) (nI n, L, col)) : ∀ f q, r < q → q ≤ 64 → 64 < q + f → wY_fill_60 post (nI r) f (nI q) (nI n) L col := by
  intro f
  induction f with
  | zero => intro q h1 h2 h3; omega
  | succ f ih =>
    intro q h1 h2 h3
    refine pk_le 64 q (fun _ => h) (fun z => br_f (fun e => ?_) (nm_r (nI_1 q) (ih (q + 1) (by omega) (by omega) (by omega))))
    have := ql_le (by omega) hr e
    omega
theorem qy_put (hn : n < 26) {x : Int32} {col : Nat → Int32} {post : Int32 → SY → Prop} (h : post (nI n) (nI (n + 1), upd L n x, col)) : wpY_put post (nI n, L, col) x := by
  refine br_t (nI_le (b := 25) (by omega) (by omega)) (And.intro (vp_in_nI hn (by omega)) ?_)
  rw [nI_clamp (by omega)]
  exact nm_e (nm_r (nI_1 n) h)
end
/-- the second pass, both sides at once -/
theorem ql_lk {C P K : Nat → Int32} {s : Int32} {r n0 : Nat} {pl0 : Nat → Int32} (hr : r < 64) (hr4 : qw_pc (nI r) ≤ 4) (hroom : n0 + ql_F pl0 r (r + 1) ≤ 26) :
    ∀ d q n L pl, q + d = r + 1 → 1 ≤ q → qc_cx L n → qc_pl L n pl → n = n0 + ql_F pl0 r q → (∀ q', q ≤ q' → q' < 64 → pl q' = pl0 q') →
      (∀ q', 1 ≤ q' → q' < q → nI q' &&& nI r = nI q' → ∃ j, j < n ∧ L j = nI q') →
      ∃ n' L' pl', n ≤ n' ∧ n' ≤ 26 ∧ (∀ j, j < n → L' j = L j) ∧ qc_cx L' n' ∧ qc_pl L' n' pl' ∧
        (∀ post : Int32 → SX → Prop, post (nI n') (nI n', s, L', pl', C, P, K) → wX_fill_65 post (nI r) (d + 1) (nI q) (nI n) s L pl C P K) ∧
        (∀ (post : Int32 → SY → Prop) (col : Nat → Int32) (f : Nat), 64 < q + f → post (nI n') (nI n', L', col) → wY_fill_60 post (nI r) f (nI q) (nI n) L col) := by
  intro d
  induction d with
  | zero =>
    intro q n L pl hq h1 hc hp hn hpl hcl
    have : q = r + 1 := by omega
    subst this
    refine ⟨n, L, pl, Nat.le_refl n, by omega, fun _ _ => rfl, hc, hp, fun post h => br_t (nI_lt (by omega) (by omega)) h, fun post col f hf h => qy_f60 hr h f (r + 1) (by omega) (by omega) hf⟩
  | succ d ih =>
    intro q n L pl hq h1 hc hp hn hpl hcl
    have hmo : ql_F pl0 r (q + 1) ≤ ql_F pl0 r (r + 1) := qn_mo _ (by omega)
    have hmo2 : ql_F pl0 r q ≤ ql_F pl0 r (q + 1) := qn_mo _ (by omega)
    have hn26 : n ≤ 26 := by omega
    have hpq := hpl q (Nat.le_refl q) (by omega)
    have hx : ¬ nI r < nI q := nI_nlt (by omega) (by omega)
    by_cases g : nI q &&& nI r = nI q
    · by_cases e : 0 ≤ pl q
      · obtain ⟨n', L', pl', a1, a2, a3, a4, a5, a6, a7⟩ := ih (q + 1) n L pl (by omega) (by omega) hc hp (by rw [hn, ql_Fp (by rw [← hpq]; exact e)]) (fun q' b1 b2 => hpl q' (by omega) b2) (fun q' b1 b2 b3 => by
          rcases Nat.lt_or_ge q' q with z | z
          · exact hcl q' b1 z b3
          · have : q' = q := by omega
            subst this
            rcases hp q' (by omega) with ⟨j, hj, e1, _⟩ | ⟨e1, _⟩
            · exact ⟨j, hj, e1⟩
            · rw [e1] at e
              exact absurd e (by decide))
        refine ⟨n', L', pl', a1, a2, a3, a4, a5, fun post h => br_f hx (br_t ((ql_sub _ _).mpr g) (And.intro (vp_in_nI (by omega) (by omega)) ?_)), fun post col f hf h => ?_⟩
        · rw [nI_clamp (by omega)]
          exact br_t e (nm_r (nI_1 q) (a6 post h))
        · rcases f with _ | f
          · omega
          · refine br_f (nI_ge (b := 64) (by omega) (by omega)) (br_t g (qy_find hn26 (fun j hj _ => br_t (nI_pos' (by omega)) (nm_r (nI_1 q) (a7 post col f (by omega) h))) (fun z => ?_)))
            rcases hp q (by omega) with ⟨j, hj, e1, _⟩ | ⟨e1, _⟩
            · exact absurd e1 (z j hj)
            · rw [e1] at e
              exact absurd e (by decide)
      · have hF : ql_F pl0 r (q + 1) = ql_F pl0 r q + 1 := ql_Ft h1 g (by rw [← hpq]; exact e)
        have hab : ∀ j, j < n → L j ≠ nI q := by
          rcases hp q (by omega) with ⟨j, hj, _, e2⟩ | ⟨_, e2⟩
          · rw [e2] at e
            exact absurd (nI_pos' (by omega)) e
          · exact e2
        have hpe : qc_pe (nI q) := ⟨q, h1, by omega, rfl⟩
        have hok : qc_ok (nI q) := ⟨hpe, Nat.le_trans (ql_psm g 6) hr4⟩
        have hso : qc_so L n (nI q) := fun p hp6 hb h0 => by
          obtain ⟨q', c1, c2, c3⟩ := qc_pec hpe hp6 h0
          have c4 := qf_2 q (by omega) p hp6 hb
          rw [c3, nI_clamp (by omega)] at c4
          have c5 := ql_cls g (p := p) (by omega)
          rw [c3] at c5 ⊢
          exact hcl q' c1 c4 c5
        obtain ⟨n', L', pl', a1, a2, a3, a4, a5, a6, a7⟩ := ih (q + 1) (n + 1) (upd L n (nI q)) (upd pl q (nI n)) (by omega) (by omega) (qc_addc hc hok hso hab) (qc_addp hp (by omega) hab) (by rw [hn, hF]; omega)
          (fun q' b1 b2 => by rw [pk_un (by omega : q' ≠ q)]; exact hpl q' (by omega) b2) (fun q' b1 b2 b3 => by
          rcases Nat.lt_or_ge q' q with z | z
          · obtain ⟨j, hj, e1⟩ := hcl q' b1 z b3
            exact ⟨j, by omega, by rw [pk_un (by omega : j ≠ n)]; exact e1⟩
          · have : q' = q := by omega
            subst this
            exact ⟨n, by omega, pk_us⟩)
        refine ⟨n', L', pl', by omega, a2, fun j hj => by rw [a3 j (by omega), pk_un (by omega : j ≠ n)], a4, a5, fun post h => br_f hx (br_t ((ql_sub _ _).mpr g) (And.intro (vp_in_nI (by omega) (by omega)) ?_)), fun post col f hf h => ?_⟩
        · rw [nI_clamp (by omega)]
          exact br_f e (qx_enter (by omega) (by omega) (nm_r (nI_1 q) (a6 post h)))
        · rcases f with _ | f
          · omega
          · refine br_f (nI_ge (b := 64) (by omega) (by omega)) (br_t g (qy_find hn26 (fun j hj z => absurd z (hab j hj)) (fun _ => br_f (by decide) (qy_put (by omega) (nm_r (nI_1 q) (a7 post col f (by omega) h))))))
    · obtain ⟨n', L', pl', a1, a2, a3, a4, a5, a6, a7⟩ := ih (q + 1) n L pl (by omega) (by omega) hc hp (by rw [hn, ql_Fs g]) (fun q' b1 b2 => hpl q' (by omega) b2) (fun q' b1 b2 b3 => by
        rcases Nat.lt_or_ge q' q with z | z
        · exact hcl q' b1 z b3
        · have : q' = q := by omega
          subst this
          exact absurd b3 g)
      refine ⟨n', L', pl', a1, a2, a3, a4, a5, fun post h => br_f hx (br_f (fun z => g ((ql_sub _ _).mp z)) (nm_r (nI_1 q) (a6 post h))), fun post col f hf h => ?_⟩
      rcases f with _ | f
      · omega
      · exact br_f (nI_ge (b := 64) (by omega) (by omega)) (br_f g (nm_r (nI_1 q) (a7 post col f (by omega) h)))
end
section
/-! arguments within and without; the relation -/
theorem qk_b {v c : Int32} {A G : Prop} (h : v < 0 ∨ (¬ v < 0 ∧ ¬ v ≤ c)) (a : A) : (v < 0 → A) ∧ (¬ v < 0 → ((v ≤ c → G) ∧ (¬ v ≤ c → A))) := by
  rcases h with h | ⟨h, g⟩
  · exact br_t h a
  · exact br_f h (br_f g a)
theorem qk_g {v c : Int32} {A G : Prop} (h : ¬ v < 0) (g : v ≤ c) (a : G) : (v < 0 → A) ∧ (¬ v < 0 → ((v ≤ c → G) ∧ (¬ v ≤ c → A))) := br_f h (br_t g a)
/-- a number in 0 .. n, or not -/
theorem qk_c (v : Int32) {n : Nat} (hn : n < 2 ^ 31) : (v < 0 ∨ (¬ v < 0 ∧ ¬ v ≤ nI n)) ∨ ∃ j, j ≤ n ∧ v = nI j := by
  by_cases h : v < 0
  · exact Or.inl (Or.inl h)
  · by_cases g : v ≤ nI n
    · obtain ⟨j, hj, rfl⟩ := nI_of h
      exact Or.inr ⟨j, (nI_leI hj hn).mp g, rfl⟩
    · exact Or.inl (Or.inr ⟨h, g⟩)
/-- an index below n, or not -/
theorem qk_i (v : Int32) {n : Nat} (hn : n < 2 ^ 31) : (v < 0 ∨ (¬ v < 0 ∧ nI n ≤ v)) ∨ ∃ j, j < n ∧ v = nI j := by
  by_cases h : v < 0
  · exact Or.inl (Or.inl h)
  · obtain ⟨j, hj, rfl⟩ := nI_of h
    by_cases g : j < n
    · exact Or.inr ⟨j, g, rfl⟩
    · exact Or.inl (Or.inr ⟨h, nI_le (by omega) hj⟩)
section
variable {L pl C P K col : Nat → Int32} {n : Nat} {s : Int32} {post : Int32 → Prop}
theorem qx_g0 {v : Int32} (h : v < 0 ∨ (¬ v < 0 ∧ nI n ≤ v)) (a : post 0) : wpX_isGood post (nI n, s, L, pl, C, P, K) v := by
  rcases h with h | ⟨h, g⟩
  · exact br_t h a
  · exact br_f h (br_t g a)
theorem qx_g1 (hn : n ≤ 26) {j : Nat} (h : j < n) (a : post 1) : wpX_isGood post (nI n, s, L, pl, C, P, K) (nI j) :=
  br_f (nI_pos (by omega)) (br_f (nI_ge (by omega) (by omega)) a)
theorem qy_g1 {v : Int32} (h : v < 0 ∨ (¬ v < 0 ∧ nI n ≤ v)) (a : post 1) : wpY_bad post (nI n, L, col) v := by
  rcases h with h | ⟨h, g⟩
  · exact br_t h a
  · exact br_f h (br_t g a)
theorem qy_g0 (hn : n ≤ 26) {j : Nat} (h : j < n) (a : post 0) : wpY_bad post (nI n, L, col) (nI j) :=
  br_f (nI_pos (by omega)) (br_f (nI_ge (by omega) (by omega)) (br_t (nI_le (b := 25) (by omega) (by omega)) a))
theorem qy_t1 {v : Int32} (h : v < 0 ∨ (¬ v < 0 ∧ ¬ v ≤ nI n)) (a : post 1) : wpY_badTime post (nI n, L, col) v := qk_b h a
theorem qy_t0 (hn : n ≤ 26) {j : Nat} (h : j ≤ n) (a : post 0) : wpY_badTime post (nI n, L, col) (nI j) := qk_g (nI_pos (by omega)) (nI_le h (by omega)) a
theorem qy_d1 {v : Int32} (h : v < 0 ∨ (¬ v < 0 ∧ ¬ v ≤ nI 3)) (a : post 1) : wpY_badDimension post (nI n, L, col) v := qk_b h a
theorem qy_d0 {j : Nat} (h : j ≤ 3) (a : post 0) : wpY_badDimension post (nI n, L, col) (nI j) := qk_g (nI_pos (by omega)) (nI_le (b := 3) h (by omega)) a
end
/-- the relation: the list is one and the same, a complex; the table of places is right; the first s columns are solved -/
def i_Rel (k : Nat) (u : SX) (v : SY) : Prop := ∃ (n s : Nat) (L pl C P K col : Nat → Int32),
  u = (nI n, nI s, L, pl, C, P, K) ∧ v = (nI n, L, col) ∧ n ≤ 26 ∧ s ≤ n ∧ qc_cx L n ∧ qc_pl L n pl ∧ qv_sv L s C P K
theorem i_up {k : Nat} {u : SX} {v : SY} (h : i_Rel k u v) : i_Rel (k + 4) u v := h
theorem qr_mk {k n s : Nat} {L pl C P K col : Nat → Int32} (hn : n ≤ 26) (hs : s ≤ n) (hc : qc_cx L n) (hp : qc_pl L n pl) (hv : qv_sv L s C P K) : i_Rel k (nI n, nI s, L, pl, C, P, K) (nI n, L, col) :=
  ⟨n, s, L, pl, C, P, K, col, rfl, rfl, hn, hs, hc, hp, hv⟩
theorem qr_0 {pl : Nat → Int32} (hp : ∀ q, q < 64 → pl q = -2) : i_Rel 0 (0, 0, (fun _ => 0), pl, (fun _ => 0), (fun _ => 0), (fun _ => 0)) (0, (fun _ => 0), (fun _ => 0)) :=
  qr_mk (n := 0) (s := 0) (by omega) (by omega) (fun i hi => absurd hi (Nat.not_lt_zero i)) (fun q hq => Or.inr ⟨hp q hq, fun j hj => absurd hj (Nat.not_lt_zero j)⟩) (qv_0 _ _ _ _)
theorem qr_i : ∀ d i pl, i + d = 64 → (∀ q, q < i → pl q = -2) → wX_init_46 (fun u => wpY_init (fun v => i_Rel 0 u v)) 0 0 (d + 1) (nI i) (fun _ => 0) pl (fun _ => 0) (fun _ => 0) (fun _ => 0) := by
  intro d
  induction d with
  | zero =>
    intro i pl hi hp
    have : i = 64 := by omega
    subst this
    exact br_t (nI_le (a := 64) (by omega) (by omega)) (qr_0 hp)
  | succ d ih =>
    intro i pl hi hp
    refine br_f (nI_ge (b := 64) (by omega) (by omega)) (And.intro (vp_in_nI (by omega) (by omega)) ?_)
    rw [nI_clamp (by omega)]
    refine nm_e (nm_r (nI_1 i) (ih (i + 1) _ (by omega) (fun q hq => ?_)))
    by_cases e : q = i
    · subst e
      exact pk_us
    · rw [pk_un e]
      exact hp q (by omega)
theorem i_vc0 : wpX_init (fun u => wpY_init (fun v => i_Rel 0 u v)) := ⟨65, qr_i 64 0 _ rfl (fun q hq => absurd hq (Nat.not_lt_zero q))⟩
end
section
/-! what is owed: add, fill, undo, size, piece -/
theorem i_vc_add {k : Nat} {u : SX} {v : SY} (I : i_Rel k u v) (hk : k + 4 ≤ 2048) (v1 : Int32) : wpX_add (fun r u' => wpY_add (fun r' v' => r' = r ∧ i_Rel (k + 4) u' v') v v1) u v1 := by
  obtain ⟨n, s, L, pl, C, P, K, col, rfl, rfl, hn, hs, hc, hp, hv⟩ := I
  unfold wpX_add
  dsimp only
  refine qx_isp (fun ok => br_f (by decide) ?_) (fun nok => br_t rfl ?_)
  · obtain ⟨⟨q, hq1, hq2, rfl⟩, h4⟩ := ok
    have ok : qc_ok (nI q) := ⟨⟨q, hq1, hq2, rfl⟩, h4⟩
    refine And.intro (vp_in_nI hq2 (by omega)) ?_
    rw [nI_clamp (by omega)]
    rcases hp q hq2 with ⟨j, hj, e1, e2⟩ | ⟨e1, e2⟩
    · rw [e2]
      refine br_f (nI_pos (by omega)) ?_
      unfold wpY_add
      dsimp only
      refine qy_badp (fun _ => br_t rfl ?_) (fun z => absurd ok z)
      refine qy_find hn (fun j' hj' _ => br_f (nI_pos (by omega)) ⟨rfl, qr_mk hn hs hc hp hv⟩) (fun z => absurd e1 (z j hj))
    · have hY : ∀ {post : Int32 → SY → Prop}, wpY_sidesThere (fun r => (r = 0 → post (-3) (nI n, L, col)) ∧ (¬ r = 0 → wpY_put (fun r u => match u with | (a, b, c) => post r (a, b, c)) (nI n, L, col) (nI q))) (nI n, L, col) (nI q) → wpY_add post (nI n, L, col) (nI q) := fun {post} h => by
        unfold wpY_add
        dsimp only
        refine qy_badp (fun _ => br_t rfl ?_) (fun z => absurd ok z)
        exact qy_find hn (fun j hj z => absurd z (e2 j hj)) (fun _ => br_t (by decide) h)
      rw [e1]
      refine br_t (by decide) (qx_hs hp hn ok.1 (fun so => br_f (by decide) ?_) (fun nso => br_t rfl ?_))
      · refine pk_eq n 26 (fun g => ?_) (fun g => ?_)
        · refine hY (qy_sth hn ok.1 (fun _ => br_f (by decide) ?_) (fun z => absurd so z))
          exact br_f (nI_ge (a := 25) (by omega) (by omega)) ⟨rfl, qr_mk hn hs hc hp hv⟩
        · refine qx_enter (by omega) hq2 ?_
          refine hY (qy_sth hn ok.1 (fun _ => br_f (by decide) ?_) (fun z => absurd so z))
          refine qy_put (by omega) ?_
          refine ⟨(nI_pred n).symm, qr_mk (by omega) (by omega) (qc_addc hc ok so e2) (qc_addp hp hq2 e2) (qv_cg (fun j hj => (pk_un (by omega : j ≠ n)).symm) hv)⟩
      · exact hY (qy_sth hn ok.1 (fun z => absurd z nso) (fun _ => br_t rfl ⟨rfl, qr_mk hn hs hc hp hv⟩))
  · unfold wpY_add
    dsimp only
    exact qy_badp (fun z => absurd z nok) (fun _ => br_f (by decide) ⟨rfl, qr_mk hn hs hc hp hv⟩)
theorem i_vc_fill {k : Nat} {u : SX} {v : SY} (I : i_Rel k u v) (hk : k + 4 ≤ 2048) (v1 : Int32) : wpX_fill (fun r u' => wpY_fill (fun r' v' => r' = r ∧ i_Rel (k + 4) u' v') v v1) u v1 := by
  obtain ⟨n, s, L, pl, C, P, K, col, rfl, rfl, hn, hs, hc, hp, hv⟩ := I
  unfold wpX_fill
  dsimp only
  refine qx_isp (fun ok => br_f (by decide) ?_) (fun nok => br_t rfl ?_)
  · obtain ⟨⟨r, hr1, hr2, rfl⟩, h4⟩ := ok
    have ok : qc_ok (nI r) := ⟨⟨r, hr1, hr2, rfl⟩, h4⟩
    have hF : ql_F pl r 64 = ql_F pl r (r + 1) := ql_F64 hr2 64 (by omega) (by omega)
    have hFb : ql_F pl r (r + 1) ≤ r + 1 := qn_le _ _
    have hY : ∀ {post : Int32 → SY → Prop}, ((nI n + nI (ql_F pl r 64)) ≤ 26 → (∃ f, wY_fill_60 post (nI r) f 1 (nI n) L col)) ∧ (¬ (nI n + nI (ql_F pl r 64)) ≤ 26 → post (-2) (nI n, L, col)) → wpY_fill post (nI n, L, col) (nI r) := fun {post} h => by
      unfold wpY_fill
      dsimp only
      refine qy_badp (fun _ => br_t rfl ⟨64, ?_⟩) (fun z => absurd ok z)
      exact qy_f14 hn hp h 63 1 (by omega) (by omega)
    refine ⟨r + 1, ?_⟩
    refine qx_f13 hr2 (pk_le (n + ql_F pl r (r + 1)) 26 (fun g => ?_) (fun g => ?_) (nI_add _ _) rfl) r 1 (by omega) (by omega)
    · obtain ⟨n', L', pl', a1, a2, a3, a4, a5, a6, a7⟩ := ql_lk (C := C) (P := P) (K := K) (s := nI s) (n0 := n) (pl0 := pl) hr2 h4 g r 1 n L pl (by omega) (by omega) hc hp (by
          have : ql_F pl r 1 = 0 := rfl
          omega) (fun _ _ _ => rfl) (fun q' b1 b2 => by omega)
      refine ⟨r + 1, a6 _ ?_⟩
      refine hY (pk_le (n + ql_F pl r (r + 1)) 26 (fun _ => ⟨64, a7 _ col 64 (by omega) ⟨rfl, qr_mk a2 (by omega) a4 a5 (qv_cg (fun j hj => (a3 j (by omega)).symm) hv)⟩⟩) (fun z => by omega) (by rw [hF, nI_add]) rfl)
    · refine hY (pk_le (n + ql_F pl r (r + 1)) 26 (fun z => by omega) (fun _ => ⟨rfl, qr_mk hn hs hc hp hv⟩) (by rw [hF, nI_add]) rfl)
  · unfold wpY_fill
    dsimp only
    exact qy_badp (fun z => absurd z nok) (fun _ => br_f (by decide) ⟨rfl, qr_mk hn hs hc hp hv⟩)
theorem qc_undo {L pl : Nat → Int32} {m q : Nat} (hc : qc_cx L (m + 1)) (hp : qc_pl L (m + 1) pl) (hq : q < 64) (e : L m = nI q) : qc_cx L m ∧ qc_pl L m (upd pl q (-2)) := by
  refine ⟨fun i hi => hc i (by omega), fun r hr => ?_⟩
  by_cases g : r = q
  · subst g
    refine Or.inr ⟨pk_us, fun j hj h => ?_⟩
    have := qc_inj hc (by omega) (by omega) (h.trans e.symm)
    omega
  · rw [pk_un g]
    rcases hp r hr with ⟨j, hj, e1, e2⟩ | ⟨e1, e2⟩
    · refine Or.inl ⟨j, ?_, e1, e2⟩
      rcases Nat.lt_or_ge j m with z | z
      · exact z
      · have : j = m := by omega
        subst this
        rw [e] at e1
        exact absurd ((nI_eq (by omega) (by omega)).mp e1).symm g
    · exact Or.inr ⟨e1, fun j hj => e2 j (by omega)⟩
theorem i_vc_undo {k : Nat} {u : SX} {v : SY} (I : i_Rel k u v) (hk : k + 4 ≤ 2048) : wpX_undo (fun r u' => wpY_undo (fun r' v' => r' = r ∧ i_Rel (k + 4) u' v') v) u := by
  obtain ⟨n, s, L, pl, C, P, K, col, rfl, rfl, hn, hs, hc, hp, hv⟩ := I
  rcases n with _ | m
  · exact br_t rfl (br_t rfl ⟨rfl, qr_mk hn hs hc hp hv⟩)
  · have h0 : ¬ nI (m + 1) = 0 := nI_ne0 (by omega) (by omega)
    obtain ⟨q, hq1, hq2, e⟩ := (hc m (by omega)).1
    obtain ⟨hc', hp'⟩ := qc_undo hc hp hq2 e
    have hin : vp_in (nI m) 26 := vp_in_nI (by omega) (by omega)
    have hY : ∀ {post : Int32 → SY → Prop}, post (nI q) (nI m, L, col) → wpY_undo post (nI (m + 1), L, col) := fun {post} h => by
      refine br_f h0 (nm_r (nI_pred m) (And.intro hin ?_))
      rw [nI_clamp (by omega), e]
      exact h
    refine br_f h0 (nm_r (nI_pred m) (And.intro hin ?_))
    rw [nI_clamp (by omega), e]
    refine And.intro (vp_in_nI hq2 (by omega)) ?_
    rw [nI_clamp (by omega)]
    refine nm_e (pk_le s m (fun g => And.intro hin ?_) (fun g => And.intro hin ?_))
    · exact hY ⟨rfl, qr_mk (by omega) g hc' hp' hv⟩
    · exact hY ⟨rfl, qr_mk (s := 0) (by omega) (by omega) hc' hp' (qv_0 _ _ _ _)⟩
theorem i_vc_size {k : Nat} {u : SX} {v : SY} (I : i_Rel k u v) (hk : k + 4 ≤ 2048) : wpX_size (fun r => wpY_size (fun r' => r' = r ∧ i_Rel (k + 4) u v) v) u := by
  obtain ⟨n, s, L, pl, C, P, K, col, rfl, rfl, hn, hs, hc, hp, hv⟩ := I
  exact ⟨rfl, qr_mk hn hs hc hp hv⟩
theorem i_vc_piece {k : Nat} {u : SX} {v : SY} (I : i_Rel k u v) (hk : k + 4 ≤ 2048) (v1 : Int32) : wpX_piece (fun r => wpY_piece (fun r' => r' = r ∧ i_Rel (k + 4) u v) v v1) u v1 := by
  obtain ⟨n, s, L, pl, C, P, K, col, rfl, rfl, hn, hs, hc, hp, hv⟩ := I
  unfold wpX_piece wpY_piece
  dsimp only
  rcases qk_i v1 (by omega : n < 2 ^ 31) with h | ⟨j, hj, rfl⟩
  · exact qx_g0 h (br_t rfl (qy_g1 h (br_f (by decide) ⟨rfl, qr_mk hn hs hc hp hv⟩)))
  · have hin : vp_in (nI j) 26 := vp_in_nI (by omega) (by omega)
    exact qx_g1 hn hj (br_f (by decide) (And.intro hin (qy_g0 hn hj (br_t rfl (And.intro hin ⟨rfl, qr_mk hn hs hc hp hv⟩)))))
end
section
/-! what is owed: the questions -/
theorem i_vc_pieces {k : Nat} {u : SX} {v : SY} (I : i_Rel k u v) (hk : k + 4 ≤ 2048) (v1 : Int32) (v2 : Int32) : wpX_pieces (fun r => wpY_pieces (fun r' => r' = r ∧ i_Rel (k + 4) u v) v v1 v2) u v1 v2 := by
  obtain ⟨n, s, L, pl, C, P, K, col, rfl, rfl, hn, hs, hc, hp, hv⟩ := I
  unfold wpX_pieces wpY_pieces
  dsimp only
  rcases qk_c v1 (by omega : n < 2 ^ 31) with h | ⟨t, ht, rfl⟩
  · exact qk_b h (qy_t1 h (br_f (by decide) ⟨rfl, qr_mk hn hs hc hp hv⟩))
  · refine qk_g (nI_pos (by omega)) (nI_le ht (by omega)) ?_
    rcases qk_c v2 (by omega : 3 < 2 ^ 31) with h | ⟨e, he, rfl⟩
    · exact qk_b h (qy_t0 hn ht (br_t rfl (qy_d1 h (br_f (by decide) ⟨rfl, qr_mk hn hs hc hp hv⟩))))
    · refine qk_g (nI_pos (by omega)) (nI_le (b := 3) he (by omega)) ⟨t + 1, qx_pcs1 hc hn ht (by omega) ?_ t 0 (by omega)⟩
      exact qy_t0 hn ht (br_t rfl (qy_d0 he (br_t rfl (qy_tally hc hn ht (by omega) ⟨rfl, qr_mk hn hs hc hp hv⟩))))
theorem i_vc_holes {k : Nat} {u : SX} {v : SY} (I : i_Rel k u v) (hk : k + 4 ≤ 2048) (v1 : Int32) (v2 : Int32) : wpX_holes (fun r u' => wpY_holes (fun r' v' => r' = r ∧ i_Rel (k + 4) u' v') v v1 v2) u v1 v2 := by
  obtain ⟨n, s, L, pl, C, P, K, col, rfl, rfl, hn, hs, hc, hp, hv⟩ := I
  unfold wpX_holes wpY_holes
  dsimp only
  rcases qk_c v1 (by omega : n < 2 ^ 31) with h | ⟨t, ht, rfl⟩
  · exact qk_b h (qy_t1 h (br_f (by decide) ⟨rfl, qr_mk hn hs hc hp hv⟩))
  · refine qk_g (nI_pos (by omega)) (nI_le ht (by omega)) ?_
    rcases qk_c v2 (by omega : 3 < 2 ^ 31) with h | ⟨e, he, rfl⟩
    · exact qk_b h (qy_t0 hn ht (br_t rfl (qy_d1 h (br_f (by decide) ⟨rfl, qr_mk hn hs hc hp hv⟩))))
    · refine qk_g (nI_pos (by omega)) (nI_le (b := 3) he (by omega)) (qx_living hc hn hp hs hv ht ht (by omega) (fun C' P' K' hv' => ?_))
      exact qy_t0 hn ht (br_t rfl (qy_d0 he (br_t rfl (qy_last hc hn hp hv' ht ht he (fun col' => ⟨rfl, qr_mk hn (Nat.le_refl n) hc hp hv'⟩)))))
theorem i_vc_lasting {k : Nat} {u : SX} {v : SY} (I : i_Rel k u v) (hk : k + 4 ≤ 2048) (v1 : Int32) (v2 : Int32) (v3 : Int32) : wpX_lasting (fun r u' => wpY_lasting (fun r' v' => r' = r ∧ i_Rel (k + 4) u' v') v v1 v2 v3) u v1 v2 v3 := by
  obtain ⟨n, s, L, pl, C, P, K, col, rfl, rfl, hn, hs, hc, hp, hv⟩ := I
  unfold wpX_lasting wpY_lasting
  dsimp only
  rcases qk_c v1 (by omega : n < 2 ^ 31) with h | ⟨i, hi, rfl⟩
  · rcases h with h | ⟨h, g⟩
    · exact br_t h (qy_t1 (Or.inl h) (br_f (by decide) ⟨rfl, qr_mk hn hs hc hp hv⟩))
    · refine br_f h (br_c (fun _ => ?_) (fun y => br_f (fun z => ?_) ?_))
      · exact qy_t1 (Or.inr ⟨h, g⟩) (br_f (by decide) ⟨rfl, qr_mk hn hs hc hp hv⟩)
      · rw [Int32.lt_iff_toInt_lt] at y
        rw [Int32.le_iff_toInt_le] at g z
        omega
      · exact qy_t1 (Or.inr ⟨h, g⟩) (br_f (by decide) ⟨rfl, qr_mk hn hs hc hp hv⟩)
  · refine br_f (nI_pos (by omega)) ?_
    rcases qk_c v2 (by omega : n < 2 ^ 31) with h | ⟨j, hj, rfl⟩
    · rcases h with h | ⟨h, g⟩
      · refine br_t ?_ (qy_t0 hn hi (br_t rfl (qy_t1 (Or.inl h) (br_f (by decide) ⟨rfl, qr_mk hn hs hc hp hv⟩))))
        have := nI_pos' (n := i) (by omega)
        rw [Int32.lt_iff_toInt_lt] at h ⊢
        rw [Int32.le_iff_toInt_le] at this
        omega
      · refine br_f (fun z => g ?_) (br_f g (qy_t0 hn hi (br_t rfl (qy_t1 (Or.inr ⟨h, g⟩) (br_f (by decide) ⟨rfl, qr_mk hn hs hc hp hv⟩)))))
        have := nI_le hi (by omega)
        rw [Int32.lt_iff_toInt_lt] at z
        rw [Int32.le_iff_toInt_le] at this ⊢
        omega
    · refine pk_lt j i (fun y => ?_) (fun y => br_t (nI_le hj (by omega)) ?_)
      · exact qy_t0 hn hi (br_t rfl (qy_t0 hn hj (br_t rfl (br_f (nI_ge (by omega) (by omega)) ⟨rfl, qr_mk hn hs hc hp hv⟩))))
      · rcases qk_c v3 (by omega : 3 < 2 ^ 31) with h | ⟨e, he, rfl⟩
        · exact qk_b h (qy_t0 hn hi (br_t rfl (qy_t0 hn hj (br_t rfl (br_t (nI_le y (by omega)) (qy_d1 h (br_f (by decide) ⟨rfl, qr_mk hn hs hc hp hv⟩)))))))
        · refine qk_g (nI_pos (by omega)) (nI_le (b := 3) he (by omega)) (qx_living hc hn hp hs hv hi hj (by omega) (fun C' P' K' hv' => ?_))
          exact qy_t0 hn hi (br_t rfl (qy_t0 hn hj (br_t rfl (br_t (nI_le y (by omega)) (qy_d0 he (br_t rfl (qy_last hc hn hp hv' hi hj he (fun col' => ⟨rfl, qr_mk hn (Nat.le_refl n) hc hp hv'⟩))))))))
theorem i_vc_opens {k : Nat} {u : SX} {v : SY} (I : i_Rel k u v) (hk : k + 4 ≤ 2048) (v1 : Int32) : wpX_opens (fun r u' => wpY_opens (fun r' v' => r' = r ∧ i_Rel (k + 4) u' v') v v1) u v1 := by
  obtain ⟨n, s, L, pl, C, P, K, col, rfl, rfl, hn, hs, hc, hp, hv⟩ := I
  unfold wpX_opens wpY_opens
  dsimp only
  rcases qk_i v1 (by omega : n < 2 ^ 31) with h | ⟨j, hj, rfl⟩
  · exact qx_g0 h (br_t rfl (qy_g1 h (br_f (by decide) ⟨rfl, qr_mk hn hs hc hp hv⟩)))
  · refine qx_g1 hn hj (br_f (by decide) (qx_solve hc hn hp hs hv (fun C' P' K' hv' => And.intro (vp_in_nI (by omega) (by omega)) ?_)))
    rw [nI_clamp (by omega)]
    refine br_c (fun z => ?_) (fun z => ?_)
    · exact qy_g0 hn hj (br_t rfl (qy_opening hc hn hp hv' hj (fun y => absurd z y) (fun _ col' => br_f (by decide) ⟨rfl, qr_mk hn (Nat.le_refl n) hc hp hv'⟩)))
    · exact qy_g0 hn hj (br_t rfl (qy_opening hc hn hp hv' hj (fun _ col' => br_t rfl ⟨rfl, qr_mk hn (Nat.le_refl n) hc hp hv'⟩) (fun y => absurd y z)))
theorem i_vc_partner {k : Nat} {u : SX} {v : SY} (I : i_Rel k u v) (hk : k + 4 ≤ 2048) (v1 : Int32) : wpX_partner (fun r u' => wpY_partner (fun r' v' => r' = r ∧ i_Rel (k + 4) u' v') v v1) u v1 := by
  obtain ⟨n, s, L, pl, C, P, K, col, rfl, rfl, hn, hs, hc, hp, hv⟩ := I
  unfold wpX_partner wpY_partner
  dsimp only
  rcases qk_i v1 (by omega : n < 2 ^ 31) with h | ⟨j, hj, rfl⟩
  · exact qx_g0 h (br_t rfl (qy_g1 h (br_f (by decide) ⟨rfl, qr_mk hn hs hc hp hv⟩)))
  · refine qx_g1 hn hj (br_f (by decide) (qx_solve hc hn hp hs hv (fun C' P' K' hv' => And.intro (vp_in_nI (by omega) (by omega)) ?_)))
    rw [nI_clamp (by omega)]
    exact qy_g0 hn hj (br_t rfl (qy_mate hc hn hp hv' hj (fun col' => ⟨rfl, qr_mk hn (Nat.le_refl n) hc hp hv'⟩)))
theorem i_vc_forever {k : Nat} {u : SX} {v : SY} (I : i_Rel k u v) (hk : k + 4 ≤ 2048) (v1 : Int32) : wpX_forever (fun r u' => wpY_forever (fun r' v' => r' = r ∧ i_Rel (k + 4) u' v') v v1) u v1 := by
  obtain ⟨n, s, L, pl, C, P, K, col, rfl, rfl, hn, hs, hc, hp, hv⟩ := I
  unfold wpX_forever wpY_forever
  dsimp only
  rcases qk_c v1 (by omega : 3 < 2 ^ 31) with h | ⟨e, he, rfl⟩
  · exact qk_b h (qy_d1 h (br_f (by decide) ⟨rfl, qr_mk hn hs hc hp hv⟩))
  · refine qk_g (nI_pos (by omega)) (nI_le (b := 3) he (by omega)) (qx_living hc hn hp hs hv (Nat.le_refl n) (Nat.le_refl n) (by omega) (fun C' P' K' hv' => ?_))
    exact qy_d0 he (br_t rfl ⟨n + 1, qy_fo1 hc hn hp hv' (by omega) (fun col' => ⟨rfl, qr_mk hn (Nat.le_refl n) hc hp hv'⟩) n 0 col (by omega)⟩)
theorem i_vc_longest {k : Nat} {u : SX} {v : SY} (I : i_Rel k u v) (hk : k + 4 ≤ 2048) (v1 : Int32) : wpX_longest (fun r u' => wpY_longest (fun r' v' => r' = r ∧ i_Rel (k + 4) u' v') v v1) u v1 := by
  obtain ⟨n, s, L, pl, C, P, K, col, rfl, rfl, hn, hs, hc, hp, hv⟩ := I
  unfold wpX_longest wpY_longest
  dsimp only
  rcases qk_c v1 (by omega : 3 < 2 ^ 31) with h | ⟨e, he, rfl⟩
  · exact qk_b h (qy_d1 h (br_f (by decide) ⟨rfl, qr_mk hn hs hc hp hv⟩))
  · refine qk_g (nI_pos (by omega)) (nI_le (b := 3) he (by omega)) (qx_solve hc hn hp hs hv (fun C' P' K' hv' => ⟨n + 1, qx_lon1 hc hn hp hv' (by omega) ?_ n 0 (by omega)⟩))
    exact qy_d0 he (br_t rfl ⟨n + 1, qy_lo1 hc hn hp hv' (by omega) (fun col' => ⟨rfl, qr_mk hn (Nat.le_refl n) hc hp hv'⟩) n 0 col (by omega)⟩)
theorem qx_eul {L pl C P K : Nat → Int32} {n : Nat} {c s : Int32} (hc : qc_cx L n) (hn : n ≤ 26) {t : Nat} (ht : t ≤ n) {post : Int32 → Prop} (h : post (qv_eu L t)) : ∃ f, wX_euler_20 post (nI t) c s L pl C P K f 0 0 := by
  have e0 : qv_eu L 0 = 0 := by
    show ((nI 0 - nI 0) + nI 0) - nI 0 = 0
    decide
  have hh := qx_eul1 (c := c) (s := s) (pl := pl) (C := C) (P := P) (K := K) hc hn ht h t 0 (by omega)
  rw [e0] at hh
  exact ⟨t + 1, hh⟩
theorem i_vc_euler {k : Nat} {u : SX} {v : SY} (I : i_Rel k u v) (hk : k + 4 ≤ 2048) (v1 : Int32) : wpX_euler (fun r => wpY_euler (fun r' => r' = r ∧ i_Rel (k + 4) u v) v v1) u v1 := by
  obtain ⟨n, s, L, pl, C, P, K, col, rfl, rfl, hn, hs, hc, hp, hv⟩ := I
  unfold wpX_euler wpY_euler
  dsimp only
  rcases qk_c v1 (by omega : n < 2 ^ 31) with h | ⟨t, ht, rfl⟩
  · exact qk_b h (qy_t1 h (br_f (by decide) ⟨rfl, qr_mk hn hs hc hp hv⟩))
  · refine qk_g (nI_pos (by omega)) (nI_le ht (by omega)) (qx_eul hc hn ht ?_)
    exact qy_t0 hn ht (br_t rfl (qy_tally hc hn (k := 0) ht (by omega) (qy_tally hc hn (k := 1) ht (by omega) (qy_tally hc hn (k := 2) ht (by omega) (qy_tally hc hn (k := 3) ht (by omega) ⟨rfl, qr_mk hn hs hc hp hv⟩)))))
end
section
/-! what is owed: border and bounds -/
theorem qx_c0 {L pl C P K : Nat → Int32} {c s v : Int32} {post : Int32 → Prop} (h : v < 0 ∨ (¬ v < 0 ∧ ¬ v < (1 : Int32) <<< (c &&& 31))) (a : post 0) : wpX_isChain post (c, s, L, pl, C, P, K) v := by
  rcases h with h | ⟨h, g⟩
  · exact br_t h a
  · exact br_f h (br_t (Int32.not_lt.mp g) a)
theorem qx_c1 {L pl C P K : Nat → Int32} {c s v : Int32} {post : Int32 → Prop} (h : ¬ v < 0) (g : v < (1 : Int32) <<< (c &&& 31)) (a : post 1) : wpX_isChain post (c, s, L, pl, C, P, K) v :=
  br_f h (br_f (Int32.not_le.mpr g) a)
theorem qy_c0 {v b : Int32} {A G : Prop} (h : v < 0 ∨ (¬ v < 0 ∧ ¬ v < b)) (a : A) : (v < 0 → A) ∧ (¬ v < 0 → ((v < b → G) ∧ (¬ v < b → A))) := by
  rcases h with h | ⟨h, g⟩
  · exact br_t h a
  · exact br_f h (br_f g a)
theorem qe_ny {L : Nat → Int32} {w : Int32} {n : Nat} (hc : qc_cx L n) {o : Option Nat} (h : qe_sc L w n = some o) : ¬ qe_cy o = -2 := by
  rcases o with _ | d
  · exact (by decide : ¬ (-1 : Int32) = -2)
  · have := qe_d hc n (Nat.le_refl n) d h
    exact fun e => qv_n2 (b := d) (by omega) e.symm
theorem i_vc_border {k : Nat} {u : SX} {v : SY} (I : i_Rel k u v) (hk : k + 4 ≤ 2048) (v1 : Int32) : wpX_border (fun r => wpY_border (fun r' => r' = r ∧ i_Rel (k + 4) u v) v v1) u v1 := by
  obtain ⟨n, s, L, pl, C, P, K, col, rfl, rfl, hn, hs, hc, hp, hv⟩ := I
  have R : i_Rel (k + 4) (nI n, nI s, L, pl, C, P, K) (nI n, L, col) := qr_mk hn hs hc hp hv
  unfold wpX_border wpY_border
  dsimp only
  by_cases a : v1 < 0
  · exact qx_c0 (Or.inl a) (br_t rfl (br_t a ⟨rfl, R⟩))
  · by_cases b : v1 < (1 : Int32) <<< (nI n &&& 31)
    · refine qx_c1 a b (br_f (by decide) ?_)
      rcases e : qe_sc L v1 n with _ | o
      · refine qx_even hc hn (fun o z => by rw [e] at z; cases z) (fun _ => br_t rfl ?_)
        exact br_f a (br_t b (qy_cdim hc hn (fun o z => by rw [e] at z; cases z) (fun _ => br_t rfl ⟨rfl, R⟩)))
      · refine qx_even hc hn (fun o' z => br_f (by decide) (qx_border hc hn hp ?_)) (fun z => by rw [e] at z; cases z)
        exact br_f a (br_t b (qy_cdim hc hn (fun o'' y => br_f (qe_ny hc y) (qy_edge hc hn ⟨rfl, R⟩)) (fun z => by rw [e] at z; cases z)))
    · exact qx_c0 (Or.inr ⟨a, b⟩) (br_t rfl (br_f a (br_f b ⟨rfl, R⟩)))
section
variable {L pl C P K : Nat → Int32} {n : Nat}
/-- the chain is in the span of the borders of one dimension more -/
def qe_a (L C : Nat → Int32) (n : Nat) (w : Int32) (o : Option Nat) : Prop := ∀ d, o = some d → qs_sp (qv_mk L C (d + 1)) n w
theorem qe_z {w : Int32} (hb : ∀ j, n ≤ j → bt w j = false) (h : qe_sc L w n = some none) : w = 0 := by
  apply b_ext
  intro j _
  rw [b_0]
  rcases Nat.lt_or_ge j n with z | z
  · cases g : bt w j
    · rfl
    · have := qe_p n none h j z g
      cases this
  · exact hb j z
theorem qx_bnd (hn : n ≤ 26) (hv : qv_sv L n C P K) {s w : Int32} {o : Option Nat} (hb : ∀ j, n ≤ j → bt w j = false) (ho : qe_sc L w n = some o) {post : Int32 → SX → Prop}
    (h1 : qe_a L C n w o → post 1 (nI n, s, L, pl, C, P, K)) (h0 : ¬ qe_a L C n w o → post 0 (nI n, s, L, pl, C, P, K)) : wX_bounds_44 post (nI n) s L pl C P K (n + 1) w (nI n - 1) := by
  rcases o with _ | d
  · have z := qe_z hb ho
    have a : qe_a L C n w none := fun d h => by cases h
    refine qx_bn1 hn hv (w0 := 0) (e := 0) (fun _ => h1 a) (fun y => absurd (qs_0 _ n) y) n w (Nat.le_refl n) ?_ hb (fun j hj => ?_)
    · rw [z, Int32.xor_zero]
      exact qs_0 _ n
    · rw [z, b_0] at hj
      exact absurd hj Bool.false_ne_true
  · refine qx_bn1 hn hv (w0 := w) (e := d) (fun y => h1 (fun d' h => ?_)) (fun y => h0 (fun h => y (h d rfl))) n w (Nat.le_refl n) ?_ hb (fun j hj => ?_)
    · have := Option.some.inj h
      rw [← this]
      exact y
    · rw [Int32.xor_self]
      exact qs_0 _ n
    · have hjn : j < n := by
        rcases Nat.lt_or_ge j n with z | z
        · exact z
        · rw [hb j z] at hj
          exact absurd hj Bool.false_ne_true
      exact (Option.some.inj (qe_p n (some d) ho j hjn hj)).symm
theorem qy_gn0 (hv : qv_sv L n C P K) (k : Nat) (w : Int32) : qs_sp (qy_gn L k 0) n w ↔ qs_sp (qv_mk L C k) n w := by
  have e : ∀ j, qy_gn L k 0 j = qv_mk L (qc_sd L) k j := fun j => qw_ctz _
  exact ⟨fun h => qv_e2 hv k (Nat.le_refl n) (qs_c (fun j _ => e j) h), fun h => qs_c (fun j _ => (e j).symm) (qv_e1 hv k n (Nat.le_refl n) w h)⟩
theorem qy_bnd (hc : qc_cx L n) (hn : n ≤ 26) (hv : qv_sv L n C P K) {w : Int32} {o : Option Nat} {col : Nat → Int32} (a : ¬ w < 0) (b : w < (1 : Int32) <<< (nI n &&& 31)) (ho : qe_sc L w n = some o) (hd : qc_bd (qc_sd L) w n = 0) {post : Int32 → SY → Prop}
    (h1 : qe_a L C n w o → ∀ col, post 1 (nI n, L, col)) (h0 : ¬ qe_a L C n w o → ∀ col, post 0 (nI n, L, col)) : wpY_bounds post (nI n, L, col) w := by
  refine br_f a (br_t b (qy_cdim hc hn (fun o' y => br_f (qe_ny hc y) (qy_edge hc hn ?_)) (fun z => by rw [ho] at z; cases z)))
  rw [ho] at y
  have e := Option.some.inj y
  subst e
  rw [hd]
  refine br_t rfl ?_
  rcases o with _ | d
  · have z := qe_z (qw_bb hn a b) ho
    have ha : qe_a L C n w none := fun d h => by cases h
    rw [show qe_cy none + 1 = nI 0 from by decide]
    refine qy_rank hc hn hv (f := 0) (Nat.le_refl n) (by omega) (by omega) (fun col1 _ _ => ⟨1, ?_⟩)
    rw [z]
    exact qy_bn0 (h1 ha col1)
  · have h3 := qe_d hc n (Nat.le_refl n) d ho
    rw [show qe_cy (some d) + 1 = nI (d + 1) from nI_1 d]
    refine qy_rank hc hn hv (f := 0) (Nat.le_refl n) (by omega) (by omega) (fun col1 hri hsp => ⟨qv_rk L C (d + 1) 0 n + 1, ?_⟩)
    have hR : qv_rk L C (d + 1) 0 n ≤ n := qn_le _ n
    have key := (hsp w).trans (qy_gn0 hv (d + 1) w)
    refine qy_bn1 (by omega) hri (w0 := w) (nI_pos (by omega)) (fun q => h1 (fun d' h => ?_) col1) (fun q => h0 (fun h => q (key.mpr (h d rfl))) col1) _ 0 w (by omega) ?_ (fun x hx => absurd hx (Nat.not_lt_zero x))
    · have := Option.some.inj h
      rw [← this]
      exact key.mp q
    · rw [Int32.xor_self]
      exact qs_0 _ _
end
theorem i_vc_bounds {k : Nat} {u : SX} {v : SY} (I : i_Rel k u v) (hk : k + 4 ≤ 2048) (v1 : Int32) : wpX_bounds (fun r u' => wpY_bounds (fun r' v' => r' = r ∧ i_Rel (k + 4) u' v') v v1) u v1 := by
  obtain ⟨n, s, L, pl, C, P, K, col, rfl, rfl, hn, hs, hc, hp, hv⟩ := I
  have R : i_Rel (k + 4) (nI n, nI s, L, pl, C, P, K) (nI n, L, col) := qr_mk hn hs hc hp hv
  unfold wpX_bounds
  dsimp only
  by_cases a : v1 < 0
  · exact qx_c0 (Or.inl a) (br_t rfl (br_t a ⟨rfl, R⟩))
  · by_cases b : v1 < (1 : Int32) <<< (nI n &&& 31)
    · refine qx_c1 a b (br_f (by decide) ?_)
      rcases e : qe_sc L v1 n with _ | o
      · refine qx_even hc hn (fun o z => by rw [e] at z; cases z) (fun _ => br_t rfl ?_)
        exact br_f a (br_t b (qy_cdim hc hn (fun o z => by rw [e] at z; cases z) (fun _ => br_t rfl ⟨rfl, R⟩)))
      · refine qx_even hc hn (fun o' z => br_f (by decide) (qx_border hc hn hp ?_)) (fun z => by rw [e] at z; cases z)
        by_cases g : qc_bd (qc_sd L) v1 n = 0
        · refine br_t g (qx_solve hc hn hp hs hv (fun C' P' K' hv' => nm_e ⟨n + 1, qx_bnd hn hv' (qw_bb hn a b) e (fun y => ?_) (fun y => ?_)⟩))
          · exact qy_bnd hc hn hv' a b e g (fun _ col' => ⟨rfl, qr_mk hn (Nat.le_refl n) hc hp hv'⟩) (fun z => absurd y z)
          · exact qy_bnd hc hn hv' a b e g (fun z => absurd z y) (fun _ col' => ⟨rfl, qr_mk hn (Nat.le_refl n) hc hp hv'⟩)
        · refine br_f g ?_
          exact br_f a (br_t b (qy_cdim hc hn (fun o'' y => br_f (qe_ny hc y) (qy_edge hc hn (br_f g ⟨rfl, R⟩))) (fun z => by rw [e] at z; cases z)))
    · exact qx_c0 (Or.inr ⟨a, b⟩) (br_t rfl (br_f a (br_f b ⟨rfl, R⟩)))
end
