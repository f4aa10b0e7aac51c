section
/-! rows of kit/rows (starting texts) -/
def bt (x : Int32) (i : Nat) : Bool := x.toBitVec.getLsbD i
theorem b_ext {x y : Int32} (h : ∀ i, i < 32 → bt x i = bt y i) : x = y := Int32.toBitVec_inj.mp (BitVec.eq_of_getLsbD_eq (fun i hi => h i hi))
theorem b_or (x y : Int32) (i : Nat) : bt (x ||| y) i = (bt x i || bt y i) := by unfold bt; rw [Int32.toBitVec_or, BitVec.getLsbD_or]
theorem b_and (x y : Int32) (i : Nat) : bt (x &&& y) i = (bt x i && bt y i) := by unfold bt; rw [Int32.toBitVec_and, BitVec.getLsbD_and]
theorem b_xor (x y : Int32) (i : Nat) : bt (x ^^^ y) i = (bt x i ^^ bt y i) := by unfold bt; rw [Int32.toBitVec_xor, BitVec.getLsbD_xor]
theorem b_big {x : Int32} {i : Nat} (h : 32 ≤ i) : bt x i = false := BitVec.getLsbD_of_ge _ _ h
theorem b_m1 : ∀ i, i < 32 → bt (-1) i = true := by decide +kernel
theorem b_0 (i : Nat) : bt 0 i = false := BitVec.getLsbD_zero
theorem s_l : ∀ n, n < 32 → ((nI n &&& 31).toBitVec.smod 32).toNat = n := by decide +kernel
theorem b_shl (n : Nat) (hn : n < 32) (x : Int32) {i : Nat} (hi : i < 32) : bt (x <<< (nI n &&& 31)) i = (decide (n ≤ i) && bt x (i - n)) := by
  unfold bt
  rw [Int32.toBitVec_shiftLeft]
  show (x.toBitVec <<< ((nI n &&& 31).toBitVec.smod 32).toNat).getLsbD i = _
  rw [s_l n hn, BitVec.getLsbD_shiftLeft]
  rcases Nat.lt_or_ge i n with h | h
  · simp [h, Nat.not_le.mpr h]
  · simp [hi, h, Nat.not_lt.mpr h]
theorem b_sshr (n : Nat) (hn : n < 32) (x : Int32) {i : Nat} (hi : i < 32) : bt (x >>> (nI n &&& 31)) i = if n + i < 32 then bt x (n + i) else bt x 31 := by
  unfold bt
  rw [Int32.toBitVec_shiftRight]
  show (x.toBitVec.sshiftRight ((nI n &&& 31).toBitVec.smod 32).toNat).getLsbD i = _
  rw [s_l n hn, BitVec.getLsbD_sshiftRight, BitVec.msb_eq_getLsbD_last]
  simp [hi]
theorem pk_us {f : Nat → Int32} {k : Nat} {x : Int32} : upd f k x k = x := if_pos rfl
theorem pk_un {f : Nat → Int32} {k j : Nat} {x : Int32} (h : j ≠ k) : upd f k x j = f j := if_neg h
theorem pk_sub {a b : Nat} (h : b ≤ a) : nI a - nI b = nI (a - b) := by
  obtain ⟨c, rfl⟩ : ∃ c, a = c + b := ⟨a - b, by omega⟩
  rw [← nI_add, Int32.add_sub_cancel, Nat.add_sub_cancel]
theorem pk_m1 (n : Nat) : nI (n + 1) + (-1) = nI n := by
  rw [← nI_1, Int32.add_assoc, show (1 : Int32) + (-1) = 0 from rfl, Int32.add_zero]
theorem pk_mul (a b : Nat) : nI a * nI b = nI (a * b) := (Int32.ofNat_mul a b).symm
theorem pk_div {a d : Nat} (ha : a < 2 ^ 31) (h0 : 0 < d) (hd : d < 2 ^ 31) : nI a / nI d = nI (a / d) := by
  apply Int32.toInt_inj.mp
  rw [lg_idiv_nonneg (by rw [nI_toInt ha]; omega) (by rw [nI_toInt hd]; omega), nI_toInt ha, nI_toInt hd, nI_toInt (Nat.lt_of_le_of_lt (Nat.div_le_self a d) ha)]
  first | rfl | exact (Int.natCast_ediv _ _).symm
theorem pk_rem {a d : Nat} (ha : a < 2 ^ 31) (h0 : 0 < d) (hd : d < 2 ^ 31) : nI a - nI a / nI d * nI d = nI (a % d) := by
  rw [pk_div ha h0 hd, pk_mul, pk_sub (Nat.div_mul_le_self a d)]
  exact congrArg nI (by have := Nat.div_add_mod' a d; omega)
theorem pk_ix (x : Int32) {n : Nat} (hn : n < 2 ^ 31) : x < 0 ∨ nI n ≤ x ∨ ∃ j : Nat, j < n ∧ x = nI j := by
  by_cases h : x < 0
  · exact Or.inl h
  · obtain ⟨j, hj, rfl⟩ := nI_of h
    by_cases h2 : j < n
    · exact Or.inr (Or.inr ⟨j, h2, rfl⟩)
    · exact Or.inr (Or.inl (nI_le (by omega) hj))
theorem pk_le {x y : Int32} {A B : Prop} (a b : Nat) (f : a ≤ b → A) (g : b < a → B) (hx : x = nI a := by rfl) (hy : y = nI b := by rfl) (ha : a < 2 ^ 31 := by omega) (hb : b < 2 ^ 31 := by omega) : (x ≤ y → A) ∧ (¬ x ≤ y → B) := by
  subst hx hy
  rw [nI_leI ha hb]
  exact ⟨f, fun z => g (by omega)⟩
theorem pk_lt {x y : Int32} {A B : Prop} (a b : Nat) (f : a < b → A) (g : b ≤ a → B) (hx : x = nI a := by rfl) (hy : y = nI b := by rfl) (ha : a < 2 ^ 31 := by omega) (hb : b < 2 ^ 31 := by omega) : (x < y → A) ∧ (¬ x < y → B) := by
  subst hx hy
  rw [nI_ltI ha hb]
  exact ⟨f, fun z => g (by omega)⟩
theorem pk_eq {x y : Int32} {A B : Prop} (a b : Nat) (f : a = b → A) (g : a ≠ b → B) (hx : x = nI a := by rfl) (hy : y = nI b := by rfl) (ha : a < 2 ^ 31 := by omega) (hb : b < 2 ^ 31 := by omega) : (x = y → A) ∧ (¬ x = y → B) := by
  subst hx hy
  rw [nI_eq ha hb]
  exact ⟨f, g⟩
theorem pk_in {x : Int32} (n N : Nat) (h : n < N) (hx : x = nI n := by rfl) (hN : N < 2 ^ 31 := by omega) : vp_in x N := by
  subst hx
  exact vp_in_nI h hN
theorem pk_cl {x : Int32} (n : Nat) (hx : x = nI n := by rfl) (h : n < 2 ^ 31 := by omega) : x.toNatClampNeg = n := by
  subst hx
  exact nI_clamp h
theorem pk_loop {σ : Type} (W : Nat → Nat → σ → Prop) (I : Nat → σ → Prop) (e i0 : Nat) (s : σ) (hi : i0 ≤ e) (h0 : I i0 s) (hx : ∀ n s, I e s → W (n + 1) e s)
    (hs : ∀ n i s, i < e → I i s → (∀ s', I (i + 1) s' → W n (i + 1) s') → W (n + 1) i s) : ∃ n, W n i0 s :=
  ⟨e + 1, loop_i W I e hx hs (e + 1) i0 s hi (by omega) h0⟩
end
section
/-! numbers as functions, bits of a set of six, counts -/
def dd_N (f : Nat → Nat) : Nat → Int32 := fun i => nI (f i)
def dd_u (f : Nat → Nat) (k v : Nat) : Nat → Nat := fun j => if j = k then v else f j
theorem dd_Nu (f : Nat → Nat) (k v : Nat) : upd (dd_N f) k (nI v) = dd_N (dd_u f k v) := by
  funext j
  unfold upd dd_N dd_u
  by_cases h : j = k
  · rw [if_pos h, if_pos h]
  · rw [if_neg h, if_neg h]
theorem dd_at (f : Nat → Nat) {i : Nat} (h : i < 2 ^ 31) : dd_N f (nI i).toNatClampNeg = nI (f i) := by
  rw [nI_clamp h]
  rfl
theorem dd_us (f : Nat → Nat) (k v : Nat) : dd_u f k v k = v := if_pos rfl
theorem dd_un (f : Nat → Nat) {k v j : Nat} (h : j ≠ k) : dd_u f k v j = f j := if_neg h
theorem dd_uu (w : Nat → Int32) (k : Nat) (a b : Int32) : upd (upd w k a) k b = upd w k b := by
  funext j
  unfold upd
  by_cases h : j = k
  · rw [if_pos h, if_pos h]
  · rw [if_neg h, if_neg h, if_neg h]
/-- an index f + 6 r + x -/
theorem dd_ix (f r x : Nat) : (nI f + nI 6 * nI r) + nI x = nI (f + 6 * r + x) := by
  rw [pk_mul, nI_add, nI_add]
theorem dd_ix2 (r x : Nat) : nI 6 * nI r + nI x = nI (6 * r + x) := by
  rw [pk_mul, nI_add]
theorem dd_bt1 : ∀ i, i < 32 → bt 1 i = decide (i = 0) := by decide +kernel
/-- the bit that a shift and a mask read -/
theorem dd_rd (x : Int32) (y : Nat) (hy : y < 32) : (x >>> (nI y &&& 31)) &&& 1 = if bt x y = true then 1 else 0 := by
  apply b_ext
  intro i hi
  rw [b_and, b_sshr y hy x hi, dd_bt1 i hi]
  by_cases h0 : i = 0
  · subst h0
    rw [if_pos (by omega)]
    rw [Nat.add_zero]
    cases hb : bt x y
    · rw [if_neg (by decide), b_0]
      rfl
    · rw [if_pos rfl, dd_bt1 0 (by omega)]
      rfl
  · rw [decide_eq_false h0, Bool.and_false]
    by_cases hb : bt x y = true
    · rw [if_pos hb, dd_bt1 i hi, decide_eq_false h0]
    · rw [if_neg hb, b_0]
theorem dd_rd0 (x : Int32) {y : Nat} (hy : y < 32) : ((x >>> (nI y &&& 31)) &&& 1) = 0 ↔ bt x y = false := by
  rw [dd_rd x y hy]
  cases bt x y <;> decide
theorem dd_rd1 (x : Int32) {y : Nat} (hy : y < 32) : ((x >>> (nI y &&& 31)) &&& 1) = 1 ↔ bt x y = true := by
  rw [dd_rd x y hy]
  cases bt x y <;> decide
/-- a single bit -/
theorem dd_one {y : Nat} (hy : y < 32) (i : Nat) : bt ((1 : Int32) <<< (nI y &&& 31)) i = decide (i = y) := by
  rcases Nat.lt_or_ge i 32 with hi | hi
  · rw [b_shl y hy 1 hi]
    by_cases h : y ≤ i
    · rw [dd_bt1 (i - y) (by omega), decide_eq_true h, Bool.true_and]
      by_cases e : i = y
      · rw [decide_eq_true e, decide_eq_true (by omega)]
      · rw [decide_eq_false e, decide_eq_false (by omega)]
    · rw [decide_eq_false h, decide_eq_false (by omega), Bool.false_and]
  · rw [b_big hi, decide_eq_false (by omega)]
/-- (s >> x & 1) << y -/
theorem dd_mv (s : Int32) {x y : Nat} (hx : x < 32) (hy : y < 32) (i : Nat) : bt (((s >>> (nI x &&& 31)) &&& 1) <<< (nI y &&& 31)) i = (bt s x && decide (i = y)) := by
  rw [dd_rd s x hx]
  cases h : bt s x
  · rw [if_neg (by decide), Bool.false_and]
    rcases Nat.lt_or_ge i 32 with hi | hi
    · rw [b_shl y hy 0 hi, b_0, Bool.and_false]
    · exact b_big hi
  · rw [if_pos rfl, dd_one hy, Bool.true_and]
theorem dd_nb (x z : Int32) (i : Nat) : bt (x &&& (z ^^^ (-1))) i = (bt x i && !bt z i) := by
  rw [b_and, b_xor]
  rcases Nat.lt_or_ge i 32 with hi | hi
  · rw [b_m1 i hi, Bool.xor_true]
  · rw [b_big hi, Bool.false_and, Bool.false_and]
/-- a set of six -/
def dd_S (x : Int32) : Prop := ∀ i, 6 ≤ i → bt x i = false
theorem dd_S0 : dd_S 0 := fun i _ => b_0 i
theorem dd_Sor {x y : Int32} (hx : dd_S x) (hy : dd_S y) : dd_S (x ||| y) := fun i hi => by rw [b_or, hx i hi, hy i hi]; rfl
theorem dd_San {x y : Int32} (hx : dd_S x) : dd_S (x &&& y) := fun i hi => by rw [b_and, hx i hi]; rfl
theorem dd_San2 {x y : Int32} (hy : dd_S y) : dd_S (x &&& y) := fun i hi => by rw [b_and, hy i hi, Bool.and_false]
theorem dd_S1 {y : Nat} (hy : y < 6) : dd_S ((1 : Int32) <<< (nI y &&& 31)) := fun i hi => by rw [dd_one (by omega), decide_eq_false (by omega)]
theorem dd_Sext {x y : Int32} (hx : dd_S x) (hy : dd_S y) (h : ∀ i, i < 6 → bt x i = bt y i) : x = y := b_ext fun i _ => by
  rcases Nat.lt_or_ge i 6 with h6 | h6
  · exact h i h6
  · rw [hx i h6, hy i h6]
theorem dd_Sz {x : Int32} (hx : dd_S x) (h : ¬ x = 0) : ∃ i, i < 6 ∧ bt x i = true := Classical.byContradiction fun hn => h (dd_Sext hx dd_S0 fun i hi => by
  rw [b_0]
  cases hb : bt x i
  · rfl
  · exact absurd ⟨i, hi, hb⟩ hn)
/-- b as an int -/
def dd_b (b : Bool) : Int32 := if b = true then 1 else 0
theorem dd_b0 (b : Bool) : dd_b b = 0 ↔ b = false := by cases b <;> decide
theorem dd_b1 (b : Bool) : dd_b b = 1 ↔ b = true := by cases b <;> decide
theorem dd_bn (b : Bool) : vp_nar .boolean (dd_b b) = dd_b b := by cases b <;> rfl
theorem dd_bw (b : Bool) : narrow .boolean (.int (dd_b b)) = .int (dd_b b) := by cases b <;> rfl
/-- how many below n -/
def dd_c (p : Nat → Bool) : Nat → Nat
  | 0 => 0
  | n + 1 => dd_c p n + (if p n = true then 1 else 0)
theorem dd_c_le (p : Nat → Bool) : ∀ n, dd_c p n ≤ n := by
  intro n
  induction n with
  | zero => exact Nat.le_refl _
  | succ n ih =>
    show dd_c p n + (if p n = true then 1 else 0) ≤ n + 1
    split <;> omega
theorem dd_c_mono {p q : Nat → Bool} : ∀ n, (∀ k, k < n → p k = true → q k = true) → dd_c p n ≤ dd_c q n := by
  intro n
  induction n with
  | zero => exact fun _ => Nat.le_refl _
  | succ n ih =>
    intro h
    have h1 := ih fun k hk => h k (by omega)
    have h2 := h n (by omega)
    show dd_c p n + (if p n = true then 1 else 0) ≤ dd_c q n + (if q n = true then 1 else 0)
    by_cases hp : p n = true
    · rw [if_pos hp, if_pos (h2 hp)]
      omega
    · rw [if_neg hp]
      omega
theorem dd_c_lt {p q : Nat → Bool} : ∀ n, (∀ k, k < n → p k = true → q k = true) → (∃ k, k < n ∧ q k = true ∧ p k = false) → dd_c p n < dd_c q n := by
  intro n
  induction n with
  | zero => exact fun _ ⟨k, hk, _⟩ => absurd hk (Nat.not_lt_zero k)
  | succ n ih =>
    intro h ⟨k, hk, hq, hp⟩
    have h2 := h n (by omega)
    show dd_c p n + (if p n = true then 1 else 0) < dd_c q n + (if q n = true then 1 else 0)
    by_cases e : k = n
    · subst e
      have h1 := dd_c_mono k fun j hj => h j (by omega)
      rw [if_pos hq, if_neg (by rw [hp]; decide)]
      omega
    · have h1 := ih (fun j hj => h j (by omega)) ⟨k, by omega, hq, hp⟩
      by_cases hpn : p n = true
      · rw [if_pos hpn, if_pos (h2 hpn)]
        omega
      · rw [if_neg hpn]
        omega
theorem dd_c_eq {p q : Nat → Bool} : ∀ n, (∀ k, k < n → p k = q k) → dd_c p n = dd_c q n := by
  intro n
  induction n with
  | zero => exact fun _ => rfl
  | succ n ih =>
    intro h
    show dd_c p n + (if p n = true then 1 else 0) = dd_c q n + (if q n = true then 1 else 0)
    rw [ih fun k hk => h k (by omega), h n (by omega)]
theorem dd_c_pos {p : Nat → Bool} {n k : Nat} (hk : k < n) (hp : p k = true) : 0 < dd_c p n := by
  have h := dd_c_lt (p := fun _ => false) (q := p) n (fun _ _ h => absurd h (by decide)) ⟨k, hk, hp, rfl⟩
  omega
end
section
/-! the layered least model, in plain terms; a relation is r x y -/
abbrev dd_R : Type := Nat → Nat → Nat → Prop
/-- what a rule of shape k over relations a, b gives, the first taken from A, the second from B -/
def dd_G (k a b : Nat) (A B : dd_R) (x y : Nat) : Prop :=
  (k = 0 ∧ A a x y) ∨ (k = 1 ∧ A a y x) ∨ (k = 2 ∧ ∃ z, A a x z ∧ B b z y) ∨ (k = 3 ∧ A a x y ∧ B b x y) ∨ (k = 4 ∧ A a x y ∧ ¬ B b x y)
theorem dd_G_congr {k a b : Nat} {A B A' B' : dd_R} {x y : Nat} (hA : ∀ x y, A a x y ↔ A' a x y) (hB : 2 ≤ k → ∀ x y, B b x y ↔ B' b x y) : dd_G k a b A B x y → dd_G k a b A' B' x y := by
  intro h
  rcases h with ⟨e, h⟩ | ⟨e, h⟩ | ⟨e, z, h1, h2⟩ | ⟨e, h1, h2⟩ | ⟨e, h1, h2⟩
  · exact Or.inl ⟨e, (hA _ _).mp h⟩
  · exact Or.inr (Or.inl ⟨e, (hA _ _).mp h⟩)
  · exact Or.inr (Or.inr (Or.inl ⟨e, z, (hA _ _).mp h1, (hB (by omega) _ _).mp h2⟩))
  · exact Or.inr (Or.inr (Or.inr (Or.inl ⟨e, (hA _ _).mp h1, (hB (by omega) _ _).mp h2⟩)))
  · exact Or.inr (Or.inr (Or.inr (Or.inr ⟨e, (hA _ _).mp h1, fun z => h2 ((hB (by omega) _ _).mpr z)⟩)))
section
variable (sh hd ba bb : Nat → Nat) (n : Nat) (ly : Nat → Nat)
/-- layered: the layers fit the rules -/
def dd_St : Prop := ∀ i, i < n → ly (ba i) ≤ ly (hd i) ∧ (2 ≤ sh i → ly (bb i) ≤ ly (hd i)) ∧ (sh i = 4 → ly (bb i) < ly (hd i))
/-- T holds the facts F of layer L and what the rules of layer L give -/
def dd_Cl (L : Nat) (F T : dd_R) : Prop :=
  (∀ r x y, ly r = L → F r x y → T r x y) ∧ ∀ i, i < n → ly (hd i) = L → ∀ x y, dd_G (sh i) (ba i) (bb i) T T x y → T (hd i) x y
/-- M's layer L is the least over its lower layers -/
def dd_Lv (L : Nat) (F M : dd_R) : Prop :=
  dd_Cl sh hd ba bb n ly L F M ∧ ∀ T : dd_R, (∀ r, ly r < L → ∀ x y, T r x y ↔ M r x y) → dd_Cl sh hd ba bb n ly L F T → ∀ r x y, ly r = L → M r x y → T r x y
def dd_Mod (F M : dd_R) : Prop := ∀ L, L < 6 → dd_Lv sh hd ba bb n ly L F M
/-- N' is N with layer L derived -/
def dd_De (L : Nat) (F N N' : dd_R) : Prop :=
  (∀ r, ly r ≠ L → ∀ x y, N' r x y ↔ N r x y) ∧ dd_Cl sh hd ba bb n ly L F N' ∧
  ∀ T : dd_R, (∀ r, ly r < L → ∀ x y, T r x y ↔ N r x y) → (∀ r x y, ly r = L → N r x y → T r x y) → dd_Cl sh hd ba bb n ly L F T → ∀ r x y, ly r = L → N' r x y → T r x y
/-- marks: what had a derivation from something gone, or by the lack of something that has come -/
def dd_Su (i : Nat) (G B C : dd_R) (x y : Nat) : Prop :=
  dd_G (sh i) (ba i) (bb i) G B x y ∨ (sh i = 4 ∧ B (ba i) x y ∧ C (bb i) x y) ∨ (sh i ≠ 4 ∧ 2 ≤ sh i ∧ dd_G (sh i) (ba i) (bb i) B G x y)
def dd_Mk (L : Nat) (G B C : dd_R) : Prop := ∀ i, i < n → ly (hd i) = L → ∀ x y, dd_Su sh ba bb i G B C x y → B (hd i) x y → G (hd i) x y
end
section
variable {sh hd ba bb : Nat → Nat} {n : Nat} {ly : Nat → Nat}
theorem dd_Cl_congr {L : Nat} {F T T' : dd_R} (st : dd_St sh hd ba bb n ly) (h : ∀ r, ly r ≤ L → ∀ x y, T r x y ↔ T' r x y) (c : dd_Cl sh hd ba bb n ly L F T) : dd_Cl sh hd ba bb n ly L F T' := by
  refine ⟨fun r x y e f => (h r (by omega) x y).mp (c.1 r x y e f), fun i hi e x y g => (h _ (by omega) x y).mp (c.2 i hi e x y ?_)⟩
  obtain ⟨s1, s2, _⟩ := st i hi
  exact dd_G_congr (fun x y => (h _ (by omega) x y).symm) (fun h2 x y => (h _ (by have := s2 h2; omega) x y).symm) g
theorem dd_Lv_congr {L : Nat} {F M M' : dd_R} (st : dd_St sh hd ba bb n ly) (h : ∀ r, ly r ≤ L → ∀ x y, M r x y ↔ M' r x y) (c : dd_Lv sh hd ba bb n ly L F M) : dd_Lv sh hd ba bb n ly L F M' := by
  refine ⟨dd_Cl_congr st h c.1, fun T hT cT r x y e m => c.2 T (fun r hr x y => ?_) cT r x y e ((h r (by omega) x y).mpr m)⟩
  rw [hT r hr x y]
  exact (h r (by omega) x y).symm
/-- one model alone -/
theorem dd_uniq {F M M' : dd_R} (h6 : ∀ r, ly r < 6) (m : dd_Mod sh hd ba bb n ly F M) (m' : dd_Mod sh hd ba bb n ly F M') : ∀ r x y, M r x y ↔ M' r x y := by
  have key : ∀ L, ∀ r, ly r < L → ∀ x y, M r x y ↔ M' r x y := by
    intro L
    induction L with
    | zero => exact fun r hr => absurd hr (Nat.not_lt_zero _)
    | succ L ih =>
      intro r hr x y
      by_cases e : ly r = L
      · have hL : L < 6 := by have := h6 r; omega
        exact ⟨(m L hL).2 M' (fun r hr x y => (ih r hr x y).symm) (m' L hL).1 r x y e, (m' L hL).2 M ih (m L hL).1 r x y e⟩
      · exact ih r (by omega) x y
  exact fun r => key 6 r (h6 r)
/-- the facts are looked at only where they are -/
theorem dd_Cl_F {L : Nat} {F F' T : dd_R} (h : ∀ r x y, F r x y ↔ F' r x y) (c : dd_Cl sh hd ba bb n ly L F T) : dd_Cl sh hd ba bb n ly L F' T :=
  ⟨fun r x y e f => c.1 r x y e ((h r x y).mpr f), c.2⟩
theorem dd_Lv_F {L : Nat} {F F' M : dd_R} (h : ∀ r x y, F r x y ↔ F' r x y) (c : dd_Lv sh hd ba bb n ly L F M) : dd_Lv sh hd ba bb n ly L F' M :=
  ⟨dd_Cl_F h c.1, fun T hT cT => c.2 T hT (dd_Cl_F (fun r x y => (h r x y).symm) cT)⟩
theorem dd_Mod_F {F F' M : dd_R} (h : ∀ r x y, F r x y ↔ F' r x y) (c : dd_Mod sh hd ba bb n ly F M) : dd_Mod sh hd ba bb n ly F' M :=
  fun L hL => dd_Lv_F h (c L hL)
theorem dd_Mod_M {F M M' : dd_R} (st : dd_St sh hd ba bb n ly) (h : ∀ r x y, M r x y ↔ M' r x y) (c : dd_Mod sh hd ba bb n ly F M) : dd_Mod sh hd ba bb n ly F M' :=
  fun L hL => dd_Lv_congr st (fun r _ x y => h r x y) (c L hL)
/-- a layer that holds nothing it shouldn't, derived -/
theorem dd_De_Lv {L : Nat} {F N N' : dd_R} (d : dd_De sh hd ba bb n ly L F N N') (h : ∀ T : dd_R, (∀ r, ly r < L → ∀ x y, T r x y ↔ N r x y) → dd_Cl sh hd ba bb n ly L F T → ∀ r x y, ly r = L → N r x y → T r x y) : dd_Lv sh hd ba bb n ly L F N' := by
  refine ⟨d.2.1, fun T hT cT r x y e m => ?_⟩
  have hT' : ∀ r, ly r < L → ∀ x y, T r x y ↔ N r x y := fun r hr x y => by
    rw [hT r hr x y]
    exact d.1 r (by omega) x y
  exact d.2.2 T hT' (h T hT' cT) cT r x y e m
theorem dd_De_low {L : Nat} {F N N' : dd_R} (st : dd_St sh hd ba bb n ly) (d : dd_De sh hd ba bb n ly L F N N') (h : ∀ L', L' < L → dd_Lv sh hd ba bb n ly L' F N) : ∀ L', L' < L → dd_Lv sh hd ba bb n ly L' F N' :=
  fun L' hL => dd_Lv_congr st (fun r hr x y => (d.1 r (by omega) x y).symm) (h L' hL)
/-- working out anew, a layer -/
def dd_An (sh hd ba bb : Nat → Nat) (n : Nat) (ly : Nat → Nat) (L : Nat) (F N : dd_R) : Prop :=
  (∀ L', L' < L → dd_Lv sh hd ba bb n ly L' F N) ∧ ∀ r x y, L ≤ ly r → N r x y → F r x y
theorem dd_An_step {L : Nat} {F N N' : dd_R} (st : dd_St sh hd ba bb n ly) (a : dd_An sh hd ba bb n ly L F N) (d : dd_De sh hd ba bb n ly L F N N') : dd_An sh hd ba bb n ly (L + 1) F N' := by
  refine ⟨fun L' hL => ?_, fun r x y e m => a.2 r x y (by omega) ((d.1 r (by omega) x y).mp m)⟩
  by_cases e : L' = L
  · subst e
    exact dd_De_Lv d fun T _ cT r x y e m => cT.1 r x y e (a.2 r x y (by omega) m)
  · exact dd_De_low st d a.1 L' (by omega)
/-- what is taken out and derived anew, a layer: B the model before (of F0), G what has gone, C what has come -/
def dd_Up (sh hd ba bb : Nat → Nat) (n : Nat) (ly : Nat → Nat) (L : Nat) (F B N G C : dd_R) : Prop :=
  (∀ L', L' < L → dd_Lv sh hd ba bb n ly L' F N) ∧ (∀ r x y, L ≤ ly r → (N r x y ↔ B r x y)) ∧
  ∀ r x y, ly r < L → (B r x y → ¬ N r x y → G r x y) ∧ (N r x y → ¬ B r x y → C r x y)
theorem dd_Up_step {L : Nat} {F0 F B N G C G' N' N'' : dd_R} (st : dd_St sh hd ba bb n ly) (b : dd_Lv sh hd ba bb n ly L F0 B) (u : dd_Up sh hd ba bb n ly L F B N G C)
    (g1 : ∀ r, ly r ≠ L → ∀ x y, G' r x y ↔ G r x y) (g2 : dd_Mk sh hd ba bb n ly L G' B C) (g3 : ∀ r x y, ly r = L → F0 r x y → ¬ F r x y → G' r x y)
    (n1 : ∀ r, ly r ≠ L → ∀ x y, N' r x y ↔ N r x y) (n2 : ∀ r x y, ly r = L → (N' r x y ↔ N r x y ∧ ¬ G' r x y))
    (d : dd_De sh hd ba bb n ly L F N' N'') : dd_Lv sh hd ba bb n ly L F N'' := by
  refine dd_De_Lv d fun T hT cT r x y e m => ?_
  -- the closed set: what is marked or stays
  have hx : ∀ r x y, ly r = L → B r x y → B r x y ∧ (G' r x y ∨ T r x y) := by
    intro r x y e hb
    have hl := b.2 (fun r x y => B r x y ∧ (ly r = L → G' r x y ∨ T r x y)) (fun r hr x y => ⟨fun h => h.1, fun h => ⟨h, fun z => absurd z (by omega)⟩⟩) ?_ r x y e hb
    · exact ⟨hb, hl.2 e⟩
    · -- for a body relation
      have key : ∀ r x y, ly r ≤ L → (B r x y ∧ (ly r = L → G' r x y ∨ T r x y)) → B r x y ∧ (G' r x y ∨ T r x y) := by
        intro r x y hr ⟨h1, h2⟩
        by_cases e : ly r = L
        · exact ⟨h1, h2 e⟩
        · refine ⟨h1, ?_⟩
          by_cases hn : N r x y
          · exact Or.inr ((hT r (by omega) x y).mpr ((n1 r e x y).mpr hn))
          · exact Or.inl ((g1 r e x y).mpr ((u.2.2 r x y (by omega)).1 h1 hn))
      refine ⟨fun r x y e f => ⟨b.1.1 r x y e f, fun _ => ?_⟩, fun i hi e x y g => ?_⟩
      · by_cases hf : F r x y
        · exact Or.inr (cT.1 r x y e hf)
        · exact Or.inl (g3 r x y e f hf)
      · obtain ⟨s1, s2, s3⟩ := st i hi
        have mk := g2 i hi e
        have cl := cT.2 i hi e
        have bl := b.1.2 i hi e
        rcases g with ⟨k, h⟩ | ⟨k, h⟩ | ⟨k, z, h1, h2⟩ | ⟨k, h1, h2⟩ | ⟨k, h1, h2⟩
        · obtain ⟨hb, hg⟩ := key _ _ _ (by omega) h
          have hB := bl x y (Or.inl ⟨k, hb⟩)
          refine ⟨hB, fun _ => ?_⟩
          rcases hg with hg | hg
          · exact Or.inl (mk x y (Or.inl (Or.inl ⟨k, hg⟩)) hB)
          · exact Or.inr (cl x y (Or.inl ⟨k, hg⟩))
        · obtain ⟨hb, hg⟩ := key _ _ _ (by omega) h
          have hB := bl x y (Or.inr (Or.inl ⟨k, hb⟩))
          refine ⟨hB, fun _ => ?_⟩
          rcases hg with hg | hg
          · exact Or.inl (mk x y (Or.inl (Or.inr (Or.inl ⟨k, hg⟩))) hB)
          · exact Or.inr (cl x y (Or.inr (Or.inl ⟨k, hg⟩)))
        · have s2' := s2 (by omega)
          obtain ⟨hb, hg⟩ := key _ _ _ (by omega) h1
          obtain ⟨hb2, hg2⟩ := key _ _ _ (by omega) h2
          have hB := bl x y (Or.inr (Or.inr (Or.inl ⟨k, z, hb, hb2⟩)))
          refine ⟨hB, fun _ => ?_⟩
          rcases hg with hg | hg
          · exact Or.inl (mk x y (Or.inl (Or.inr (Or.inr (Or.inl ⟨k, z, hg, hb2⟩)))) hB)
          · rcases hg2 with hg2 | hg2
            · exact Or.inl (mk x y (Or.inr (Or.inr ⟨by omega, by omega, Or.inr (Or.inr (Or.inl ⟨k, z, hb, hg2⟩))⟩)) hB)
            · exact Or.inr (cl x y (Or.inr (Or.inr (Or.inl ⟨k, z, hg, hg2⟩))))
        · have s2' := s2 (by omega)
          obtain ⟨hb, hg⟩ := key _ _ _ (by omega) h1
          obtain ⟨hb2, hg2⟩ := key _ _ _ (by omega) h2
          have hB := bl x y (Or.inr (Or.inr (Or.inr (Or.inl ⟨k, hb, hb2⟩))))
          refine ⟨hB, fun _ => ?_⟩
          rcases hg with hg | hg
          · exact Or.inl (mk x y (Or.inl (Or.inr (Or.inr (Or.inr (Or.inl ⟨k, hg, hb2⟩))))) hB)
          · rcases hg2 with hg2 | hg2
            · exact Or.inl (mk x y (Or.inr (Or.inr ⟨by omega, by omega, Or.inr (Or.inr (Or.inr (Or.inl ⟨k, hb, hg2⟩)))⟩)) hB)
            · exact Or.inr (cl x y (Or.inr (Or.inr (Or.inr (Or.inl ⟨k, hg, hg2⟩)))))
        · have s3' := s3 k
          obtain ⟨hb, hg⟩ := key _ _ _ (by omega) h1
          have hb2 : ¬ B (bb i) x y := fun z => h2 ⟨z, fun z2 => absurd z2 (by omega)⟩
          have hB := bl x y (Or.inr (Or.inr (Or.inr (Or.inr ⟨k, hb, hb2⟩))))
          refine ⟨hB, fun _ => ?_⟩
          rcases hg with hg | hg
          · exact Or.inl (mk x y (Or.inl (Or.inr (Or.inr (Or.inr (Or.inr ⟨k, hg, hb2⟩))))) hB)
          · by_cases ht : T (bb i) x y
            · have hn : N (bb i) x y := (n1 _ (by omega) x y).mp ((hT _ (by omega) x y).mp ht)
              exact Or.inl (mk x y (Or.inr (Or.inl ⟨k, hb, (u.2.2 _ x y (by omega)).2 hn hb2⟩)) hB)
            · exact Or.inr (cl x y (Or.inr (Or.inr (Or.inr (Or.inr ⟨k, hg, ht⟩)))))
  obtain ⟨m1, m2⟩ := (n2 r x y e).mp m
  rcases (hx r x y e ((u.2.1 r x y (by omega)).mp m1)).2 with h | h
  · exact absurd h m2
  · exact h
theorem dd_Up_next {L : Nat} {F0 F B N G C G' N' N'' G'' C'' : dd_R} (st : dd_St sh hd ba bb n ly) (b : dd_Lv sh hd ba bb n ly L F0 B) (u : dd_Up sh hd ba bb n ly L F B N G C)
    (g1 : ∀ r, ly r ≠ L → ∀ x y, G' r x y ↔ G r x y) (g2 : dd_Mk sh hd ba bb n ly L G' B C) (g3 : ∀ r x y, ly r = L → F0 r x y → ¬ F r x y → G' r x y)
    (n1 : ∀ r, ly r ≠ L → ∀ x y, N' r x y ↔ N r x y) (n2 : ∀ r x y, ly r = L → (N' r x y ↔ N r x y ∧ ¬ G' r x y))
    (d : dd_De sh hd ba bb n ly L F N' N'')
    (e1 : ∀ r, ly r ≠ L → ∀ x y, (G'' r x y ↔ G' r x y) ∧ (C'' r x y ↔ C r x y)) (e2 : ∀ r x y, ly r = L → (B r x y → ¬ N'' r x y → G'' r x y) ∧ (N'' r x y → ¬ B r x y → C'' r x y)) : dd_Up sh hd ba bb n ly (L + 1) F B N'' G'' C'' := by
  have hN : ∀ r, ly r ≠ L → ∀ x y, N'' r x y ↔ N r x y := fun r e x y => (d.1 r e x y).trans (n1 r e x y)
  refine ⟨fun L' hL => ?_, fun r x y e => (hN r (by omega) x y).trans (u.2.1 r x y (by omega)), fun r x y e => ?_⟩
  · by_cases e : L' = L
    · subst e
      exact dd_Up_step st b u g1 g2 g3 n1 n2 d
    · exact dd_Lv_congr st (fun r hr x y => (hN r (by omega) x y).symm) (u.1 L' (by omega))
  · by_cases e' : ly r = L
    · exact e2 r x y e'
    · obtain ⟨z1, z2⟩ := e1 r e' x y
      obtain ⟨w1, w2⟩ := u.2.2 r x y (by omega)
      exact ⟨fun h1 h2 => z1.mpr ((g1 r e' x y).mpr (w1 h1 fun z => h2 ((hN r e' x y).mpr z))), fun h1 h2 => z2.mpr (w2 ((hN r e' x y).mp h1) h2)⟩
end
end
section
/-! layers in plain numbers -/
section
variable (sh hd ba bb : Nat → Nat)
/-- the values are within -/
def dd_Rl : Prop := ∀ i, sh i ≤ 4 ∧ hd i < 6 ∧ ba i < 6 ∧ bb i < 6
/-- what the second relation asks -/
def dd_l2 (ly : Nat → Nat) (i : Nat) : Nat := ly (bb i) + (if sh i = 4 then 1 else 0)
/-- what a rule asks of its head's layer -/
def dd_l1 (ly : Nat → Nat) (i : Nat) : Nat := if 2 ≤ sh i then (if ly (ba i) < dd_l2 sh bb ly i then dd_l2 sh bb ly i else ly (ba i)) else ly (ba i)
def dd_ls (ly : Nat → Nat) (i : Nat) : Nat → Nat :=
  if ly (hd i) < dd_l1 sh ba bb ly i ∧ dd_l1 sh ba bb ly i < 6 then dd_u ly (hd i) (dd_l1 sh ba bb ly i) else ly
def dd_lp : Nat → (Nat → Nat) → (Nat → Nat)
  | 0, ly => ly
  | i + 1, ly => dd_ls sh hd ba bb (dd_lp i ly) i
def dd_li (n : Nat) : Nat → (Nat → Nat)
  | 0 => fun _ => 0
  | k + 1 => dd_lp sh hd ba bb n (dd_li n k)
def dd_LY (n : Nat) : Nat → Nat := dd_li sh hd ba bb n 36
/-- a rank: the rules are layered -/
def dd_Ra (n : Nat) (rk : Nat → Nat) : Prop := (∀ r, rk r ≤ 5) ∧ ∀ i, i < n → rk (ba i) ≤ rk (hd i) ∧ (2 ≤ sh i → rk (bb i) ≤ rk (hd i)) ∧ (sh i = 4 → rk (bb i) < rk (hd i))
end
def dd_sm (ly : Nat → Nat) : Nat := ly 0 + ly 1 + ly 2 + ly 3 + ly 4 + ly 5
theorem dd_sm_lt {f g : Nat → Nat} (h : ∀ r, f r ≤ g r) {k : Nat} (hk : k < 6) (h2 : f k < g k) : dd_sm f < dd_sm g := by
  unfold dd_sm
  have h0 := h 0
  have h1 := h 1
  have h2' := h 2
  have h3 := h 3
  have h4 := h 4
  have h5 := h 5
  have e : k = 0 ∨ k = 1 ∨ k = 2 ∨ k = 3 ∨ k = 4 ∨ k = 5 := by omega
  rcases e with rfl | rfl | rfl | rfl | rfl | rfl <;> omega
theorem dd_sm_le {f : Nat → Nat} (h : ∀ r, f r < 6) : dd_sm f ≤ 30 := by
  unfold dd_sm
  have h0 := h 0
  have h1 := h 1
  have h2' := h 2
  have h3 := h 3
  have h4 := h 4
  have h5 := h 5
  omega
section
variable {sh hd ba bb : Nat → Nat}
theorem dd_ls_le (ly : Nat → Nat) (i r : Nat) : ly r ≤ dd_ls sh hd ba bb ly i r := by
  unfold dd_ls
  split
  · rename_i h
    by_cases e : r = hd i
    · subst e
      rw [dd_us]
      omega
    · rw [dd_un _ e]
      exact Nat.le_refl _
  · exact Nat.le_refl _
theorem dd_ls_6 {ly : Nat → Nat} (h6 : ∀ r, ly r < 6) (i r : Nat) : dd_ls sh hd ba bb ly i r < 6 := by
  unfold dd_ls
  split
  · rename_i h
    by_cases e : r = hd i
    · subst e
      rw [dd_us]
      exact h.2
    · rw [dd_un _ e]
      exact h6 r
  · exact h6 r
theorem dd_ls_or (rl : dd_Rl sh hd ba bb) (ly : Nat → Nat) (i : Nat) : dd_ls sh hd ba bb ly i = ly ∨ dd_sm ly < dd_sm (dd_ls sh hd ba bb ly i) := by
  by_cases h : ly (hd i) < dd_l1 sh ba bb ly i ∧ dd_l1 sh ba bb ly i < 6
  · refine Or.inr (dd_sm_lt (dd_ls_le ly i) (rl i).2.1 ?_)
    unfold dd_ls
    rw [if_pos h, dd_us]
    exact h.1
  · exact Or.inl (if_neg h)
theorem dd_ls_z (rl : dd_Rl sh hd ba bb) {ly : Nat → Nat} (hz : ∀ r, 6 ≤ r → ly r = 0) (i r : Nat) (hr : 6 ≤ r) : dd_ls sh hd ba bb ly i r = 0 := by
  unfold dd_ls
  split
  · rw [dd_un _ (by have := (rl i).2.1; omega)]
    exact hz r hr
  · exact hz r hr
theorem dd_lp_le (ly : Nat → Nat) : ∀ (n r : Nat), ly r ≤ dd_lp sh hd ba bb n ly r := by
  intro n
  induction n with
  | zero => exact fun r => Nat.le_refl _
  | succ n ih => exact fun r => Nat.le_trans (ih r) (dd_ls_le _ n r)
theorem dd_lp_6 {ly : Nat → Nat} (h6 : ∀ r, ly r < 6) : ∀ (n r : Nat), dd_lp sh hd ba bb n ly r < 6 := by
  intro n
  induction n with
  | zero => exact h6
  | succ n ih => exact dd_ls_6 ih n
theorem dd_lp_z (rl : dd_Rl sh hd ba bb) {ly : Nat → Nat} (hz : ∀ r, 6 ≤ r → ly r = 0) : ∀ (n r : Nat), 6 ≤ r → dd_lp sh hd ba bb n ly r = 0 := by
  intro n
  induction n with
  | zero => exact hz
  | succ n ih => exact dd_ls_z rl ih n
theorem dd_sm_mono {f g : Nat → Nat} (h : ∀ r, f r ≤ g r) : dd_sm f ≤ dd_sm g := by
  unfold dd_sm
  have h0 := h 0
  have h1 := h 1
  have h2' := h 2
  have h3 := h 3
  have h4 := h 4
  have h5 := h 5
  omega
theorem dd_lp_or (rl : dd_Rl sh hd ba bb) (ly : Nat → Nat) : ∀ n, dd_lp sh hd ba bb n ly = ly ∨ dd_sm ly < dd_sm (dd_lp sh hd ba bb n ly) := by
  intro n
  induction n with
  | zero => exact Or.inl rfl
  | succ n ih =>
    have h1 := dd_ls_or rl (dd_lp sh hd ba bb n ly) n
    rcases h1 with h1 | h1
    · rcases ih with ih | ih
      · exact Or.inl (h1.trans ih)
      · refine Or.inr ?_
        show dd_sm ly < dd_sm (dd_ls sh hd ba bb (dd_lp sh hd ba bb n ly) n)
        rw [h1]
        exact ih
    · exact Or.inr (Nat.lt_of_le_of_lt (dd_sm_mono (dd_lp_le ly n)) h1)
theorem dd_li_6 (n : Nat) : ∀ k r, dd_li sh hd ba bb n k r < 6 := by
  intro k
  induction k with
  | zero => exact fun r => by show 0 < 6; omega
  | succ k ih => exact dd_lp_6 ih n
theorem dd_li_z (rl : dd_Rl sh hd ba bb) (n : Nat) : ∀ k r, 6 ≤ r → dd_li sh hd ba bb n k r = 0 := by
  intro k
  induction k with
  | zero => exact fun r _ => rfl
  | succ k ih => exact dd_lp_z rl ih n
theorem dd_li_or (rl : dd_Rl sh hd ba bb) (n : Nat) : ∀ k, dd_li sh hd ba bb n (k + 1) = dd_li sh hd ba bb n k ∨ k + 1 ≤ dd_sm (dd_li sh hd ba bb n (k + 1)) := by
  intro k
  induction k with
  | zero =>
    rcases dd_lp_or rl (dd_li sh hd ba bb n 0) n with h | h
    · exact Or.inl h
    · exact Or.inr (by show 0 + 1 ≤ dd_sm (dd_lp sh hd ba bb n (dd_li sh hd ba bb n 0)); omega)
  | succ k ih =>
    rcases ih with ih | ih
    · refine Or.inl ?_
      show dd_lp sh hd ba bb n (dd_li sh hd ba bb n (k + 1)) = _
      rw [ih]
      exact ih
    · rcases dd_lp_or rl (dd_li sh hd ba bb n (k + 1)) n with h | h
      · exact Or.inl h
      · exact Or.inr (by show k + 1 + 1 ≤ dd_sm (dd_lp sh hd ba bb n (dd_li sh hd ba bb n (k + 1))); omega)
theorem dd_LY_fix (rl : dd_Rl sh hd ba bb) (n : Nat) : dd_lp sh hd ba bb n (dd_LY sh hd ba bb n) = dd_LY sh hd ba bb n := by
  rcases dd_li_or rl n 36 with h | h
  · exact h
  · have h2 := dd_sm_le (dd_li_6 (sh := sh) (hd := hd) (ba := ba) (bb := bb) n (36 + 1))
    omega
theorem dd_li_stay (n : Nat) {k : Nat} (h : dd_li sh hd ba bb n (k + 1) = dd_li sh hd ba bb n k) : ∀ d, dd_li sh hd ba bb n (k + d) = dd_li sh hd ba bb n k := by
  intro d
  induction d with
  | zero => rfl
  | succ d ih =>
    show dd_lp sh hd ba bb n (dd_li sh hd ba bb n (k + d)) = _
    rw [ih]
    exact h
/-- a round of the reference that raises nothing -/
theorem dd_LY_of (n : Nat) {k : Nat} (hk : k ≤ 36) (h : dd_li sh hd ba bb n (k + 1) = dd_li sh hd ba bb n k) : dd_li sh hd ba bb n (k + 1) = dd_LY sh hd ba bb n := by
  have e := dd_li_stay n h (36 - k)
  rw [show k + (36 - k) = 36 from by omega] at e
  rw [h, ← e]
  rfl
theorem dd_LY_6 (n r : Nat) : dd_LY sh hd ba bb n r < 6 := dd_li_6 n 36 r
theorem dd_LY_z (rl : dd_Rl sh hd ba bb) (n r : Nat) (hr : 6 ≤ r) : dd_LY sh hd ba bb n r = 0 := dd_li_z rl n 36 r hr
/-- below a rank -/
theorem dd_l1_ra {n : Nat} {rk ly : Nat → Nat} (ra : dd_Ra sh hd ba bb n rk) (h : ∀ r, ly r ≤ rk r) {i : Nat} (hi : i < n) : dd_l1 sh ba bb ly i ≤ rk (hd i) := by
  obtain ⟨r1, r2, r3⟩ := ra.2 i hi
  have ha := h (ba i)
  have hb := h (bb i)
  unfold dd_l1 dd_l2
  by_cases h2 : 2 ≤ sh i
  · rw [if_pos h2]
    have r2' := r2 h2
    by_cases h4 : sh i = 4
    · have r3' := r3 h4
      rw [if_pos h4]
      split <;> omega
    · rw [if_neg h4]
      split <;> omega
  · rw [if_neg h2]
    omega
theorem dd_lp_ra {n : Nat} {rk ly : Nat → Nat} (ra : dd_Ra sh hd ba bb n rk) (h : ∀ r, ly r ≤ rk r) : ∀ m, m ≤ n → ∀ r, dd_lp sh hd ba bb m ly r ≤ rk r := by
  intro m
  induction m with
  | zero => exact fun _ => h
  | succ m ih =>
    intro hm r
    have ih' := ih (by omega)
    show dd_ls sh hd ba bb (dd_lp sh hd ba bb m ly) m r ≤ rk r
    unfold dd_ls
    split
    · by_cases e : r = hd m
      · subst e
        rw [dd_us]
        exact dd_l1_ra ra ih' (by omega)
      · rw [dd_un _ e]
        exact ih' r
    · exact ih' r
theorem dd_li_ra {n : Nat} {rk : Nat → Nat} (ra : dd_Ra sh hd ba bb n rk) : ∀ k r, dd_li sh hd ba bb n k r ≤ rk r := by
  intro k
  induction k with
  | zero => exact fun r => Nat.zero_le _
  | succ k ih => exact dd_lp_ra ra ih n (Nat.le_refl _)
/-- the rounds' end fits the rules -/
theorem dd_lp_same {ly : Nat → Nat} (rl : dd_Rl sh hd ba bb) : ∀ n, dd_lp sh hd ba bb n ly = ly → ∀ i, i < n → dd_ls sh hd ba bb ly i = ly := by
  intro n
  induction n with
  | zero => exact fun _ i hi => absurd hi (Nat.not_lt_zero _)
  | succ n ih =>
    intro h i hi
    have e : dd_lp sh hd ba bb n ly = ly := by
      rcases dd_lp_or rl ly n with e | e
      · exact e
      · have h2 : dd_sm (dd_lp sh hd ba bb n ly) ≤ dd_sm (dd_lp sh hd ba bb (n + 1) ly) := dd_sm_mono (dd_ls_le _ n)
        rw [h] at h2
        omega
    by_cases e2 : i = n
    · subst e2
      have h' : dd_ls sh hd ba bb (dd_lp sh hd ba bb i ly) i = ly := h
      rw [e] at h'
      exact h'
    · exact ih e i (by omega)
theorem dd_LY_St (rl : dd_Rl sh hd ba bb) {n : Nat} {rk : Nat → Nat} (ra : dd_Ra sh hd ba bb n rk) : dd_St sh hd ba bb n (dd_LY sh hd ba bb n) := by
  intro i hi
  have e := dd_lp_same rl n (dd_LY_fix rl n) i hi
  have hr := dd_l1_ra ra (fun r => dd_li_ra ra 36 r) hi
  have h5 := ra.1 (hd i)
  have hl : dd_l1 sh ba bb (dd_LY sh hd ba bb n) i ≤ dd_LY sh hd ba bb n (hd i) := by
    rcases Nat.lt_or_ge (dd_LY sh hd ba bb n (hd i)) (dd_l1 sh ba bb (dd_LY sh hd ba bb n) i) with h | h
    · have hr' : dd_l1 sh ba bb (dd_LY sh hd ba bb n) i ≤ rk (hd i) := hr
      have e2 := congrFun e (hd i)
      unfold dd_ls at e2
      rw [if_pos ⟨h, by omega⟩, dd_us] at e2
      omega
    · exact h
  unfold dd_l1 dd_l2 at hl
  by_cases h2 : 2 ≤ sh i
  · rw [if_pos h2] at hl
    by_cases h4 : sh i = 4
    · rw [if_pos h4] at hl
      split at hl
      · exact ⟨by omega, fun _ => by omega, fun _ => by omega⟩
      · exact ⟨by omega, fun _ => by omega, fun _ => by omega⟩
    · rw [if_neg h4] at hl
      split at hl
      · exact ⟨by omega, fun _ => by omega, fun z => absurd z h4⟩
      · exact ⟨by omega, fun _ => by omega, fun z => absurd z h4⟩
  · rw [if_neg h2] at hl
    exact ⟨hl, fun z => absurd z h2, fun z => absurd z (by omega)⟩
end
end
section
/-! needs: the closure, and the rank that it gives -/
section
variable (sh hd ba bb : Nat → Nat)
def dd_n1 (w : Nat → Int32) (i : Nat) : Nat → Int32 :=
  upd w (hd i) ((w (hd i) ||| ((1 : Int32) <<< (nI (ba i) &&& 31))) ||| (if 2 ≤ sh i then (1 : Int32) <<< (nI (bb i) &&& 31) else 0))
def dd_nd : Nat → (Nat → Int32)
  | 0 => fun _ => 0
  | i + 1 => dd_n1 sh hd ba bb (dd_nd i) i
end
def dd_w1 (m : Nat) (w : Nat → Int32) (r : Nat) : Nat → Int32 := if bt (w r) m = true then upd w r (w r ||| w m) else w
def dd_wr (m : Nat) (w : Nat → Int32) : Nat → (Nat → Int32)
  | 0 => w
  | r + 1 => dd_w1 m (dd_wr m w r) r
def dd_wm (w : Nat → Int32) : Nat → (Nat → Int32)
  | 0 => w
  | m + 1 => dd_wr m (dd_wm w m) 6
def dd_ND (sh hd ba bb : Nat → Nat) (n : Nat) : Nat → Int32 := dd_wm (dd_nd sh hd ba bb n) 6
theorem dd_wr_bt (m : Nat) (w : Nat → Int32) : ∀ j r s, bt (dd_wr m w j r) s = (bt (w r) s || (decide (r < j) && bt (w r) m && bt (w m) s)) := by
  intro j
  induction j with
  | zero =>
    intro r s
    rw [decide_eq_false (Nat.not_lt_zero _), Bool.false_and, Bool.false_and, Bool.or_false]
    rfl
  | succ j ih =>
    intro r s
    have em : ∀ s, bt (dd_wr m w j m) s = bt (w m) s := by
      intro s
      rw [ih m s]
      cases bt (w m) s
      · rw [Bool.and_false]; rfl
      · rfl
    have ej : ∀ s, bt (dd_wr m w j j) s = bt (w j) s := by
      intro s
      rw [ih j s, decide_eq_false (Nat.lt_irrefl _), Bool.false_and, Bool.false_and, Bool.or_false]
    show bt (dd_w1 m (dd_wr m w j) j r) s = _
    unfold dd_w1
    rw [ej m]
    by_cases hb : bt (w j) m = true
    · rw [if_pos hb]
      by_cases e : r = j
      · subst e
        rw [pk_us, b_or, ej s, em s, hb, decide_eq_true (Nat.lt_succ_self _)]
        rfl
      · rw [pk_un e, ih r s]
        have e2 : decide (r < j) = decide (r < j + 1) := by
          apply decide_eq_decide.mpr
          omega
        rw [e2]
    · rw [if_neg hb]
      by_cases e : r = j
      · subst e
        have hb' : bt (w r) m = false := by
          cases h : bt (w r) m
          · rfl
          · exact absurd h hb
        rw [ej s, hb', Bool.and_false, Bool.false_and, Bool.or_false]
      · rw [ih r s]
        have e2 : decide (r < j) = decide (r < j + 1) := by
          apply decide_eq_decide.mpr
          omega
        rw [e2]
/-- through every middle below k -/
def dd_Tr (k : Nat) (w : Nat → Int32) : Prop := ∀ m, m < k → ∀ r s, r < 6 → bt (w r) m = true → bt (w m) s = true → bt (w r) s = true
theorem dd_wr_iff (m : Nat) (w : Nat → Int32) {r : Nat} (hr : r < 6) (s : Nat) : bt (dd_wr m w 6 r) s = true ↔ bt (w r) s = true ∨ (bt (w r) m = true ∧ bt (w m) s = true) := by
  rw [dd_wr_bt, decide_eq_true hr]
  cases bt (w r) s <;> cases bt (w r) m <;> cases bt (w m) s <;> decide
theorem dd_wm_tr (w : Nat → Int32) : ∀ k, k ≤ 6 → dd_Tr k (dd_wm w k) := by
  intro k
  induction k with
  | zero => exact fun _ m hm => absurd hm (Nat.not_lt_zero _)
  | succ k ih =>
    intro hk m hm r s hr h1 h2
    have P := ih (by omega)
    have h1' := (dd_wr_iff k (dd_wm w k) hr m).mp h1
    have h2' := (dd_wr_iff k (dd_wm w k) (r := m) (by omega) s).mp h2
    refine (dd_wr_iff k (dd_wm w k) hr s).mpr ?_
    by_cases e : m = k
    · subst e
      have a : bt (dd_wm w m r) m = true := by
        rcases h1' with h | h
        · exact h
        · exact h.1
      have b : bt (dd_wm w m m) s = true := by
        rcases h2' with h | h
        · exact h
        · exact h.2
      exact Or.inr ⟨a, b⟩
    · have hm' : m < k := by omega
      rcases h1' with h1 | ⟨h1, h1b⟩
      · rcases h2' with h2 | ⟨h2, h2b⟩
        · exact Or.inl (P m hm' r s hr h1 h2)
        · exact Or.inr ⟨P m hm' r k hr h1 h2, h2b⟩
      · rcases h2' with h2 | ⟨h2, h2b⟩
        · exact Or.inr ⟨h1, P m hm' k s (by omega) h1b h2⟩
        · exact Or.inr ⟨h1, h2b⟩
theorem dd_wm_up (w : Nat → Int32) {r s : Nat} (h : bt (w r) s = true) : ∀ k, bt (dd_wm w k r) s = true := by
  intro k
  induction k with
  | zero => exact h
  | succ k ih =>
    show bt (dd_wr k (dd_wm w k) 6 r) s = true
    rw [dd_wr_bt, ih]
    rfl
section
variable {sh hd ba bb : Nat → Nat}
theorem dd_n1_up (w : Nat → Int32) (i : Nat) {r s : Nat} (h : bt (w r) s = true) : bt (dd_n1 sh hd ba bb w i r) s = true := by
  unfold dd_n1
  by_cases e : r = hd i
  · subst e
    rw [pk_us, b_or, b_or, h]
    rfl
  · rw [pk_un e]
    exact h
theorem dd_nd_has (rl : dd_Rl sh hd ba bb) : ∀ n i, i < n → bt (dd_nd sh hd ba bb n (hd i)) (ba i) = true ∧ (2 ≤ sh i → bt (dd_nd sh hd ba bb n (hd i)) (bb i) = true) := by
  intro n
  induction n with
  | zero => exact fun i hi => absurd hi (Nat.not_lt_zero _)
  | succ n ih =>
    intro i hi
    by_cases e : i = n
    · subst e
      obtain ⟨_, _, ha, hb⟩ := rl i
      show bt (dd_n1 sh hd ba bb (dd_nd sh hd ba bb i) i (hd i)) (ba i) = true ∧ (2 ≤ sh i → bt (dd_n1 sh hd ba bb (dd_nd sh hd ba bb i) i (hd i)) (bb i) = true)
      unfold dd_n1
      rw [pk_us]
      constructor
      · rw [b_or, b_or, dd_one (by omega), decide_eq_true rfl, Bool.or_true]
        rfl
      · intro h2
        rw [b_or, if_pos h2, dd_one (y := bb i) (by omega), decide_eq_true rfl, Bool.or_true]
    · obtain ⟨h1, h2⟩ := ih i (by omega)
      exact ⟨dd_n1_up _ _ h1, fun z => dd_n1_up _ _ (h2 z)⟩
/-- no rule takes away what its head is needed for -/
def dd_Ly (sh hd bb : Nat → Nat) (n : Nat) (w : Nat → Int32) : Prop := ∀ i, i < n → sh i = 4 → bb i ≠ hd i ∧ bt (w (bb i)) (hd i) = false
def dd_rs (w : Nat → Int32) (r m : Nat) : Bool := decide (m = r) || bt (w r) m
theorem dd_rank (rl : dd_Rl sh hd ba bb) {n : Nat} (h : dd_Ly sh hd bb n (dd_ND sh hd ba bb n)) : ∃ rk, dd_Ra sh hd ba bb n rk := by
  have tr : dd_Tr 6 (dd_ND sh hd ba bb n) := dd_wm_tr _ 6 (Nat.le_refl _)
  have has : ∀ i, i < n → bt (dd_ND sh hd ba bb n (hd i)) (ba i) = true ∧ (2 ≤ sh i → bt (dd_ND sh hd ba bb n (hd i)) (bb i) = true) := fun i hi => by
    obtain ⟨h1, h2⟩ := dd_nd_has rl n i hi
    exact ⟨dd_wm_up _ h1 6, fun z => dd_wm_up _ (h2 z) 6⟩
  generalize dd_ND sh hd ba bb n = w at h tr has
  have hsub : ∀ r s, r < 6 → s < 6 → bt (w r) s = true → ∀ k, k < 6 → dd_rs w s k = true → dd_rs w r k = true := by
    intro r s hr hs hb k _ hk
    unfold dd_rs at hk ⊢
    rw [Bool.or_eq_true] at hk ⊢
    rcases hk with hk | hk
    · have e : k = s := of_decide_eq_true hk
      subst e
      exact Or.inr hb
    · exact Or.inr (tr s hs r k hr hb hk)
  have hpos : ∀ r, r < 6 → 0 < dd_c (dd_rs w r) 6 := fun r hr => dd_c_pos hr (by unfold dd_rs; rw [decide_eq_true rfl]; rfl)
  refine ⟨fun r => dd_c (dd_rs w r) 6 - 1, fun r => ?_, fun i hi => ?_⟩
  · have := dd_c_le (dd_rs w r) 6
    show dd_c (dd_rs w r) 6 - 1 ≤ 5
    omega
  · obtain ⟨h4, hh, ha, hb⟩ := rl i
    obtain ⟨e1, e2⟩ := has i hi
    show dd_c (dd_rs w (ba i)) 6 - 1 ≤ dd_c (dd_rs w (hd i)) 6 - 1 ∧ (2 ≤ sh i → dd_c (dd_rs w (bb i)) 6 - 1 ≤ dd_c (dd_rs w (hd i)) 6 - 1) ∧ (sh i = 4 → dd_c (dd_rs w (bb i)) 6 - 1 < dd_c (dd_rs w (hd i)) 6 - 1)
    refine ⟨?_, fun z => ?_, fun z => ?_⟩
    · have := dd_c_mono 6 (hsub (hd i) (ba i) hh ha e1)
      omega
    · have := dd_c_mono 6 (hsub (hd i) (bb i) hh hb (e2 z))
      omega
    · obtain ⟨z1, z2⟩ := h i hi z
      have h1 := dd_c_lt 6 (hsub (hd i) (bb i) hh hb (e2 (by omega))) ⟨hd i, hh, by unfold dd_rs; rw [decide_eq_true rfl]; rfl, by
        unfold dd_rs
        rw [z2, decide_eq_false (fun z => z1 z.symm)]
        rfl⟩
      have h2 := hpos (bb i) hb
      omega
theorem dd_Ra_sub {n : Nat} {rk : Nat → Nat} (ra : dd_Ra sh hd ba bb n rk) {m : Nat} (h : m ≤ n) : dd_Ra sh hd ba bb m rk :=
  ⟨ra.1, fun i hi => ra.2 i (by omega)⟩
end
end
section
/-! the families of sets as relations -/
def dd_Q (s : Nat → Int32) (f : Nat) : dd_R := fun r x y => r < 6 ∧ x < 6 ∧ y < 6 ∧ bt (s (f + 6 * r + x)) y = true
/-- every set is a set of six -/
def dd_A6 (s : Nat → Int32) : Prop := ∀ j, j < 180 → dd_S (s j)
theorem dd_A6u {s : Nat → Int32} (h : dd_A6 s) {k : Nat} {w : Int32} (hw : dd_S w) : dd_A6 (upd s k w) := by
  intro j hj
  by_cases e : j = k
  · subst e
    rw [pk_us]
    exact hw
  · rw [pk_un e]
    exact h j hj
theorem dd_Qe {s s' : Nat → Int32} {f : Nat} (h : ∀ j, j < 36 → s' (f + j) = s (f + j)) (r x y : Nat) : dd_Q s' f r x y ↔ dd_Q s f r x y := by
  unfold dd_Q
  constructor
  · intro ⟨a, b, c, d⟩
    have e := h (6 * r + x) (by omega)
    rw [← Nat.add_assoc] at e
    exact ⟨a, b, c, by rw [← e]; exact d⟩
  · intro ⟨a, b, c, d⟩
    have e := h (6 * r + x) (by omega)
    rw [← Nat.add_assoc] at e
    exact ⟨a, b, c, by rw [e]; exact d⟩
/-- the same, as one function -/
theorem dd_Qf {s s' : Nat → Int32} {f : Nat} (h : ∀ j, j < 36 → s' (f + j) = s (f + j)) : dd_Q s' f = dd_Q s f := by
  funext r x y
  exact propext (dd_Qe h r x y)
/-- a store elsewhere -/
theorem dd_Qo {s : Nat → Int32} {f k : Nat} {w : Int32} (h : k < f ∨ f + 36 ≤ k) : dd_Q (upd s k w) f = dd_Q s f :=
  dd_Qf fun j hj => pk_un (by omega)
/-- a store at another place of the family -/
theorem dd_Qn {s : Nat → Int32} {f r x r' x' : Nat} {w : Int32} (hx : x < 6) (h : ¬ (r' = r ∧ x' = x)) (y : Nat) : dd_Q (upd s (f + 6 * r + x) w) f r' x' y ↔ dd_Q s f r' x' y := by
  unfold dd_Q
  constructor
  · intro ⟨a, b, c, d⟩
    rw [pk_un (by omega)] at d
    exact ⟨a, b, c, d⟩
  · intro ⟨a, b, c, d⟩
    exact ⟨a, b, c, by rw [pk_un (by omega)]; exact d⟩
theorem dd_Qs {s : Nat → Int32} {f r x : Nat} {w : Int32} (hr : r < 6) (hx : x < 6) (y : Nat) : dd_Q (upd s (f + 6 * r + x) w) f r x y ↔ y < 6 ∧ bt w y = true := by
  unfold dd_Q
  rw [pk_us]
  exact ⟨fun h => h.2.2, fun h => ⟨hr, hx, h⟩⟩
/-- a store of more -/
theorem dd_Qup {s : Nat → Int32} {f r x : Nat} {v : Int32} (hr : r < 6) (hx : x < 6) (r' x' y : Nat) : dd_Q (upd s (f + 6 * r + x) (s (f + 6 * r + x) ||| v)) f r' x' y ↔ dd_Q s f r' x' y ∨ (r' = r ∧ x' = x ∧ y < 6 ∧ bt v y = true) := by
  by_cases e : r' = r ∧ x' = x
  · obtain ⟨rfl, rfl⟩ := e
    rw [dd_Qs hr hx, b_or, Bool.or_eq_true]
    unfold dd_Q
    constructor
    · intro ⟨h, h2⟩
      rcases h2 with h2 | h2
      · exact Or.inl ⟨hr, hx, h, h2⟩
      · exact Or.inr ⟨rfl, rfl, h, h2⟩
    · intro h
      rcases h with h | h
      · exact ⟨h.2.2.1, Or.inl h.2.2.2⟩
      · exact ⟨h.2.2.1, Or.inr h.2.2.2⟩
  · rw [dd_Qn hx e]
    exact ⟨Or.inl, fun h => h.elim id fun h => absurd ⟨h.1, h.2.1⟩ e⟩
/-- how many in a family -/
def dd_k (s : Nat → Int32) (f : Nat) : Nat := dd_c (fun k => bt (s (f + k / 6)) (k % 6)) 216
theorem dd_k_le (s : Nat → Int32) (f : Nat) : dd_k s f ≤ 216 := dd_c_le _ _
theorem dd_k_up {s : Nat → Int32} {f j : Nat} {v : Int32} : dd_k s f ≤ dd_k (upd s (f + j) (s (f + j) ||| v)) f := by
  refine dd_c_mono _ fun k hk h => ?_
  show bt (upd s (f + j) (s (f + j) ||| v) (f + k / 6)) (k % 6) = true
  by_cases e : f + k / 6 = f + j
  · rw [e, pk_us, b_or, ← e]
    have h' : bt (s (f + k / 6)) (k % 6) = true := h
    rw [h']
    rfl
  · rw [pk_un e]
    exact h
theorem dd_k_lt {s : Nat → Int32} {f j : Nat} {v : Int32} (hj : j < 36) (h1 : dd_S (s (f + j))) (h2 : dd_S v) (h : ¬ s (f + j) ||| v = s (f + j)) : dd_k s f < dd_k (upd s (f + j) (s (f + j) ||| v)) f := by
  have hx : ∃ y, y < 6 ∧ bt v y = true ∧ bt (s (f + j)) y = false := by
    refine Classical.byContradiction fun hn => h (dd_Sext (dd_Sor h1 h2) h1 fun y hy => ?_)
    rw [b_or]
    cases e1 : bt (s (f + j)) y
    · cases e2 : bt v y
      · rfl
      · exact absurd ⟨y, hy, e2, e1⟩ hn
    · rfl
  obtain ⟨y, hy, e2, e1⟩ := hx
  refine dd_c_lt _ (fun k hk h => ?_) ⟨6 * j + y, by omega, ?_, ?_⟩
  · show bt (upd s (f + j) (s (f + j) ||| v) (f + k / 6)) (k % 6) = true
    by_cases e : f + k / 6 = f + j
    · rw [e, pk_us, b_or, ← e]
      have h' : bt (s (f + k / 6)) (k % 6) = true := h
      rw [h']
      rfl
    · rw [pk_un e]
      exact h
  · show bt (upd s (f + j) (s (f + j) ||| v) (f + (6 * j + y) / 6)) ((6 * j + y) % 6) = true
    rw [show (6 * j + y) / 6 = j from by omega, show (6 * j + y) % 6 = y from by omega, pk_us, b_or, e2, Bool.or_true]
  · show bt (s (f + (6 * j + y) / 6)) ((6 * j + y) % 6) = false
    rw [show (6 * j + y) / 6 = j from by omega, show (6 * j + y) % 6 = y from by omega, e1]
theorem dd_upd_same {s : Nat → Int32} {k : Nat} {w : Int32} (h : w = s k) : upd s k w = s := by
  funext j
  by_cases e : j = k
  · subst e
    rw [pk_us, h]
  · rw [pk_un e]
theorem dd_G_mono {k a b : Nat} {A B A' B' : dd_R} {x y : Nat} (hA : ∀ x y, A a x y → A' a x y) (hB : 2 ≤ k → k ≠ 4 → ∀ x y, B b x y → B' b x y) (hC : k = 4 → ∀ x y, B' b x y → B b x y) : dd_G k a b A B x y → dd_G k a b A' B' x y := by
  intro h
  rcases h with ⟨e, h⟩ | ⟨e, h⟩ | ⟨e, z, h1, h2⟩ | ⟨e, h1, h2⟩ | ⟨e, h1, h2⟩
  · exact Or.inl ⟨e, hA _ _ h⟩
  · exact Or.inr (Or.inl ⟨e, hA _ _ h⟩)
  · exact Or.inr (Or.inr (Or.inl ⟨e, z, hA _ _ h1, hB (by omega) (by omega) _ _ h2⟩))
  · exact Or.inr (Or.inr (Or.inr (Or.inl ⟨e, hA _ _ h1, hB (by omega) (by omega) _ _ h2⟩)))
  · exact Or.inr (Or.inr (Or.inr (Or.inr ⟨e, hA _ _ h1, fun z => h2 (hC e _ _ z)⟩)))
/-- what rules give lies within -/
theorem dd_G_in {s : Nat → Int32} {f g k a b x y : Nat} (h : dd_G k a b (dd_Q s f) (dd_Q s g) x y) : x < 6 ∧ y < 6 := by
  rcases h with ⟨_, h⟩ | ⟨_, h⟩ | ⟨_, z, h1, h2⟩ | ⟨_, h1, _⟩ | ⟨_, h1, _⟩
  · exact ⟨h.2.1, h.2.2.1⟩
  · exact ⟨h.2.2.1, h.2.1⟩
  · exact ⟨h1.2.1, h2.2.2.1⟩
  · exact ⟨h1.2.1, h1.2.2.1⟩
  · exact ⟨h1.2.1, h1.2.2.1⟩
/-! the store lemmas of derive and of the marks -/
section
variable (sh hd ba bb : Nat → Nat) (n : Nat) (ly : Nat → Nat)
/-- derive(L) from s0, on the way at s -/
def dd_Dv (L : Nat) (s0 s : Nat → Int32) : Prop :=
  (∀ j, j < 36 ∨ 72 ≤ j → s j = s0 j) ∧ dd_A6 s ∧ (∀ r, ly r ≠ L → ∀ x y, dd_Q s 36 r x y ↔ dd_Q s0 36 r x y) ∧
  ∀ T : dd_R, (∀ r, ly r < L → ∀ x y, T r x y ↔ dd_Q s0 36 r x y) → (∀ r x y, ly r = L → dd_Q s0 36 r x y → T r x y) → dd_Cl sh hd ba bb n ly L (dd_Q s0 0) T → ∀ r x y, ly r = L → dd_Q s 36 r x y → T r x y
/-- marks of layer L from s0, on the way at s -/
def dd_Tv (L : Nat) (s0 s : Nat → Int32) : Prop :=
  (∀ j, j < 108 ∨ 144 ≤ j → s j = s0 j) ∧ dd_A6 s ∧ (∀ r, ly r ≠ L → ∀ x y, dd_Q s 108 r x y ↔ dd_Q s0 108 r x y) ∧ ∀ r x y, dd_Q s0 108 r x y → dd_Q s 108 r x y
end
/-- family f grows -/
def dd_Le (f : Nat) (s s' : Nat → Int32) : Prop := ∀ r x y, dd_Q s f r x y → dd_Q s' f r x y
section
variable {sh hd ba bb : Nat → Nat} {n : Nat} {ly : Nat → Nat}
theorem dd_Dv0 {L : Nat} {s : Nat → Int32} (h : dd_A6 s) : dd_Dv sh hd ba bb n ly L s s :=
  ⟨fun _ _ => rfl, h, fun _ _ _ _ => Iff.rfl, fun _ _ h _ => h⟩
theorem dd_Dv_put {L : Nat} {s0 s : Nat → Int32} (d : dd_Dv sh hd ba bb n ly L s0 s) {r x : Nat} {v : Int32} (hr : r < 6) (hx : x < 6) (e : ly r = L) (hv : dd_S v)
    (h : ∀ T : dd_R, (∀ r, ly r < L → ∀ x y, T r x y ↔ dd_Q s0 36 r x y) → (∀ r x y, ly r = L → dd_Q s 36 r x y → T r x y) → dd_Cl sh hd ba bb n ly L (dd_Q s0 0) T → ∀ y, y < 6 → bt v y = true → T r x y) :
    dd_Dv sh hd ba bb n ly L s0 (upd s (36 + 6 * r + x) (s (36 + 6 * r + x) ||| v)) := by
  obtain ⟨d1, d2, d3, d4⟩ := d
  refine ⟨fun j hj => ?_, dd_A6u d2 (dd_Sor (d2 _ (by omega)) hv), fun r' hr' x' y => ?_, fun T t1 t2 t3 r' x' y e' q => ?_⟩
  · rw [pk_un (by omega)]
    exact d1 j hj
  · rw [dd_Qup hr hx]
    rw [d3 r' hr' x' y]
    exact ⟨fun z => z.elim id fun z => absurd e (by rw [← z.1]; exact hr'), Or.inl⟩
  · rw [dd_Qup hr hx] at q
    have d5 := d4 T t1 t2 t3
    rcases q with q | ⟨rfl, rfl, hy, hb⟩
    · exact d5 r' x' y e' q
    · exact h T t1 d5 t3 y hy hb
theorem dd_Le_put {f r x : Nat} {s : Nat → Int32} {v : Int32} (hr : r < 6) (hx : x < 6) : dd_Le f s (upd s (f + 6 * r + x) (s (f + 6 * r + x) ||| v)) :=
  fun r' x' y h => (dd_Qup hr hx r' x' y).mpr (Or.inl h)
/-- a rule of the layer is applied at x -/
theorem dd_Dv_rule {L : Nat} {s0 s : Nat → Int32} (st : dd_St sh hd ba bb n ly) (rl : dd_Rl sh hd ba bb) (d : dd_Dv sh hd ba bb n ly L s0 s) {i x : Nat} {v : Int32} (hi : i < n) (hx : x < 6) (e : ly (hd i) = L) (hv : dd_S v)
    (h : ∀ y, y < 6 → (bt v y = true ↔ dd_G (sh i) (ba i) (bb i) (dd_Q s 36) (dd_Q s 36) x y)) :
    dd_Dv sh hd ba bb n ly L s0 (upd s (36 + 6 * hd i + x) (s (36 + 6 * hd i + x) ||| v)) := by
  refine dd_Dv_put d (rl i).2.1 hx e hv fun T t1 t2 t3 y hy hb => t3.2 i hi e x y ?_
  obtain ⟨s1, s2, s3⟩ := st i hi
  have key : ∀ r, ly r ≤ L → ∀ x y, dd_Q s 36 r x y → T r x y := by
    intro r hr x y q
    by_cases e' : ly r = L
    · exact t2 r x y e' q
    · exact (t1 r (by omega) x y).mpr ((d.2.2.1 r e' x y).mp q)
  refine dd_G_mono (key _ (by omega)) (fun z _ => key _ (by have := s2 z; omega)) (fun z x y t => ?_) ((h y hy).mp hb)
  have s3' := s3 z
  exact (d.2.2.1 _ (by omega) x y).mpr ((t1 _ (by omega) x y).mp t)
theorem dd_Tv0 {L : Nat} {s : Nat → Int32} (h : dd_A6 s) : dd_Tv ly L s s :=
  ⟨fun _ _ => rfl, h, fun _ _ _ _ => Iff.rfl, fun _ _ _ => id⟩
theorem dd_Tv_put {L : Nat} {s0 s : Nat → Int32} (d : dd_Tv ly L s0 s) {r x : Nat} {v : Int32} (hr : r < 6) (hx : x < 6) (e : ly r = L) (hv : dd_S v) :
    dd_Tv ly L s0 (upd s (108 + 6 * r + x) (s (108 + 6 * r + x) ||| v)) := by
  obtain ⟨d1, d2, d3, d4⟩ := d
  refine ⟨fun j hj => ?_, dd_A6u d2 (dd_Sor (d2 _ (by omega)) hv), fun r' hr' x' y => ?_, fun r' x' y q => ?_⟩
  · rw [pk_un (by omega)]
    exact d1 j hj
  · rw [dd_Qup hr hx]
    rw [d3 r' hr' x' y]
    exact ⟨fun z => z.elim id fun z => absurd e (by rw [← z.1]; exact hr'), Or.inl⟩
  · exact (dd_Qup hr hx r' x' y).mpr (Or.inl (d4 r' x' y q))
end
end
section
/-! X: hasSecond, given, bitsIn -/
theorem dd_in2 {a x N : Nat} (h : a + x < N) (hN : N < 2 ^ 31) : vp_in (nI a + nI x) N := by
  rw [nI_add]
  exact vp_in_nI h hN
theorem dd_rx (s : Nat → Int32) {a x : Nat} (h : a + x < 2 ^ 31) : s (nI a + nI x).toNatClampNeg = s (a + x) := by
  rw [nI_add, nI_clamp h]
theorem dd_fam (f : Nat) (w : Nat → Nat) {i : Nat} (hi : i < 2 ^ 31) : nI f + 6 * dd_N w (nI i).toNatClampNeg = nI (f + 6 * w i) := by
  rw [dd_at w hi]
  show nI f + nI 6 * nI (w i) = _
  rw [pk_mul, nI_add]
section
variable {rc g l : Int32} {sh hd ba bb : Nat → Nat} {nd la s : Nat → Int32} {ah aa ab : Nat → Int32}
theorem dd_xh {post : Int32 → Prop} {i : Nat} (hi : i < 9) (h4 : sh i ≤ 4) (h0 : sh i < 2 → post 0) (h1 : 2 ≤ sh i → post 1) : wpX_hasSecond post (rc, g, l, dd_N sh, ah, aa, ab, nd, la, s) (nI i) := by
  unfold wpX_hasSecond
  exact ⟨vp_in_nI hi (by omega), pk_lt (sh i) 2 h0 h1 (dd_at sh (by omega))⟩
/-- the loop of given for TURN -/
theorem dd_xg1 {post : Int32 → Prop} {x a b : Nat} (hx : x < 6) (ha : a + 6 ≤ 180)
    (h : ∀ r, dd_S r → (∀ k, k < 6 → (bt r k = true ↔ bt (s (a + k)) x = true)) → post r) :
    ∃ m, wX_given_114 post (nI x) (nI a) (nI b) (nI 1) rc g l (dd_N sh) (dd_N hd) (dd_N ba) (dd_N bb) nd la s m 0 0 := by
  refine loop_0 (fun m y (r : Int32) => wX_given_114 post (nI x) (nI a) (nI b) (nI 1) rc g l (dd_N sh) (dd_N hd) (dd_N ba) (dd_N bb) nd la s m r (nI y))
    (fun y r => ∀ k, bt r k = true ↔ k < y ∧ bt (s (a + k)) x = true) 6 0 ?_ ?_ ?_
  · intro k
    rw [b_0]
    exact ⟨fun z => absurd z (by decide), fun z => absurd z.1 (Nat.not_lt_zero _)⟩
  · intro m r hI
    refine br_t (nI_le (a := 6) (by omega) (by omega)) (h r (fun k hk => ?_) fun k hk => ?_)
    · cases e : bt r k
      · rfl
      · have := ((hI k).mp e).1
        omega
    · rw [hI k]
      exact ⟨fun z => z.2, fun z => ⟨hk, z⟩⟩
  · intro m y r hy hI hn
    refine br_f (nI_ge (b := 6) hy (by omega)) (br_t rfl ⟨dd_in2 (by omega) (by omega), nm_e (nm_r (nI_1 y) (hn _ fun k => ?_))⟩)
    rw [b_or, dd_rx s (by omega), dd_mv _ (by omega) (by omega), Bool.or_eq_true, hI k, Bool.and_eq_true, decide_eq_true_eq]
    constructor
    · intro z
      rcases z with z | ⟨z1, rfl⟩
      · exact ⟨by omega, z.2⟩
      · exact ⟨by omega, z1⟩
    · intro ⟨z1, z2⟩
      by_cases e : k = y
      · subst e
        exact Or.inr ⟨z2, rfl⟩
      · exact Or.inl ⟨by omega, z2⟩
/-- the loop of given for JOIN -/
theorem dd_xg2 {post : Int32 → Prop} {x a b : Nat} (hx : x < 6) (ha : a + 6 ≤ 180) (hb : b + 6 ≤ 180) (S : dd_A6 s)
    (h : ∀ r, dd_S r → (∀ k, k < 6 → (bt r k = true ↔ ∃ z, z < 6 ∧ bt (s (a + x)) z = true ∧ bt (s (b + z)) k = true)) → post r) :
    ∃ m, wX_given_114 post (nI x) (nI a) (nI b) (nI 2) rc g l (dd_N sh) (dd_N hd) (dd_N ba) (dd_N bb) nd la s m 0 0 := by
  refine loop_0 (fun m y (r : Int32) => wX_given_114 post (nI x) (nI a) (nI b) (nI 2) rc g l (dd_N sh) (dd_N hd) (dd_N ba) (dd_N bb) nd la s m r (nI y))
    (fun y r => dd_S r ∧ ∀ k, bt r k = true ↔ ∃ z, z < y ∧ bt (s (a + x)) z = true ∧ bt (s (b + z)) k = true) 6 0 ⟨dd_S0, ?_⟩ ?_ ?_
  · intro k
    rw [b_0]
    exact ⟨fun z => absurd z (by decide), fun ⟨z, h, _⟩ => absurd h (Nat.not_lt_zero _)⟩
  · intro m r hI
    exact br_t (nI_le (a := 6) (by omega) (by omega)) (h r hI.1 fun k _ => hI.2 k)
  · intro m y r hy hI hn
    refine br_f (nI_ge (b := 6) hy (by omega)) (br_f (by decide) ⟨dd_in2 (by omega) (by omega), br_c (fun z => ?_) fun z => ?_⟩)
    · rw [dd_rx s (by omega), dd_rd0 _ (by omega)] at z
      refine nm_r (nI_1 y) (hn r ⟨hI.1, fun k => ?_⟩)
      rw [hI.2 k]
      constructor
      · intro ⟨c, c1, c2⟩
        exact ⟨c, by omega, c2⟩
      · intro ⟨c, c1, c2, c3⟩
        by_cases e : c = y
        · subst e
          rw [z] at c2
          exact absurd c2 (by decide)
        · exact ⟨c, by omega, c2, c3⟩
    · rw [dd_rx s (by omega), dd_rd0 _ (by omega)] at z
      have z' : bt (s (a + x)) y = true := by
        cases e : bt (s (a + x)) y
        · exact absurd e z
        · rfl
      refine ⟨dd_in2 (by omega) (by omega), nm_r (congrArg (fun w => r ||| w) (dd_rx s (by omega))) (nm_r (nI_1 y) (hn _ ⟨dd_Sor hI.1 (S _ (by omega)), fun k => ?_⟩))⟩
      rw [b_or, Bool.or_eq_true, hI.2 k]
      constructor
      · intro w
        rcases w with ⟨c, c1, c2⟩ | w
        · exact ⟨c, by omega, c2⟩
        · exact ⟨y, by omega, z', w⟩
      · intro ⟨c, c1, c2, c3⟩
        by_cases e : c = y
        · subst e
          exact Or.inr c3
        · exact Or.inl ⟨c, by omega, c2, c3⟩
theorem dd_xg {post : Int32 → Prop} (rl : dd_Rl sh hd ba bb) (S : dd_A6 s) {i fA fB x : Nat} (hi : i < 9) (hA : fA ≤ 144) (hB : fB ≤ 144) (hx : x < 6)
    (h : ∀ r, dd_S r → (∀ y, y < 6 → (bt r y = true ↔ dd_G (sh i) (ba i) (bb i) (dd_Q s fA) (dd_Q s fB) x y)) → post r) :
    wpX_given post (rc, g, l, dd_N sh, dd_N hd, dd_N ba, dd_N bb, nd, la, s) (nI i) (nI fA) (nI fB) (nI x) := by
  obtain ⟨h4, hh, ha, hb⟩ := rl i
  unfold wpX_given
  refine ⟨vp_in_nI hi (by omega), nm_r (dd_fam fA ba (by omega)) ⟨vp_in_nI hi (by omega), nm_r (dd_fam fB bb (by omega)) ⟨vp_in_nI hi (by omega), nm_r (dd_at sh (by omega)) ?_⟩⟩⟩
  have qA : ∀ x y, x < 6 → y < 6 → (dd_Q s fA (ba i) x y ↔ bt (s (fA + 6 * ba i + x)) y = true) := fun x y hx hy => ⟨fun z => z.2.2.2, fun z => ⟨ha, hx, hy, z⟩⟩
  have qB : ∀ x y, x < 6 → y < 6 → (dd_Q s fB (bb i) x y ↔ bt (s (fB + 6 * bb i + x)) y = true) := fun x y hx hy => ⟨fun z => z.2.2.2, fun z => ⟨hb, hx, hy, z⟩⟩
  have eA : s (nI (fA + 6 * ba i) + nI x).toNatClampNeg = s (fA + 6 * ba i + x) := dd_rx s (by omega)
  have eB : s (nI (fB + 6 * bb i) + nI x).toNatClampNeg = s (fB + 6 * bb i + x) := dd_rx s (by omega)
  have iA : vp_in (nI (fA + 6 * ba i) + nI x) 180 := dd_in2 (by omega) (by omega)
  have iB : vp_in (nI (fB + 6 * bb i) + nI x) 180 := dd_in2 (by omega) (by omega)
  rw [eA, eB]
  refine pk_eq (sh i) 0 (fun k => ⟨iA, h _ (S _ (by omega)) fun y hy => ?_⟩) (fun k0 => pk_eq (sh i) 3 (fun k => ⟨iA, iB, h _ (dd_San (S _ (by omega))) fun y hy => ?_⟩) (fun k3 => pk_eq (sh i) 4 (fun k => ⟨iA, iB, h _ (dd_San (S _ (by omega))) fun y hy => ?_⟩) (fun k4 => ?_)))
  · rw [← qA x y hx hy]
    exact ⟨fun z => Or.inl ⟨k, z⟩, fun z => by
      rcases z with z | z | z | z | z
      · exact z.2
      · omega
      · omega
      · omega
      · omega⟩
  · rw [b_and, Bool.and_eq_true, ← qA x y hx hy, ← qB x y hx hy]
    exact ⟨fun z => Or.inr (Or.inr (Or.inr (Or.inl ⟨k, z⟩))), fun z => by
      rcases z with z | z | z | z | z
      · omega
      · omega
      · omega
      · exact z.2
      · omega⟩
  · rw [dd_nb, Bool.and_eq_true, ← qA x y hx hy]
    have e : (!bt (s (fB + 6 * bb i + x)) y) = true ↔ ¬ dd_Q s fB (bb i) x y := by
      rw [qB x y hx hy]
      cases bt (s (fB + 6 * bb i + x)) y <;> decide
    rw [e]
    exact ⟨fun z => Or.inr (Or.inr (Or.inr (Or.inr ⟨k, z⟩))), fun z => by
      rcases z with z | z | z | z | z
      · omega
      · omega
      · omega
      · omega
      · exact z.2⟩
  · have e : sh i = 1 ∨ sh i = 2 := by omega
    rcases e with e | e
    · rw [e]
      refine dd_xg1 hx (by omega) fun r hr hk => h r hr fun y hy => ?_
      rw [hk y hy, ← qA y x hy hx]
      exact ⟨fun z => Or.inr (Or.inl ⟨e, z⟩), fun z => by
        rcases z with z | z | z | z | z
        · omega
        · exact z.2
        · omega
        · omega
        · omega⟩
    · rw [e]
      refine dd_xg2 hx (by omega) (by omega) S fun r hr hk => h r hr fun y hy => ?_
      rw [hk y hy]
      constructor
      · intro ⟨z, z1, z2, z3⟩
        exact Or.inr (Or.inr (Or.inl ⟨e, z, (qA x z hx z1).mpr z2, (qB z y z1 hy).mpr z3⟩))
      · intro z
        rcases z with z | z | z | z | z
        · omega
        · omega
        · obtain ⟨_, c, c1, c2⟩ := z
          exact ⟨c, c1.2.2.1, c1.2.2.2, c2.2.2.2⟩
        · omega
        · omega
/-- how many of six -/
def dd_p6 (x : Int32) : Nat := dd_c (fun k => bt x k) 6
theorem dd_xb {post : Int32 → Prop} {x : Int32} {u : SX} (h : post (nI (dd_p6 x))) : wpX_bitsIn post u x := by
  obtain ⟨u1, u2, u3, u4, u5, u6, u7, u8, u9, u10⟩ := u
  unfold wpX_bitsIn
  refine loop_0 (fun m y (r : Int32) => wX_bitsIn_4 post x u1 u2 u3 u4 u5 u6 u7 u8 u9 u10 m r (nI y)) (fun y r => r = nI (dd_c (fun k => bt x k) y)) 6 0 rfl ?_ ?_
  · intro m r hI
    subst hI
    exact br_t (nI_le (a := 6) (by omega) (by omega)) h
  · intro m y r hy hI hn
    subst hI
    refine br_f (nI_ge (b := 6) hy (by omega)) (nm_e (nm_r (nI_1 y) (hn _ ?_)))
    rw [dd_rd x y (by omega)]
    show _ = nI (dd_c (fun k => bt x k) y + (if bt x y = true then 1 else 0))
    by_cases e : bt x y = true
    · rw [if_pos e, if_pos e, ← nI_add]
      rfl
    · rw [if_neg e, if_neg e, Int32.add_zero]
      rfl
end
end
section
/-! X: apply, derive -/
theorem dd_loop2 {A B : Type} (W : Nat → Nat → A → B → Prop) (I : Nat → A → B → Prop) (e : Nat) (a : A) (b : B) (h0 : I 0 a b) (hx : ∀ n a b, I e a b → W (n + 1) e a b)
    (hs : ∀ n i a b, i < e → I i a b → (∀ a' b', I (i + 1) a' b' → W n (i + 1) a' b') → W (n + 1) i a b) : ∃ n, W n 0 a b :=
  loop_0 (fun n i (p : A × B) => W n i p.1 p.2) (fun i p => I i p.1 p.2) e (a, b) h0 (fun n p => hx n p.1 p.2) (fun n i p hi hI hn => hs n i p.1 p.2 hi hI (fun a' b' h => hn (a', b') h))
theorem dd_at2 (u w : Nat → Nat) {i : Nat} (hi : i < 2 ^ 31) (hw : w i < 2 ^ 31) : dd_N u (dd_N w (nI i).toNatClampNeg).toNatClampNeg = nI (u (w i)) := by
  rw [dd_at w hi, dd_at u hw]
theorem dd_fix (f : Nat) (w : Nat → Nat) {i : Nat} (hi : i < 2 ^ 31) (x : Nat) : (nI f + 6 * dd_N w (nI i).toNatClampNeg) + nI x = nI (f + 6 * w i + x) := by
  rw [dd_fam f w hi, nI_add]
theorem dd_inN (w : Nat → Nat) {i N : Nat} (hi : i < 2 ^ 31) (h : w i < N) (hN : N < 2 ^ 31) : vp_in (dd_N w (nI i).toNatClampNeg) N := by
  rw [dd_at w hi]
  exact vp_in_nI h hN
section
variable {g l : Int32} {sh hd ba bb ly : Nat → Nat} {nd : Nat → Int32} {n : Nat}
/-- the rule i gives nothing new -/
def dd_Rc (sh hd ba bb : Nat → Nat) (i : Nat) (s : Nat → Int32) : Prop := ∀ x y, dd_G (sh i) (ba i) (bb i) (dd_Q s 36) (dd_Q s 36) x y → dd_Q s 36 (hd i) x y
theorem dd_xapply {post : Int32 → SX → Prop} {L : Nat} {s0 s1 : Nat → Int32} (st : dd_St sh hd ba bb n ly) (rl : dd_Rl sh hd ba bb) (h8 : n ≤ 8) (d : dd_Dv sh hd ba bb n ly L s0 s1) {i : Nat} (hi : i < n) (e : ly (hd i) = L)
    (h : ∀ c s', dd_Dv sh hd ba bb n ly L s0 s' → dd_Le 36 s1 s' → ((c = 0 ∧ s' = s1 ∧ dd_Rc sh hd ba bb i s1) ∨ (c = 1 ∧ dd_k s1 36 < dd_k s' 36)) → post c (nI n, g, l, dd_N sh, dd_N hd, dd_N ba, dd_N bb, nd, dd_N ly, s')) :
    wpX_apply post (nI n, g, l, dd_N sh, dd_N hd, dd_N ba, dd_N bb, nd, dd_N ly, s1) (nI i) := by
  obtain ⟨h4, hh, ha, hb⟩ := rl i
  unfold wpX_apply
  refine dd_loop2 (fun m x (c : Int32) (s' : Nat → Int32) => wX_apply_4 post (nI i) (nI n) g l m c (nI x) (dd_N sh) (dd_N hd) (dd_N ba) (dd_N bb) nd (dd_N ly) s')
    (fun x c s' => dd_Dv sh hd ba bb n ly L s0 s' ∧ dd_Le 36 s1 s' ∧ ((c = 0 ∧ s' = s1 ∧ ∀ x', x' < x → ∀ y, dd_G (sh i) (ba i) (bb i) (dd_Q s1 36) (dd_Q s1 36) x' y → dd_Q s1 36 (hd i) x' y) ∨ (c = 1 ∧ dd_k s1 36 < dd_k s' 36)))
    6 0 s1 ⟨d, fun _ _ _ z => z, Or.inl ⟨rfl, rfl, fun x' hx' => absurd hx' (Nat.not_lt_zero _)⟩⟩ ?_ ?_
  · intro m c s ⟨d', le, hc⟩
    refine br_t (nI_le (a := 6) (by omega) (by omega)) ⟨?_, h c s d' le ?_⟩
    · rcases hc with ⟨hc, _⟩ | ⟨hc, _⟩
      · have hc' : c = 0 := hc
        subst hc'
        rfl
      · have hc' : c = 1 := hc
        subst hc'
        rfl
    · rcases hc with ⟨hc, es, hr⟩ | hc
      · exact Or.inl ⟨hc, es, fun x y gv => hr x (dd_G_in gv).1 y gv⟩
      · exact Or.inr hc
  · intro m x c s hx ⟨d', le, hc⟩ hn
    have S : dd_A6 s := d'.2.1
    refine br_f (nI_ge (b := 6) hx (by omega)) ⟨vp_in_nI (by omega) (by omega), nm_r (dd_fix 36 hd (by omega) x) ⟨vp_in_nI (by omega) (by omega), ?_⟩⟩
    rw [nI_clamp (n := 36 + 6 * hd i + x) (by omega)]
    refine dd_xg (fA := 36) (fB := 36) rl S (by omega) (by omega) (by omega) hx fun v hv hb => nm_e ⟨vp_in_nI (by omega) (by omega), br_c (fun z => ⟨vp_in_nI (by omega) (by omega), nm_e (nm_r (nI_1 x) ?_)⟩) fun z => ⟨vp_in_nI (by omega) (by omega), nm_e (nm_r (nI_1 x) ?_)⟩⟩
    · refine hn c _ ⟨dd_Dv_rule st rl d' hi hx e hv hb, fun r x' y q => dd_Le_put hh hx r x' y (le r x' y q), ?_⟩
      have es := dd_upd_same (s := s) (k := 36 + 6 * hd i + x) z
      rcases hc with ⟨hc, es1, hr⟩ | ⟨hc, hk⟩
      · have es1' : s = s1 := es1
        refine Or.inl ⟨hc, es.trans es1, fun x' hx' y gv => ?_⟩
        by_cases ex : x' = x
        · subst ex
          have hy := (dd_G_in gv).2
          rw [es1'] at hb z
          have hv1 := (hb y hy).mpr gv
          refine ⟨hh, hx, hy, ?_⟩
          rw [← z, b_or, hv1, Bool.or_true]
        · exact hr x' (by omega) y gv
      · refine Or.inr ⟨hc, ?_⟩
        show dd_k s1 36 < dd_k (upd s (36 + 6 * hd i + x) (s (36 + 6 * hd i + x) ||| v)) 36
        rw [es]
        exact hk
    · refine hn 1 _ ⟨dd_Dv_rule st rl d' hi hx e hv hb, fun r x' y q => dd_Le_put hh hx r x' y (le r x' y q), Or.inr ⟨rfl, ?_⟩⟩
      have hk : dd_k s1 36 ≤ dd_k s 36 := by
        rcases hc with ⟨_, es1, _⟩ | ⟨_, hk⟩
        · have es1' : s = s1 := es1
          rw [es1']
          exact Nat.le_refl _
        · exact Nat.le_of_lt hk
      refine Nat.lt_of_le_of_lt hk ?_
      have := dd_k_lt (s := s) (f := 36) (j := 6 * hd i + x) (v := v) (by omega) (S _ (by omega)) hv
      rw [← Nat.add_assoc] at this
      exact this z
theorem dd_xd91 {post : SX → Prop} {J : Int32 → Int32 → Int32 → Int32 → Int32 → (Nat → Int32) → (Nat → Int32) → (Nat → Int32) → (Nat → Int32) → (Nat → Int32) → (Nat → Int32) → (Nat → Int32) → Prop} {L k : Nat} {s0 s1 : Nat → Int32} (st : dd_St sh hd ba bb n ly) (rl : dd_Rl sh hd ba bb) (l6 : ∀ r, ly r < 6) (hL : L < 6) (h8 : n ≤ 8) (d : dd_Dv sh hd ba bb n ly L s0 s1)
    (h : ∀ c s', dd_Dv sh hd ba bb n ly L s0 s' → dd_Le 36 s1 s' → ((c = 0 ∧ ∀ i, i < n → ly (hd i) = L → dd_Rc sh hd ba bb i s') ∨ (c = 1 ∧ dd_k s1 36 < dd_k s' 36)) → J c (nI (k + 1)) (nI n) g l (dd_N sh) (dd_N hd) (dd_N ba) (dd_N bb) nd (dd_N ly) s') :
    ∃ m, wX_derive_91 post J (nI L) (nI k) m 0 0 (nI n) g l (dd_N sh) (dd_N hd) (dd_N ba) (dd_N bb) nd (dd_N ly) s1 := by
  refine dd_loop2 (fun m i (c : Int32) (s' : Nat → Int32) => wX_derive_91 post J (nI L) (nI k) m c (nI i) (nI n) g l (dd_N sh) (dd_N hd) (dd_N ba) (dd_N bb) nd (dd_N ly) s')
    (fun i c s' => dd_Dv sh hd ba bb n ly L s0 s' ∧ dd_Le 36 s1 s' ∧ ((c = 0 ∧ s' = s1 ∧ ∀ i', i' < i → ly (hd i') = L → dd_Rc sh hd ba bb i' s1) ∨ (c = 1 ∧ dd_k s1 36 < dd_k s' 36)))
    n 0 s1 ⟨d, fun _ _ _ z => z, Or.inl ⟨rfl, rfl, fun i' hi' => absurd hi' (Nat.not_lt_zero _)⟩⟩ ?_ ?_
  · intro m c s ⟨d', le, hc⟩
    refine br_t (nI_le (Nat.le_refl _) (by omega)) (nm_r (nI_1 k) (h c s d' le ?_))
    rcases hc with ⟨hc, es, hr⟩ | hc
    · have es' : s = s1 := es
      subst es'
      exact Or.inl ⟨hc, hr⟩
    · exact Or.inr hc
  · intro m i c s hi ⟨d', le, hc⟩ hn
    obtain ⟨h4, hh, ha, hb⟩ := rl i
    refine br_f (nI_ge hi (by omega)) ⟨vp_in_nI (by omega) (by omega), dd_inN hd (by omega) hh (by omega), pk_eq (ly (hd i)) L (fun e => ?_) (fun e => nm_r (nI_1 i) (hn c s ⟨d', le, ?_⟩)) (dd_at2 ly hd (by omega) (by omega)) rfl (by have := l6 (hd i); omega)⟩
    · refine dd_xapply st rl h8 d' hi e fun c' s' d2 le2 hc2 => ?_
      rcases hc2 with ⟨rfl, rfl, hr2⟩ | ⟨rfl, hk2⟩
      · refine br_t rfl (nm_r (nI_1 i) (hn c s' ⟨d2, le, ?_⟩))
        rcases hc with ⟨hc, es, hr⟩ | hc
        · have es' : s' = s1 := es
          subst es'
          refine Or.inl ⟨hc, rfl, fun i' hi' e' => ?_⟩
          by_cases ei : i' = i
          · subst ei
            exact hr2
          · exact hr i' (by omega) e'
        · exact Or.inr hc
      · refine br_f (by decide) (nm_r (nI_1 i) (hn 1 s' ⟨d2, fun r x y q => le2 r x y (le r x y q), Or.inr ⟨rfl, ?_⟩⟩))
        refine Nat.lt_of_le_of_lt ?_ hk2
        rcases hc with ⟨_, es, _⟩ | ⟨_, hk⟩
        · have es' : s = s1 := es
          rw [es']
          exact Nat.le_refl _
        · exact Nat.le_of_lt hk
    · rcases hc with ⟨hc, es, hr⟩ | hc
      · refine Or.inl ⟨hc, es, fun i' hi' e' => ?_⟩
        by_cases ei : i' = i
        · subst ei
          exact absurd e' e
        · exact hr i' (by omega) e'
      · exact Or.inr hc
theorem dd_xd75 {post : SX → Prop} {L : Nat} {s0 s1 : Nat → Int32} (st : dd_St sh hd ba bb n ly) (rl : dd_Rl sh hd ba bb) (l6 : ∀ r, ly r < 6) (hL : L < 6) (h8 : n ≤ 8) (d : dd_Dv sh hd ba bb n ly L s0 s1) (hf : ∀ r x y, ly r = L → dd_Q s0 0 r x y → dd_Q s1 36 r x y)
    (h : ∀ s', dd_Dv sh hd ba bb n ly L s0 s' → dd_Cl sh hd ba bb n ly L (dd_Q s0 0) (dd_Q s' 36) → post (nI n, g, l, dd_N sh, dd_N hd, dd_N ba, dd_N bb, nd, dd_N ly, s')) :
    ∃ m, wX_derive_75 post (nI L) m 1 0 (nI n) g l (dd_N sh) (dd_N hd) (dd_N ba) (dd_N bb) nd (dd_N ly) s1 := by
  refine dd_loop2 (fun m k (c : Int32) (s' : Nat → Int32) => wX_derive_75 post (nI L) m c (nI k) (nI n) g l (dd_N sh) (dd_N hd) (dd_N ba) (dd_N bb) nd (dd_N ly) s')
    (fun k c s' => dd_Dv sh hd ba bb n ly L s0 s' ∧ (∀ r x y, ly r = L → dd_Q s0 0 r x y → dd_Q s' 36 r x y) ∧ ((c = 0 ∧ ∀ i, i < n → ly (hd i) = L → dd_Rc sh hd ba bb i s') ∨ (c = 1 ∧ k ≤ dd_k s' 36)))
    217 1 s1 ⟨d, hf, Or.inr ⟨rfl, Nat.zero_le _⟩⟩ ?_ ?_
  · intro m c s ⟨d', f', hc⟩
    refine br_t (nI_le (a := 217) (by omega) (by omega)) (h s d' ?_)
    rcases hc with ⟨_, hr⟩ | ⟨_, hk⟩
    · exact ⟨f', hr⟩
    · have hk' : 217 ≤ dd_k s 36 := hk
      have := dd_k_le s 36
      omega
  · intro m k c s hk ⟨d', f', hc⟩ hn
    refine br_f (nI_ge (b := 217) hk (by omega)) ?_
    rcases hc with ⟨hc, hr⟩ | ⟨hc, hk2⟩
    · exact br_t hc (h s d' ⟨f', hr⟩)
    · have hc' : c = 1 := hc
      subst hc'
      refine br_f (by decide) (dd_xd91 st rl l6 hL h8 d' fun c' s' d2 le hc2 => hn c' s' ⟨d2, fun r x y e q => le r x y (f' r x y e q), ?_⟩)
      rcases hc2 with ⟨hc2, hr⟩ | ⟨hc2, hk3⟩
      · exact Or.inl ⟨hc2, hr⟩
      · have hk2' : k ≤ dd_k s 36 := hk2
        exact Or.inr ⟨hc2, by show k + 1 ≤ dd_k s' 36; omega⟩
theorem dd_xd23 {post : SX → Prop} {J : Int32 → (Nat → Int32) → (Nat → Int32) → (Nat → Int32) → (Nat → Int32) → (Nat → Int32) → (Nat → Int32) → (Nat → Int32) → Prop} {L r : Nat} {s0 s1 : Nat → Int32} (hr : r < 6) (e : ly r = L) (d : dd_Dv sh hd ba bb n ly L s0 s1)
    (h : ∀ s', dd_Dv sh hd ba bb n ly L s0 s' → dd_Le 36 s1 s' → (∀ x y, dd_Q s0 0 r x y → dd_Q s' 36 r x y) → J (nI (r + 1)) (dd_N sh) (dd_N hd) (dd_N ba) (dd_N bb) nd (dd_N ly) s') :
    ∃ m, wX_derive_23 post J (nI L) (nI r) (nI n) g l m 0 (dd_N sh) (dd_N hd) (dd_N ba) (dd_N bb) nd (dd_N ly) s1 := by
  refine loop_0 (fun m x (s : Nat → Int32) => wX_derive_23 post J (nI L) (nI r) (nI n) g l m (nI x) (dd_N sh) (dd_N hd) (dd_N ba) (dd_N bb) nd (dd_N ly) s)
    (fun x s => dd_Dv sh hd ba bb n ly L s0 s ∧ dd_Le 36 s1 s ∧ ∀ x' y, x' < x → dd_Q s0 0 r x' y → dd_Q s 36 r x' y)
    6 s1 ⟨d, fun _ _ _ z => z, fun x' y hx' => absurd hx' (Nat.not_lt_zero _)⟩ ?_ ?_
  · intro m s ⟨d', le, hf⟩
    exact br_t (nI_le (a := 6) (by omega) (by omega)) (nm_r (nI_1 r) (h s d' le fun x y q => hf x y q.2.1 q))
  · intro m x s hx ⟨d', le, hf⟩ hn
    have e1 : ((36 : Int32) + 6 * nI r) + nI x = nI (36 + 6 * r + x) := dd_ix 36 r x
    have e0 : ((0 : Int32) + 6 * nI r) + nI x = nI (0 + 6 * r + x) := dd_ix 0 r x
    refine br_f (nI_ge (b := 6) hx (by omega)) ?_
    rw [e1, e0, nI_clamp (n := 36 + 6 * r + x) (by omega), nI_clamp (n := 0 + 6 * r + x) (by omega)]
    refine ⟨vp_in_nI (by omega) (by omega), vp_in_nI (by omega) (by omega), vp_in_nI (by omega) (by omega), nm_e (nm_r (nI_1 x) (hn _ ⟨?_, fun r' x' y q => dd_Le_put hr hx r' x' y (le r' x' y q), fun x' y hx' q => ?_⟩))⟩
    · refine dd_Dv_put d' hr hx e (d'.2.1 _ (by omega)) fun T t1 t2 t3 y hy hb => t3.1 r x y e ⟨hr, hx, hy, ?_⟩
      rw [← d'.1 (0 + 6 * r + x) (by omega)]
      exact hb
    · by_cases ex : x' = x
      · subst ex
        refine (dd_Qup hr hx r x' y).mpr (Or.inr ⟨rfl, rfl, q.2.2.1, ?_⟩)
        rw [d'.1 (0 + 6 * r + x') (by omega)]
        exact q.2.2.2
      · exact dd_Le_put hr hx r x' y (hf x' y (by omega) q)
theorem dd_xderive {post : SX → Prop} {L : Nat} {s : Nat → Int32} (st : dd_St sh hd ba bb n ly) (rl : dd_Rl sh hd ba bb) (l6 : ∀ r, ly r < 6) (hL : L < 6) (h8 : n ≤ 8) (S : dd_A6 s)
    (h : ∀ s', (∀ j, j < 36 ∨ 72 ≤ j → s' j = s j) → dd_A6 s' → dd_De sh hd ba bb n ly L (dd_Q s 0) (dd_Q s 36) (dd_Q s' 36) → post (nI n, g, l, dd_N sh, dd_N hd, dd_N ba, dd_N bb, nd, dd_N ly, s')) :
    wpX_derive post (nI n, g, l, dd_N sh, dd_N hd, dd_N ba, dd_N bb, nd, dd_N ly, s) (nI L) := by
  unfold wpX_derive
  refine loop_0 (fun m r (s' : Nat → Int32) => wX_derive_2 post (nI L) (nI n) g l m (nI r) (dd_N sh) (dd_N hd) (dd_N ba) (dd_N bb) nd (dd_N ly) s')
    (fun r s' => dd_Dv sh hd ba bb n ly L s s' ∧ ∀ r' x y, r' < r → ly r' = L → dd_Q s 0 r' x y → dd_Q s' 36 r' x y)
    6 s ⟨dd_Dv0 S, fun r' x y hr' => absurd hr' (Nat.not_lt_zero _)⟩ ?_ ?_
  · intro m s1 ⟨d, hf⟩
    refine br_t (nI_le (a := 6) (by omega) (by omega)) (dd_xd75 st rl l6 hL h8 d (fun r x y e q => hf r x y q.1 e q) fun s' d' cl => h s' d'.1 d'.2.1 ⟨d'.2.2.1, cl, d'.2.2.2⟩)
  · intro m r s1 hr ⟨d, hf⟩ hn
    have h6 := l6 r
    refine br_f (nI_ge (b := 6) hr (by omega)) ⟨vp_in_nI hr (by omega), pk_eq (ly r) L (fun e => ?_) (fun e => nm_r (nI_1 r) (hn s1 ⟨d, fun r' x y hr' e' q => hf r' x y ?_ e' q⟩)) (dd_at ly (by omega))⟩
    · refine dd_xd23 hr e d fun s' d' le hf' => hn s' ⟨d', fun r' x y hr' e' q => ?_⟩
      by_cases er : r' = r
      · subst er
        exact hf' x y q
      · exact le r' x y (hf r' x y (by omega) e' q)
    · by_cases er : r' = r
      · subst er
        exact absurd e' e
      · omega
end
end
section
/-! X: markLosses, takeOut -/
theorem dd_ixa (f k : Nat) {m : Nat} (h : f + k = m) : nI f + nI k = nI m := by
  rw [nI_add, h]
section
variable {g l : Int32} {sh hd ba bb ly : Nat → Nat} {nd : Nat → Int32} {n : Nat}
/-- the rule i marks nothing new at x -/
def dd_Mx (sh hd ba bb : Nat → Nat) (i : Nat) (s : Nat → Int32) (x : Nat) : Prop := ∀ y, dd_Su sh ba bb i (dd_Q s 108) (dd_Q s 72) (dd_Q s 144) x y → dd_Q s 72 (hd i) x y → dd_Q s 108 (hd i) x y
theorem dd_xm116 {post : Int32 → SX → Prop} {J : Int32 → Int32 → (Nat → Int32) → (Nat → Int32) → (Nat → Int32) → (Nat → Int32) → (Nat → Int32) → (Nat → Int32) → (Nat → Int32) → Prop} {L i x : Nat} {c v : Int32} {s0 s : Nat → Int32} (rl : dd_Rl sh hd ba bb) (hx : x < 6) (e : ly (hd i) = L) (d : dd_Tv ly L s0 s)
    (hv : ∀ y, y < 6 → (bt v y = true ↔ dd_Su sh ba bb i (dd_Q s 108) (dd_Q s 72) (dd_Q s 144) x y))
    (h : ∀ c' s', dd_Tv ly L s0 s' → ((c' = c ∧ s' = s ∧ dd_Mx sh hd ba bb i s x) ∨ (c' = 1 ∧ dd_k s 108 < dd_k s' 108)) → J c' (nI (x + 1)) (dd_N sh) (dd_N hd) (dd_N ba) (dd_N bb) nd (dd_N ly) s') :
    wX_markLosses_116 post J (nI i) c (nI x) (nI (6 * hd i + x)) v (nI n) g l (dd_N sh) (dd_N hd) (dd_N ba) (dd_N bb) nd (dd_N ly) s := by
  obtain ⟨h4, hh, ha, hb⟩ := rl i
  have S : dd_A6 s := d.2.1
  have e1 : (72 : Int32) + nI (6 * hd i + x) = nI (72 + 6 * hd i + x) := dd_ixa 72 _ (by omega)
  have e2 : (108 : Int32) + nI (6 * hd i + x) = nI (108 + 6 * hd i + x) := dd_ixa 108 _ (by omega)
  unfold wX_markLosses_116 wX_markLosses_151
  rw [e1, e2, nI_clamp (n := 72 + 6 * hd i + x) (by omega), nI_clamp (n := 108 + 6 * hd i + x) (by omega)]
  have i1 : vp_in (nI (72 + 6 * hd i + x)) 180 := vp_in_nI (by omega) (by omega)
  have i2 : vp_in (nI (108 + 6 * hd i + x)) 180 := vp_in_nI (by omega) (by omega)
  refine ⟨i1, i2, nm_e (br_c (fun z => ⟨i2, i2, nm_e (nm_r (nI_1 x) (h _ _ ?_ ?_))⟩) fun z => ⟨i2, i2, nm_e (nm_r (nI_1 x) (h _ _ ?_ ?_))⟩)⟩
  · exact dd_Tv_put d hh hx e (dd_San (dd_San2 (S _ (by omega))))
  · refine Or.inl ⟨rfl, dd_upd_same (by rw [z, Int32.or_zero]), fun y su q => ?_⟩
    have hy := q.2.2.1
    have z1 := congrArg (fun w => bt w y) z
    have z2 : bt ((v &&& s (72 + 6 * hd i + x)) &&& (s (108 + 6 * hd i + x) ^^^ (-1))) y = bt 0 y := z1
    rw [dd_nb, b_and, (hv y hy).mpr su, q.2.2.2, b_0] at z2
    refine ⟨hh, hx, hy, ?_⟩
    cases e3 : bt (s (108 + 6 * hd i + x)) y
    · rw [e3] at z2
      exact absurd z2 (by decide)
    · rfl
  · exact dd_Tv_put d hh hx e (dd_San (dd_San2 (S _ (by omega))))
  · refine Or.inr ⟨rfl, ?_⟩
    have hS : dd_S ((v &&& s (72 + 6 * hd i + x)) &&& (s (108 + 6 * hd i + x) ^^^ (-1))) := dd_San (dd_San2 (S _ (by omega)))
    obtain ⟨y, hy, hb⟩ := dd_Sz hS z
    have hk := dd_k_lt (s := s) (f := 108) (j := 6 * hd i + x) (v := (v &&& s (72 + 6 * hd i + x)) &&& (s (108 + 6 * hd i + x) ^^^ (-1))) (by omega) (S _ (by omega)) hS
    rw [← Nat.add_assoc] at hk
    refine hk fun z2 => ?_
    have z3 := congrArg (fun w => bt w y) z2
    have z4 : bt (s (108 + 6 * hd i + x) ||| ((v &&& s (72 + 6 * hd i + x)) &&& (s (108 + 6 * hd i + x) ^^^ (-1)))) y = bt (s (108 + 6 * hd i + x)) y := z3
    rw [b_or, hb, Bool.or_true] at z4
    rw [dd_nb, ← z4, Bool.and_eq_true] at hb
    exact absurd hb.2 (by decide)
theorem dd_xmark {post : Int32 → SX → Prop} {L : Nat} {s0 s1 : Nat → Int32} (rl : dd_Rl sh hd ba bb) (h8 : n ≤ 8) (d : dd_Tv ly L s0 s1) {i : Nat} (hi : i < n) (e : ly (hd i) = L)
    (h : ∀ c s', dd_Tv ly L s0 s' → ((c = 0 ∧ s' = s1 ∧ ∀ x, x < 6 → dd_Mx sh hd ba bb i s1 x) ∨ (c = 1 ∧ dd_k s1 108 < dd_k s' 108)) → post c (nI n, g, l, dd_N sh, dd_N hd, dd_N ba, dd_N bb, nd, dd_N ly, s')) :
    wpX_markLosses post (nI n, g, l, dd_N sh, dd_N hd, dd_N ba, dd_N bb, nd, dd_N ly, s1) (nI i) := by
  obtain ⟨h4, hh, ha, hb⟩ := rl i
  unfold wpX_markLosses
  refine dd_loop2 (fun m x (c : Int32) (s' : Nat → Int32) => wX_markLosses_4 post (nI i) (nI n) g l m c (nI x) (dd_N sh) (dd_N hd) (dd_N ba) (dd_N bb) nd (dd_N ly) s')
    (fun x c s' => dd_Tv ly L s0 s' ∧ ((c = 0 ∧ s' = s1 ∧ ∀ x', x' < x → dd_Mx sh hd ba bb i s1 x') ∨ (c = 1 ∧ dd_k s1 108 < dd_k s' 108)))
    6 0 s1 ⟨d, Or.inl ⟨rfl, rfl, fun x' hx' => absurd hx' (Nat.not_lt_zero _)⟩⟩ ?_ ?_
  · intro m c s ⟨d', hc⟩
    refine br_t (nI_le (a := 6) (by omega) (by omega)) ⟨?_, h c s d' hc⟩
    rcases hc with ⟨hc, _⟩ | ⟨hc, _⟩
    · have hc' : c = 0 := hc
      subst hc'
      rfl
    · have hc' : c = 1 := hc
      subst hc'
      rfl
  · intro m x c s hx ⟨d', hc⟩ hn
    have S : dd_A6 s := d'.2.1
    have e4 : (6 : Int32) * dd_N hd (nI i).toNatClampNeg + nI x = nI (6 * hd i + x) := by
      rw [dd_at hd (by omega)]
      exact dd_ix2 (hd i) x
    have fin : ∀ v : Int32, (∀ y, y < 6 → (bt v y = true ↔ dd_Su sh ba bb i (dd_Q s 108) (dd_Q s 72) (dd_Q s 144) x y)) → wX_markLosses_116 post (wX_markLosses_4 post (nI i) (nI n) g l m) (nI i) c (nI x) (nI (6 * hd i + x)) v (nI n) g l (dd_N sh) (dd_N hd) (dd_N ba) (dd_N bb) nd (dd_N ly) s := by
      intro v hv
      refine dd_xm116 rl hx e d' hv fun c' s' d2 hc2 => hn c' s' ⟨d2, ?_⟩
      rcases hc2 with ⟨rfl, rfl, hm⟩ | ⟨rfl, hk⟩
      · rcases hc with ⟨hc, es, hr⟩ | hc
        · have es' : s' = s1 := es
          subst es'
          refine Or.inl ⟨hc, rfl, fun x' hx' => ?_⟩
          by_cases ex : x' = x
          · subst ex
            exact hm
          · exact hr x' (by omega)
        · exact Or.inr hc
      · refine Or.inr ⟨rfl, Nat.lt_of_le_of_lt ?_ hk⟩
        rcases hc with ⟨_, es, _⟩ | ⟨_, hk⟩
        · have es' : s = s1 := es
          rw [es']
          exact Nat.le_refl _
        · exact Nat.le_of_lt hk
    refine br_f (nI_ge (b := 6) hx (by omega)) ⟨vp_in_nI (by omega) (by omega), nm_r e4 (dd_xg (fA := 108) (fB := 72) rl S (by omega) (by omega) (by omega) hx fun v hv hb1 => ⟨vp_in_nI (by omega) (by omega), pk_eq (sh i) 4 (fun k => ?_) (fun k => ?_) (dd_at sh (by omega))⟩)⟩
    · have eA : ((72 : Int32) + 6 * dd_N ba (nI i).toNatClampNeg) + nI x = nI (72 + 6 * ba i + x) := dd_fix 72 ba (by omega) x
      have eB : ((144 : Int32) + 6 * dd_N bb (nI i).toNatClampNeg) + nI x = nI (144 + 6 * bb i + x) := dd_fix 144 bb (by omega) x
      rw [eA, eB, nI_clamp (n := 72 + 6 * ba i + x) (by omega), nI_clamp (n := 144 + 6 * bb i + x) (by omega)]
      refine ⟨vp_in_nI (by omega) (by omega), vp_in_nI (by omega) (by omega), vp_in_nI (by omega) (by omega), vp_in_nI (by omega) (by omega), nm_e (fin _ fun y hy => ?_)⟩
      rw [b_or, Bool.or_eq_true, hb1 y hy, b_and, Bool.and_eq_true]
      constructor
      · intro z
        rcases z with z | ⟨z1, z2⟩
        · exact Or.inl z
        · exact Or.inr (Or.inl ⟨k, ⟨ha, hx, hy, z1⟩, ⟨hb, hx, hy, z2⟩⟩)
      · intro z
        rcases z with z | ⟨_, z1, z2⟩ | z
        · exact Or.inl z
        · exact Or.inr ⟨z1.2.2.2, z2.2.2.2⟩
        · exact absurd k z.1
    · refine dd_xh (by omega) h4 (fun k2 => br_t rfl (fin _ fun y hy => ?_)) fun k2 => br_f (by decide) (dd_xg (fA := 72) (fB := 108) rl S (by omega) (by omega) (by omega) hx fun v2 hv2 hb2 => nm_e (fin _ fun y hy => ?_))
      · rw [hb1 y hy]
        exact ⟨Or.inl, fun z => by
          rcases z with z | z | z
          · exact z
          · exact absurd z.1 k
          · have := z.2.1
            omega⟩
      · rw [b_or, Bool.or_eq_true, hb1 y hy, hb2 y hy]
        constructor
        · intro z
          rcases z with z | z
          · exact Or.inl z
          · exact Or.inr (Or.inr ⟨k, k2, z⟩)
        · intro z
          rcases z with z | z | z
          · exact Or.inl z
          · exact absurd z.1 k
          · exact Or.inr z.2.2
/-- marks are complete for the rules of the layer -/
theorem dd_Mx_in {i : Nat} {s : Nat → Int32} (h : ∀ x, x < 6 → dd_Mx sh hd ba bb i s x) : ∀ x y, dd_Su sh ba bb i (dd_Q s 108) (dd_Q s 72) (dd_Q s 144) x y → dd_Q s 72 (hd i) x y → dd_Q s 108 (hd i) x y :=
  fun x y su q => h x q.2.1 y su q
theorem dd_xt20 {post : SX → Prop} {J : Int32 → Int32 → Int32 → Int32 → Int32 → (Nat → Int32) → (Nat → Int32) → (Nat → Int32) → (Nat → Int32) → (Nat → Int32) → (Nat → Int32) → (Nat → Int32) → Prop} {L k : Nat} {s0 s1 : Nat → Int32} (rl : dd_Rl sh hd ba bb) (l6 : ∀ r, ly r < 6) (hL : L < 6) (h8 : n ≤ 8) (d : dd_Tv ly L s0 s1)
    (h : ∀ c s', dd_Tv ly L s0 s' → ((c = 0 ∧ dd_Mk sh hd ba bb n ly L (dd_Q s' 108) (dd_Q s' 72) (dd_Q s' 144)) ∨ (c = 1 ∧ dd_k s1 108 < dd_k s' 108)) → J c (nI (k + 1)) (nI n) g l (dd_N sh) (dd_N hd) (dd_N ba) (dd_N bb) nd (dd_N ly) s') :
    ∃ m, wX_takeOut_20 post J (nI L) (nI k) m 0 0 (nI n) g l (dd_N sh) (dd_N hd) (dd_N ba) (dd_N bb) nd (dd_N ly) s1 := by
  refine dd_loop2 (fun m i (c : Int32) (s' : Nat → Int32) => wX_takeOut_20 post J (nI L) (nI k) m c (nI i) (nI n) g l (dd_N sh) (dd_N hd) (dd_N ba) (dd_N bb) nd (dd_N ly) s')
    (fun i c s' => dd_Tv ly L s0 s' ∧ ((c = 0 ∧ s' = s1 ∧ ∀ i', i' < i → ly (hd i') = L → ∀ x, x < 6 → dd_Mx sh hd ba bb i' s1 x) ∨ (c = 1 ∧ dd_k s1 108 < dd_k s' 108)))
    n 0 s1 ⟨d, Or.inl ⟨rfl, rfl, fun i' hi' => absurd hi' (Nat.not_lt_zero _)⟩⟩ ?_ ?_
  · intro m c s ⟨d', hc⟩
    refine br_t (nI_le (Nat.le_refl _) (by omega)) (nm_r (nI_1 k) (h c s d' ?_))
    rcases hc with ⟨hc, es, hr⟩ | hc
    · have es' : s = s1 := es
      subst es'
      exact Or.inl ⟨hc, fun i hi e => dd_Mx_in (hr i hi e)⟩
    · exact Or.inr hc
  · intro m i c s hi ⟨d', hc⟩ hn
    obtain ⟨h4, hh, ha, hb⟩ := rl i
    refine br_f (nI_ge hi (by omega)) ⟨vp_in_nI (by omega) (by omega), dd_inN hd (by omega) hh (by omega), pk_eq (ly (hd i)) L (fun e => ?_) (fun e => nm_r (nI_1 i) (hn c s ⟨d', ?_⟩)) (dd_at2 ly hd (by omega) (by omega)) rfl (by have := l6 (hd i); omega)⟩
    · refine dd_xmark rl h8 d' hi e fun c' s' d2 hc2 => ?_
      rcases hc2 with ⟨rfl, rfl, hr2⟩ | ⟨rfl, hk2⟩
      · refine br_t rfl (nm_r (nI_1 i) (hn c s' ⟨d2, ?_⟩))
        rcases hc with ⟨hc, es, hr⟩ | hc
        · have es' : s' = s1 := es
          subst es'
          refine Or.inl ⟨hc, rfl, fun i' hi' e' => ?_⟩
          by_cases ei : i' = i
          · subst ei
            exact hr2
          · exact hr i' (by omega) e'
        · exact Or.inr hc
      · refine br_f (by decide) (nm_r (nI_1 i) (hn 1 s' ⟨d2, Or.inr ⟨rfl, ?_⟩⟩))
        refine Nat.lt_of_le_of_lt ?_ hk2
        rcases hc with ⟨_, es, _⟩ | ⟨_, hk⟩
        · have es' : s = s1 := es
          rw [es']
          exact Nat.le_refl _
        · exact Nat.le_of_lt hk
    · rcases hc with ⟨hc, es, hr⟩ | hc
      · refine Or.inl ⟨hc, es, fun i' hi' e' => ?_⟩
        by_cases ei : i' = i
        · subst ei
          exact absurd e' e
        · exact hr i' (by omega) e'
      · exact Or.inr hc
/-- where P, what has gone is out of family 36 -/
def dd_Nk (P : Nat → Nat → Prop) (s1 s2 : Nat → Int32) : Prop :=
  (∀ j, j < 36 ∨ 72 ≤ j → s2 j = s1 j) ∧ dd_A6 s2 ∧ (∀ r x y, P r x → (dd_Q s2 36 r x y ↔ dd_Q s1 36 r x y ∧ ¬ dd_Q s1 108 r x y)) ∧ ∀ r x y, ¬ P r x → (dd_Q s2 36 r x y ↔ dd_Q s1 36 r x y)
theorem dd_Nk_put {P P' : Nat → Nat → Prop} {s1 s2 : Nat → Int32} (k : dd_Nk P s1 s2) {r x : Nat} (hr : r < 6) (hx : x < 6) (hn : ¬ P r x) (hP : ∀ r' x', x' < 6 → (P' r' x' ↔ P r' x' ∨ (r' = r ∧ x' = x))) :
    dd_Nk P' s1 (upd s2 (36 + 6 * r + x) (s2 (36 + 6 * r + x) &&& (s2 (108 + 6 * r + x) ^^^ (-1)))) := by
  obtain ⟨k1, k2, k3, k4⟩ := k
  refine ⟨fun j hj => ?_, dd_A6u k2 (dd_San (k2 _ (by omega))), fun r' x' y p => ?_, fun r' x' y p => ?_⟩
  · rw [pk_un (by omega)]
    exact k1 j hj
  · by_cases e : r' = r ∧ x' = x
    · obtain ⟨rfl, rfl⟩ := e
      rw [dd_Qs hr hx, dd_nb, k1 (108 + 6 * r' + x') (by omega), ← k4 r' x' y hn]
      unfold dd_Q
      cases e1 : bt (s2 (36 + 6 * r' + x')) y <;> cases e2 : bt (s1 (108 + 6 * r' + x')) y
      · exact ⟨fun z => absurd z.2 (by decide), fun z => absurd z.1.2.2.2 (by decide)⟩
      · exact ⟨fun z => absurd z.2 (by decide), fun z => absurd z.1.2.2.2 (by decide)⟩
      · exact ⟨fun z => ⟨⟨hr, hx, z.1, rfl⟩, fun w => absurd w.2.2.2 (by decide)⟩, fun z => ⟨z.1.2.2.1, rfl⟩⟩
      · exact ⟨fun z => absurd z.2 (by decide), fun z => absurd ⟨hr, hx, z.1.2.2.1, rfl⟩ z.2⟩
    · rw [dd_Qn hx e]
      by_cases h6 : x' < 6
      · exact k3 r' x' y (((hP r' x' h6).mp p).resolve_right e)
      · exact ⟨fun z => absurd z.2.1 h6, fun z => absurd z.1.2.1 h6⟩
  · by_cases h6 : x' < 6
    · have p' : ¬ (P r' x' ∨ (r' = r ∧ x' = x)) := fun z => p ((hP r' x' h6).mpr z)
      rw [dd_Qn hx fun z => p' (Or.inr z)]
      exact k4 r' x' y fun z => p' (Or.inl z)
    · exact ⟨fun z => absurd z.2.1 h6, fun z => absurd z.2.1 h6⟩
theorem dd_Nk_eq {P P' : Nat → Nat → Prop} {s1 s2 : Nat → Int32} (k : dd_Nk P s1 s2) (hP : ∀ r' x', x' < 6 → (P' r' x' ↔ P r' x')) : dd_Nk P' s1 s2 := by
  obtain ⟨k1, k2, k3, k4⟩ := k
  refine ⟨k1, k2, fun r x y p => ?_, fun r x y p => ?_⟩
  · by_cases h6 : x < 6
    · exact k3 r x y ((hP r x h6).mp p)
    · exact ⟨fun z => absurd z.2.1 h6, fun z => absurd z.1.2.1 h6⟩
  · by_cases h6 : x < 6
    · exact k4 r x y fun z => p ((hP r x h6).mpr z)
    · exact ⟨fun z => absurd z.2.1 h6, fun z => absurd z.2.1 h6⟩
theorem dd_xt92 {post : SX → Prop} {J : Int32 → (Nat → Int32) → (Nat → Int32) → (Nat → Int32) → (Nat → Int32) → (Nat → Int32) → (Nat → Int32) → (Nat → Int32) → Prop} {L r : Nat} {s0 s1 : Nat → Int32} (hr : r < 6) (e : ly r = L) (k : dd_Nk (fun r' _ => r' < r ∧ ly r' = L) s0 s1)
    (h : ∀ s', dd_Nk (fun r' _ => r' < r + 1 ∧ ly r' = L) s0 s' → J (nI (r + 1)) (dd_N sh) (dd_N hd) (dd_N ba) (dd_N bb) nd (dd_N ly) s') :
    ∃ m, wX_takeOut_92 post J (nI L) (nI r) (nI n) g l m 0 (dd_N sh) (dd_N hd) (dd_N ba) (dd_N bb) nd (dd_N ly) s1 := by
  refine loop_0 (fun m x (s : Nat → Int32) => wX_takeOut_92 post J (nI L) (nI r) (nI n) g l m (nI x) (dd_N sh) (dd_N hd) (dd_N ba) (dd_N bb) nd (dd_N ly) s)
    (fun x s => dd_Nk (fun r' x' => (r' < r ∧ ly r' = L) ∨ (r' = r ∧ x' < x)) s0 s)
    6 s1 (dd_Nk_eq k fun r' x' _ => ⟨fun z => z.elim id fun z => absurd z.2 (Nat.not_lt_zero _), Or.inl⟩) ?_ ?_
  · intro m s k'
    refine br_t (nI_le (a := 6) (by omega) (by omega)) (nm_r (nI_1 r) (h s (dd_Nk_eq k' fun r' x' h6 => ⟨fun z => ?_, fun z => ?_⟩)))
    · by_cases er : r' = r
      · exact Or.inr ⟨er, h6⟩
      · exact Or.inl ⟨by omega, z.2⟩
    · rcases z with z | ⟨rfl, _⟩
      · exact ⟨by omega, z.2⟩
      · exact ⟨by omega, e⟩
  · intro m x s hx k' hn
    have e1 : ((36 : Int32) + 6 * nI r) + nI x = nI (36 + 6 * r + x) := dd_ix 36 r x
    have e0 : ((108 : Int32) + 6 * nI r) + nI x = nI (108 + 6 * r + x) := dd_ix 108 r x
    refine br_f (nI_ge (b := 6) hx (by omega)) ?_
    rw [e1, e0, nI_clamp (n := 36 + 6 * r + x) (by omega), nI_clamp (n := 108 + 6 * r + x) (by omega)]
    refine ⟨vp_in_nI (by omega) (by omega), vp_in_nI (by omega) (by omega), vp_in_nI (by omega) (by omega), nm_e (nm_r (nI_1 x) (hn _ (dd_Nk_put k' hr hx (fun z => ?_) fun r' x' _ => ⟨fun z => ?_, fun z => ?_⟩)))⟩
    · rcases z with z | z <;> omega
    · rcases z with z | z
      · exact Or.inl (Or.inl z)
      · by_cases ex : x' = x
        · exact Or.inr ⟨z.1, ex⟩
        · exact Or.inl (Or.inr ⟨z.1, by omega⟩)
    · rcases z with z | z
      · rcases z with z | z
        · exact Or.inl z
        · exact Or.inr ⟨z.1, by omega⟩
      · exact Or.inr ⟨z.1, by omega⟩
theorem dd_xt70 {post : SX → Prop} {L : Nat} {s : Nat → Int32} (l6 : ∀ r, ly r < 6) (hL : L < 6) (S : dd_A6 s)
    (h : ∀ s', dd_Nk (fun r _ => r < 6 ∧ ly r = L) s s' → post (nI n, g, l, dd_N sh, dd_N hd, dd_N ba, dd_N bb, nd, dd_N ly, s')) :
    ∃ m, wX_takeOut_70 post (nI L) (nI n) g l m 0 (dd_N sh) (dd_N hd) (dd_N ba) (dd_N bb) nd (dd_N ly) s := by
  refine loop_0 (fun m r (s' : Nat → Int32) => wX_takeOut_70 post (nI L) (nI n) g l m (nI r) (dd_N sh) (dd_N hd) (dd_N ba) (dd_N bb) nd (dd_N ly) s')
    (fun r s' => dd_Nk (fun r' _ => r' < r ∧ ly r' = L) s s')
    6 s ⟨fun _ _ => rfl, S, fun r x y z => absurd z.1 (Nat.not_lt_zero _), fun _ _ _ _ => Iff.rfl⟩ ?_ ?_
  · intro m s1 k
    exact br_t (nI_le (a := 6) (by omega) (by omega)) (h s1 k)
  · intro m r s1 hr k hn
    have h6 := l6 r
    refine br_f (nI_ge (b := 6) hr (by omega)) ⟨vp_in_nI hr (by omega), pk_eq (ly r) L (fun e => dd_xt92 hr e k fun s' k' => hn s' k') (fun e => nm_r (nI_1 r) (hn s1 (dd_Nk_eq k fun r' x' _ => ⟨fun z => ⟨?_, z.2⟩, fun z => ⟨by omega, z.2⟩⟩))) (dd_at ly (by omega))⟩
    by_cases er : r' = r
    · subst er
      exact absurd z.2 e
    · omega
/-- what takeOut(L) leaves -/
def dd_To (sh hd ba bb : Nat → Nat) (n : Nat) (ly : Nat → Nat) (L : Nat) (s s' : Nat → Int32) : Prop :=
  (∀ j, j < 36 ∨ (72 ≤ j ∧ j < 108) ∨ 144 ≤ j → s' j = s j) ∧ dd_A6 s' ∧ (∀ r, ly r ≠ L → ∀ x y, dd_Q s' 108 r x y ↔ dd_Q s 108 r x y) ∧ (∀ r x y, dd_Q s 108 r x y → dd_Q s' 108 r x y) ∧
  dd_Mk sh hd ba bb n ly L (dd_Q s' 108) (dd_Q s 72) (dd_Q s 144) ∧ (∀ r, ly r ≠ L → ∀ x y, dd_Q s' 36 r x y ↔ dd_Q s 36 r x y) ∧ ∀ r x y, ly r = L → (dd_Q s' 36 r x y ↔ dd_Q s 36 r x y ∧ ¬ dd_Q s' 108 r x y)
theorem dd_To_of {L : Nat} {s s1 s' : Nat → Int32} (d : dd_Tv ly L s s1) (mk : dd_Mk sh hd ba bb n ly L (dd_Q s1 108) (dd_Q s1 72) (dd_Q s1 144)) (k : dd_Nk (fun r _ => r < 6 ∧ ly r = L) s1 s') : dd_To sh hd ba bb n ly L s s' := by
  obtain ⟨d1, d2, d3, d4⟩ := d
  obtain ⟨k1, k2, k3, k4⟩ := k
  have q108 : dd_Q s' 108 = dd_Q s1 108 := dd_Qf fun j hj => k1 _ (by omega)
  have q72 : dd_Q s1 72 = dd_Q s 72 := dd_Qf fun j hj => d1 _ (by omega)
  have q144 : dd_Q s1 144 = dd_Q s 144 := dd_Qf fun j hj => d1 _ (by omega)
  have q36 : dd_Q s1 36 = dd_Q s 36 := dd_Qf fun j hj => d1 _ (by omega)
  rw [q72, q144] at mk
  rw [q36] at k3 k4
  unfold dd_To
  rw [q108]
  refine ⟨fun j hj => (k1 j (by omega)).trans (d1 j (by omega)), k2, d3, d4, mk, fun r hr x y => k4 r x y fun z => hr z.2, fun r x y e => ?_⟩
  by_cases h6 : r < 6
  · exact k3 r x y ⟨h6, e⟩
  · exact ⟨fun z => absurd z.1 h6, fun z => absurd z.1.1 h6⟩
theorem dd_xtake {post : SX → Prop} {L : Nat} {s : Nat → Int32} (rl : dd_Rl sh hd ba bb) (l6 : ∀ r, ly r < 6) (hL : L < 6) (h8 : n ≤ 8) (S : dd_A6 s)
    (h : ∀ s', dd_To sh hd ba bb n ly L s s' → post (nI n, g, l, dd_N sh, dd_N hd, dd_N ba, dd_N bb, nd, dd_N ly, s')) :
    wpX_takeOut post (nI n, g, l, dd_N sh, dd_N hd, dd_N ba, dd_N bb, nd, dd_N ly, s) (nI L) := by
  unfold wpX_takeOut
  refine dd_loop2 (fun m k (c : Int32) (s' : Nat → Int32) => wX_takeOut_4 post (nI L) m c (nI k) (nI n) g l (dd_N sh) (dd_N hd) (dd_N ba) (dd_N bb) nd (dd_N ly) s')
    (fun k c s' => dd_Tv ly L s s' ∧ ((c = 0 ∧ dd_Mk sh hd ba bb n ly L (dd_Q s' 108) (dd_Q s' 72) (dd_Q s' 144)) ∨ (c = 1 ∧ k ≤ dd_k s' 108)))
    217 1 s ⟨dd_Tv0 S, Or.inr ⟨rfl, Nat.zero_le _⟩⟩ ?_ ?_
  · intro m c s1 ⟨d', hc⟩
    refine br_t (nI_le (a := 217) (by omega) (by omega)) (dd_xt70 l6 hL d'.2.1 fun s' k => h s' (dd_To_of d' ?_ k))
    rcases hc with ⟨_, hr⟩ | ⟨_, hk⟩
    · exact hr
    · have hk' : 217 ≤ dd_k s1 108 := hk
      have := dd_k_le s1 108
      omega
  · intro m k c s1 hk ⟨d', hc⟩ hn
    refine br_f (nI_ge (b := 217) hk (by omega)) ?_
    rcases hc with ⟨hc, hr⟩ | ⟨hc, hk2⟩
    · exact br_t hc (dd_xt70 l6 hL d'.2.1 fun s' k => h s' (dd_To_of d' hr k))
    · have hc' : c = 1 := hc
      subst hc'
      refine br_f (by decide) (dd_xt20 rl l6 hL h8 d' fun c' s' d2 hc2 => hn c' s' ⟨d2, ?_⟩)
      rcases hc2 with ⟨hc2, hr⟩ | ⟨hc2, hk3⟩
      · exact Or.inl ⟨hc2, hr⟩
      · have hk2' : k ≤ dd_k s1 108 := hk2
        exact Or.inr ⟨hc2, by show k + 1 ≤ dd_k s' 108; omega⟩
end
end
section
/-! X: settle, remember, countChanges, recompute -/
theorem dd_c_add (p : Nat → Bool) (a : Nat) : ∀ b, dd_c p (a + b) = dd_c p a + dd_c (fun y => p (a + y)) b := by
  intro b
  induction b with
  | zero => rfl
  | succ b ih =>
    show dd_c p (a + b) + (if p (a + b) = true then 1 else 0) = dd_c p a + (dd_c (fun y => p (a + y)) b + (if p (a + b) = true then 1 else 0))
    rw [ih, Nat.add_assoc]
/-- the places of layer L below b are settled -/
def dd_Sk (ly : Nat → Nat) (L b : Nat) (s1 s2 : Nat → Int32) : Prop :=
  (∀ j, j < 108 → s2 j = s1 j) ∧ ∀ j, j < 36 → ((ly (j / 6) = L ∧ j < b) → s2 (108 + j) = s1 (72 + j) &&& (s1 (36 + j) ^^^ (-1)) ∧ s2 (144 + j) = s1 (36 + j) &&& (s1 (72 + j) ^^^ (-1))) ∧
    (¬ (ly (j / 6) = L ∧ j < b) → s2 (108 + j) = s1 (108 + j) ∧ s2 (144 + j) = s1 (144 + j))
theorem dd_Sk_put {ly : Nat → Nat} {L b : Nat} {s1 s2 : Nat → Int32} (k : dd_Sk ly L b s1 s2) (hb : b < 36) (e : ly (b / 6) = L) :
    dd_Sk ly L (b + 1) s1 (upd (upd s2 (108 + b) (s2 (72 + b) &&& (s2 (36 + b) ^^^ (-1)))) (144 + b) (upd s2 (108 + b) (s2 (72 + b) &&& (s2 (36 + b) ^^^ (-1))) (36 + b) &&& (upd s2 (108 + b) (s2 (72 + b) &&& (s2 (36 + b) ^^^ (-1))) (72 + b) ^^^ (-1)))) := by
  obtain ⟨k1, k2⟩ := k
  refine ⟨fun j hj => ?_, fun j hj => ⟨fun p => ?_, fun p => ?_⟩⟩
  · rw [pk_un (by omega), pk_un (by omega)]
    exact k1 j hj
  · by_cases ej : j = b
    · subst ej
      rw [pk_us, pk_un (show 36 + j ≠ 108 + j by omega), pk_un (show 72 + j ≠ 108 + j by omega), pk_un (show 108 + j ≠ 144 + j by omega), pk_us, k1 (72 + j) (by omega), k1 (36 + j) (by omega)]
      exact ⟨rfl, rfl⟩
    · have h := (k2 j hj).1 ⟨p.1, by omega⟩
      rw [pk_un (show 108 + j ≠ 144 + b by omega), pk_un (show 108 + j ≠ 108 + b by omega), pk_un (show 144 + j ≠ 144 + b by omega), pk_un (show 144 + j ≠ 108 + b by omega)]
      exact h
  · have ej : j ≠ b := fun z => p (by rw [z]; exact ⟨e, by omega⟩)
    have h := (k2 j hj).2 fun z => p ⟨z.1, by omega⟩
    rw [pk_un (show 108 + j ≠ 144 + b by omega), pk_un (show 108 + j ≠ 108 + b by omega), pk_un (show 144 + j ≠ 144 + b by omega), pk_un (show 144 + j ≠ 108 + b by omega)]
    exact h
theorem dd_Sk_skip {ly : Nat → Nat} {L r : Nat} {s1 s2 : Nat → Int32} (k : dd_Sk ly L (6 * r) s1 s2) (e : ly r ≠ L) : dd_Sk ly L (6 * (r + 1)) s1 s2 := by
  obtain ⟨k1, k2⟩ := k
  refine ⟨k1, fun j hj => ⟨fun p => (k2 j hj).1 ⟨p.1, ?_⟩, fun p => (k2 j hj).2 fun z => p ⟨z.1, by omega⟩⟩⟩
  rcases Nat.lt_or_ge j (6 * r) with h | h
  · exact h
  · have : j / 6 = r := by omega
    rw [this] at p
    exact absurd p.1 e
/-- what settle(L) leaves -/
def dd_Se (ly : Nat → Nat) (L : Nat) (s s' : Nat → Int32) : Prop :=
  (∀ j, j < 108 → s' j = s j) ∧ dd_A6 s' ∧ (∀ r, ly r ≠ L → ∀ x y, (dd_Q s' 108 r x y ↔ dd_Q s 108 r x y) ∧ (dd_Q s' 144 r x y ↔ dd_Q s 144 r x y)) ∧
  ∀ r x y, ly r = L → (dd_Q s 72 r x y → ¬ dd_Q s 36 r x y → dd_Q s' 108 r x y) ∧ (dd_Q s 36 r x y → ¬ dd_Q s 72 r x y → dd_Q s' 144 r x y)
theorem dd_Se_of {ly : Nat → Nat} {L : Nat} {s s' : Nat → Int32} (S : dd_A6 s) (k : dd_Sk ly L 36 s s') : dd_Se ly L s s' := by
  obtain ⟨k1, k2⟩ := k
  have h1 : ∀ r x, r < 6 → x < 6 → ly r ≠ L → s' (108 + 6 * r + x) = s (108 + 6 * r + x) ∧ s' (144 + 6 * r + x) = s (144 + 6 * r + x) := by
    intro r x hr hx e
    have h := (k2 (6 * r + x) (by omega)).2 fun z => by
      have e2 : (6 * r + x) / 6 = r := by omega
      rw [e2] at z
      exact e z.1
    rw [← Nat.add_assoc, ← Nat.add_assoc] at h
    exact h
  have h2 : ∀ r x, r < 6 → x < 6 → ly r = L → s' (108 + 6 * r + x) = s (72 + 6 * r + x) &&& (s (36 + 6 * r + x) ^^^ (-1)) ∧ s' (144 + 6 * r + x) = s (36 + 6 * r + x) &&& (s (72 + 6 * r + x) ^^^ (-1)) := by
    intro r x hr hx e
    have h := (k2 (6 * r + x) (by omega)).1 ⟨by
      have e2 : (6 * r + x) / 6 = r := by omega
      rw [e2]
      exact e, by omega⟩
    rw [← Nat.add_assoc, ← Nat.add_assoc, ← Nat.add_assoc, ← Nat.add_assoc] at h
    exact h
  refine ⟨k1, fun j hj => ?_, fun r e x y => ⟨?_, ?_⟩, fun r x y e => ⟨fun q nq => ?_, fun q nq => ?_⟩⟩
  · rcases Nat.lt_or_ge j 108 with h | h
    · rw [k1 j h]
      exact S j hj
    · rcases Nat.lt_or_ge j 144 with h' | h'
      · have e : j = 108 + (j - 108) := by omega
        by_cases p : ly ((j - 108) / 6) = L ∧ (j - 108) < 36
        · rw [e, ((k2 (j - 108) (by omega)).1 p).1]
          exact dd_San (S _ (by omega))
        · rw [e, ((k2 (j - 108) (by omega)).2 p).1]
          exact S _ (by omega)
      · have e : j = 144 + (j - 144) := by omega
        by_cases p : ly ((j - 144) / 6) = L ∧ (j - 144) < 36
        · rw [e, ((k2 (j - 144) (by omega)).1 p).2]
          exact dd_San (S _ (by omega))
        · rw [e, ((k2 (j - 144) (by omega)).2 p).2]
          exact S _ (by omega)
  · unfold dd_Q
    exact ⟨fun z => ⟨z.1, z.2.1, z.2.2.1, by rw [← (h1 r x z.1 z.2.1 e).1]; exact z.2.2.2⟩, fun z => ⟨z.1, z.2.1, z.2.2.1, by rw [(h1 r x z.1 z.2.1 e).1]; exact z.2.2.2⟩⟩
  · unfold dd_Q
    exact ⟨fun z => ⟨z.1, z.2.1, z.2.2.1, by rw [← (h1 r x z.1 z.2.1 e).2]; exact z.2.2.2⟩, fun z => ⟨z.1, z.2.1, z.2.2.1, by rw [(h1 r x z.1 z.2.1 e).2]; exact z.2.2.2⟩⟩
  · refine ⟨q.1, q.2.1, q.2.2.1, ?_⟩
    rw [(h2 r x q.1 q.2.1 e).1, dd_nb, q.2.2.2]
    cases e3 : bt (s (36 + 6 * r + x)) y
    · rfl
    · exact absurd ⟨q.1, q.2.1, q.2.2.1, e3⟩ nq
  · refine ⟨q.1, q.2.1, q.2.2.1, ?_⟩
    rw [(h2 r x q.1 q.2.1 e).2, dd_nb, q.2.2.2]
    cases e3 : bt (s (72 + 6 * r + x)) y
    · rfl
    · exact absurd ⟨q.1, q.2.1, q.2.2.1, e3⟩ nq
section
variable {g l : Int32} {sh hd ba bb ly : Nat → Nat} {nd : Nat → Int32} {n : Nat}
theorem dd_xs26 {post : SX → Prop} {J : Int32 → (Nat → Int32) → (Nat → Int32) → (Nat → Int32) → (Nat → Int32) → (Nat → Int32) → (Nat → Int32) → (Nat → Int32) → Prop} {L r : Nat} {s0 s1 : Nat → Int32} (hr : r < 6) (e : ly r = L) (k : dd_Sk ly L (6 * r) s0 s1)
    (h : ∀ s', dd_Sk ly L (6 * (r + 1)) s0 s' → J (nI (r + 1)) (dd_N sh) (dd_N hd) (dd_N ba) (dd_N bb) nd (dd_N ly) s') :
    ∃ m, wX_settle_26 post J (nI L) (nI r) (nI n) g l m (nI (6 * r)) (dd_N sh) (dd_N hd) (dd_N ba) (dd_N bb) nd (dd_N ly) s1 := by
  have e6 : (6 : Int32) * nI r + 6 = nI (6 * r + 6) := by
    show nI 6 * nI r + nI 6 = _
    rw [pk_mul, nI_add]
  refine pk_loop (fun m j (s : Nat → Int32) => wX_settle_26 post J (nI L) (nI r) (nI n) g l m (nI j) (dd_N sh) (dd_N hd) (dd_N ba) (dd_N bb) nd (dd_N ly) s)
    (fun j s => 6 * r ≤ j ∧ dd_Sk ly L j s0 s) (6 * r + 6) (6 * r) s1 (by omega) ⟨Nat.le_refl _, k⟩ ?_ ?_
  · intro m s k'
    exact br_t (by rw [e6]; exact nI_le (Nat.le_refl _) (by omega)) (nm_r (nI_1 r) (h s k'.2))
  · intro m j s hj ⟨hj2, k'⟩ hn
    have e1 : (72 : Int32) + nI j = nI (72 + j) := nI_add 72 j
    have e2 : (36 : Int32) + nI j = nI (36 + j) := nI_add 36 j
    have e3 : (108 : Int32) + nI j = nI (108 + j) := nI_add 108 j
    have e4 : (144 : Int32) + nI j = nI (144 + j) := nI_add 144 j
    refine br_f (by rw [e6]; exact nI_ge hj (by omega)) ?_
    rw [e1, e2, e3, e4, nI_clamp (n := 72 + j) (by omega), nI_clamp (n := 36 + j) (by omega), nI_clamp (n := 108 + j) (by omega), nI_clamp (n := 144 + j) (by omega)]
    have i1 : vp_in (nI (72 + j)) 180 := vp_in_nI (by omega) (by omega)
    have i2 : vp_in (nI (36 + j)) 180 := vp_in_nI (by omega) (by omega)
    refine ⟨i1, i2, vp_in_nI (by omega) (by omega), nm_e ⟨i2, i1, vp_in_nI (by omega) (by omega), nm_e (nm_r (nI_1 j) (hn _ ⟨by omega, dd_Sk_put k' (by omega) ?_⟩))⟩⟩
    have e5 : j / 6 = r := by omega
    rw [e5]
    exact e
theorem dd_xsettle {post : SX → Prop} {L : Nat} {s : Nat → Int32} (l6 : ∀ r, ly r < 6) (hL : L < 6) (S : dd_A6 s)
    (h : ∀ s', dd_Se ly L s s' → post (nI n, g, l, dd_N sh, dd_N hd, dd_N ba, dd_N bb, nd, dd_N ly, s')) :
    wpX_settle post (nI n, g, l, dd_N sh, dd_N hd, dd_N ba, dd_N bb, nd, dd_N ly, s) (nI L) := by
  unfold wpX_settle
  refine loop_0 (fun m r (s' : Nat → Int32) => wX_settle_2 post (nI L) (nI n) g l m (nI r) (dd_N sh) (dd_N hd) (dd_N ba) (dd_N bb) nd (dd_N ly) s')
    (fun r s' => dd_Sk ly L (6 * r) s s') 6 s ⟨fun _ _ => rfl, fun j hj => ⟨fun z => absurd z.2 (Nat.not_lt_zero _), fun _ => ⟨rfl, rfl⟩⟩⟩ ?_ ?_
  · intro m s1 k
    exact br_t (nI_le (a := 6) (by omega) (by omega)) (h s1 (dd_Se_of S k))
  · intro m r s1 hr k hn
    have h6 := l6 r
    refine br_f (nI_ge (b := 6) hr (by omega)) ⟨vp_in_nI hr (by omega), pk_eq (ly r) L (fun e => nm_r (pk_mul 6 r) (dd_xs26 hr e k fun s' k' => hn s' k')) (fun e => nm_r (nI_1 r) (hn s1 (dd_Sk_skip k e))) (dd_at ly (by omega))⟩
/-- what remember leaves -/
def dd_Rm (b : Nat) (s s' : Nat → Int32) : Prop :=
  (∀ j, j < 72 → s' j = s j) ∧ ∀ j, j < b → s' (72 + j) = s (36 + j) ∧ s' (108 + j) = 0 ∧ s' (144 + j) = 0
theorem dd_Rm6 {s s' : Nat → Int32} (S : dd_A6 s) (k : dd_Rm 36 s s') : dd_A6 s' := by
  intro j hj
  rcases Nat.lt_or_ge j 72 with h | h
  · rw [k.1 j h]
    exact S j hj
  · rcases Nat.lt_or_ge j 108 with h1 | h1
    · rw [show j = 72 + (j - 72) by omega, (k.2 (j - 72) (by omega)).1]
      exact S _ (by omega)
    · rcases Nat.lt_or_ge j 144 with h2 | h2
      · rw [show j = 108 + (j - 108) by omega, (k.2 (j - 108) (by omega)).2.1]
        exact dd_S0
      · rw [show j = 144 + (j - 144) by omega, (k.2 (j - 144) (by omega)).2.2]
        exact dd_S0
theorem dd_xremember {post : SX → Prop} {u1 : Int32} {u4 u5 u6 u7 u8 u9 s : Nat → Int32}
    (h : ∀ s', dd_Rm 36 s s' → post (u1, g, l, u4, u5, u6, u7, u8, u9, s')) : wpX_remember post (u1, g, l, u4, u5, u6, u7, u8, u9, s) := by
  unfold wpX_remember
  refine loop_0 (fun m j (s' : Nat → Int32) => wX_remember_2 post u1 g l m (nI j) u4 u5 u6 u7 u8 u9 s') (fun j s' => dd_Rm j s s') 36 s ⟨fun _ _ => rfl, fun j hj => absurd hj (Nat.not_lt_zero _)⟩ ?_ ?_
  · intro m s1 k
    exact br_t (nI_le (a := 36) (by omega) (by omega)) (h s1 k)
  · intro m j s1 hj k hn
    have e1 : (72 : Int32) + nI j = nI (72 + j) := nI_add 72 j
    have e2 : (36 : Int32) + nI j = nI (36 + j) := nI_add 36 j
    have e3 : (108 : Int32) + nI j = nI (108 + j) := nI_add 108 j
    have e4 : (144 : Int32) + nI j = nI (144 + j) := nI_add 144 j
    refine br_f (nI_ge (b := 36) hj (by omega)) ?_
    rw [e1, e2, e3, e4, nI_clamp (n := 72 + j) (by omega), nI_clamp (n := 36 + j) (by omega), nI_clamp (n := 108 + j) (by omega), nI_clamp (n := 144 + j) (by omega)]
    refine ⟨vp_in_nI (by omega) (by omega), vp_in_nI (by omega) (by omega), nm_e ⟨vp_in_nI (by omega) (by omega), nm_e ⟨vp_in_nI (by omega) (by omega), nm_e (nm_r (nI_1 j) (hn _ ⟨fun i hi => ?_, fun i hi => ?_⟩))⟩⟩⟩
    · rw [pk_un (by omega), pk_un (by omega), pk_un (by omega)]
      exact k.1 i hi
    · by_cases e : i = j
      · subst e
        rw [pk_un (show 72 + i ≠ 144 + i by omega), pk_un (show 72 + i ≠ 108 + i by omega), pk_us, pk_un (show 108 + i ≠ 144 + i by omega), pk_us, pk_us, k.1 (36 + i) (by omega)]
        exact ⟨rfl, rfl, rfl⟩
      · rw [pk_un (show 72 + i ≠ 144 + j by omega), pk_un (show 72 + i ≠ 108 + j by omega), pk_un (show 72 + i ≠ 72 + j by omega), pk_un (show 108 + i ≠ 144 + j by omega), pk_un (show 108 + i ≠ 108 + j by omega), pk_un (show 108 + i ≠ 72 + j by omega), pk_un (show 144 + i ≠ 144 + j by omega), pk_un (show 144 + i ≠ 108 + j by omega), pk_un (show 144 + i ≠ 72 + j by omega)]
        exact k.2 i (by omega)
/-- how many in family f and not in family f' -/
def dd_dq (s : Nat → Int32) (f f' : Nat) : Nat → Bool := fun k => bt (s (f + k / 6)) (k % 6) && !bt (s (f' + k / 6)) (k % 6)
theorem dd_dq6 (s : Nat → Int32) (f f' j : Nat) : dd_c (dd_dq s f f') (6 * (j + 1)) = dd_c (dd_dq s f f') (6 * j) + dd_p6 (s (f + j) &&& (s (f' + j) ^^^ (-1))) := by
  show dd_c (dd_dq s f f') (6 * j + 6) = _
  rw [dd_c_add]
  refine congrArg _ (dd_c_eq 6 fun y hy => ?_)
  show (bt (s (f + (6 * j + y) / 6)) ((6 * j + y) % 6) && !bt (s (f' + (6 * j + y) / 6)) ((6 * j + y) % 6)) = bt (s (f + j) &&& (s (f' + j) ^^^ (-1))) y
  rw [show (6 * j + y) / 6 = j by omega, show (6 * j + y) % 6 = y by omega, dd_nb]
theorem dd_xcount {post : SX → Prop} {u1 : Int32} {u4 u5 u6 u7 u8 u9 s : Nat → Int32}
    (h : post (u1, nI (dd_c (dd_dq s 36 72) 216), nI (dd_c (dd_dq s 72 36) 216), u4, u5, u6, u7, u8, u9, s)) : wpX_countChanges post (u1, g, l, u4, u5, u6, u7, u8, u9, s) := by
  unfold wpX_countChanges
  refine dd_loop2 (fun m j (a b : Int32) => wX_countChanges_12 post u1 u4 u5 u6 u7 u8 u9 s m (nI j) a b) (fun j a b => a = nI (dd_c (dd_dq s 36 72) (6 * j)) ∧ b = nI (dd_c (dd_dq s 72 36) (6 * j))) 36 0 0 ⟨rfl, rfl⟩ ?_ ?_
  · intro m a b ⟨ha, hb⟩
    subst ha hb
    exact br_t (nI_le (a := 36) (by omega) (by omega)) h
  · intro m j a b hj ⟨ha, hb⟩ hn
    subst ha hb
    have e1 : (72 : Int32) + nI j = nI (72 + j) := nI_add 72 j
    have e2 : (36 : Int32) + nI j = nI (36 + j) := nI_add 36 j
    refine br_f (nI_ge (b := 36) hj (by omega)) ?_
    rw [e1, e2, nI_clamp (n := 72 + j) (by omega), nI_clamp (n := 36 + j) (by omega)]
    have i1 : vp_in (nI (72 + j)) 180 := vp_in_nI (by omega) (by omega)
    have i2 : vp_in (nI (36 + j)) 180 := vp_in_nI (by omega) (by omega)
    refine ⟨i2, i1, dd_xb (nm_r (nI_add _ _) ⟨i1, i2, dd_xb (nm_r (nI_add _ _) (nm_r (nI_1 j) (hn _ _ ⟨?_, ?_⟩)))⟩)⟩
    · rw [dd_dq6]
    · rw [dd_dq6]
/-- working out anew -/
theorem dd_xrecompute {post : SX → Prop} {s : Nat → Int32} (st : dd_St sh hd ba bb n ly) (rl : dd_Rl sh hd ba bb) (l6 : ∀ r, ly r < 6) (h8 : n ≤ 8) (S : dd_A6 s)
    (h : ∀ s', (∀ j, j < 36 → s' j = s j) → dd_A6 s' → (∀ j, j < 36 → s' (72 + j) = s (36 + j)) → dd_Mod sh hd ba bb n ly (dd_Q s 0) (dd_Q s' 36) →
      post (nI n, nI (dd_c (dd_dq s' 36 72) 216), nI (dd_c (dd_dq s' 72 36) 216), dd_N sh, dd_N hd, dd_N ba, dd_N bb, nd, dd_N ly, s')) :
    wpX_recompute post (nI n, g, l, dd_N sh, dd_N hd, dd_N ba, dd_N bb, nd, dd_N ly, s) := by
  unfold wpX_recompute
  refine dd_xremember fun s1 k1 => ?_
  have S1 := dd_Rm6 S k1
  refine loop_0 (fun m j (s' : Nat → Int32) => wX_recompute_6 post (nI n) g l m (nI j) (dd_N sh) (dd_N hd) (dd_N ba) (dd_N bb) nd (dd_N ly) s')
    (fun j s' => (∀ i, i < 36 ∨ 72 ≤ i → s' i = s1 i) ∧ dd_A6 s' ∧ ∀ i, i < j → s' (36 + i) = 0) 36 s1 ⟨fun _ _ => rfl, S1, fun j hj => absurd hj (Nat.not_lt_zero _)⟩ ?_ ?_
  · intro m s2 ⟨z1, z2, z3⟩
    refine br_t (nI_le (a := 36) (by omega) (by omega)) ?_
    have q0 : dd_Q s2 0 = dd_Q s 0 := dd_Qf fun j hj => (z1 _ (by omega)).trans (k1.1 _ (by omega))
    refine loop_0 (fun m L (s' : Nat → Int32) => wX_recompute_30 post m (nI L) (nI n) g l (dd_N sh) (dd_N hd) (dd_N ba) (dd_N bb) nd (dd_N ly) s')
      (fun L s' => (∀ i, i < 36 ∨ 72 ≤ i → s' i = s1 i) ∧ dd_A6 s' ∧ dd_An sh hd ba bb n ly L (dd_Q s 0) (dd_Q s' 36)) 6 s2 ⟨z1, z2, fun L' hL' => absurd hL' (Nat.not_lt_zero _), fun r x y _ q => ?_⟩ ?_ ?_
    · have q3 := q.2.2.2
      rw [show 36 + 6 * r + x = 36 + (6 * r + x) by omega, z3 _ (by have := q.1; have := q.2.1; omega), b_0] at q3
      exact absurd q3 (by decide)
    · intro m s3 ⟨y1, y2, y3⟩
      refine br_t (nI_le (a := 6) (by omega) (by omega)) (dd_xcount (h s3 (fun j hj => (y1 j (by omega)).trans (k1.1 j (by omega))) y2 (fun j hj => (y1 _ (by omega)).trans (k1.2 j hj).1) y3.1))
    · intro m L s3 hL ⟨y1, y2, y3⟩ hn
      have q3 : dd_Q s3 0 = dd_Q s 0 := dd_Qf fun j hj => (y1 _ (by omega)).trans (k1.1 _ (by omega))
      refine br_f (nI_ge (b := 6) hL (by omega)) (dd_xderive st rl l6 hL h8 y2 fun s4 x1 x2 x3 => nm_r (nI_1 L) (hn s4 ⟨fun i hi => (x1 i hi).trans (y1 i hi), x2, ?_⟩))
      rw [q3] at x3
      exact dd_An_step st y3 x3
  · intro m j s2 hj ⟨z1, z2, z3⟩ hn
    have e2 : (36 : Int32) + nI j = nI (36 + j) := nI_add 36 j
    refine br_f (nI_ge (b := 36) hj (by omega)) ?_
    rw [e2, nI_clamp (n := 36 + j) (by omega)]
    refine ⟨vp_in_nI (by omega) (by omega), nm_e (nm_r (nI_1 j) (hn _ ⟨fun i hi => ?_, dd_A6u z2 dd_S0, fun i hi => ?_⟩))⟩
    · rw [pk_un (by omega)]
      exact z1 i hi
    · by_cases e : i = j
      · subst e
        exact pk_us
      · rw [pk_un (by omega)]
        exact z3 i (by omega)
end
end
section
/-! X: update -/
section
variable {g l : Int32} {sh hd ba bb ly : Nat → Nat} {nd : Nat → Int32} {n : Nat}
theorem dd_xu49 {post : SX → Prop} {J : Int32 → Int32 → Int32 → Int32 → (Nat → Int32) → (Nat → Int32) → (Nat → Int32) → (Nat → Int32) → (Nat → Int32) → (Nat → Int32) → (Nat → Int32) → Prop} {x1 x2 x3 : Int32} {L : Nat} {s s' s1 : Nat → Int32} {F0 : dd_R}
    (st : dd_St sh hd ba bb n ly) (rl : dd_Rl sh hd ba bb) (l6 : ∀ r, ly r < 6) (hL : L < 6) (h8 : n ≤ 8) (m : dd_Lv sh hd ba bb n ly L F0 (dd_Q s 36))
    (a1 : ∀ j, j < 36 → s' j = s j) (a2 : ∀ j, j < 36 → s' (72 + j) = s (36 + j)) (u : dd_Up sh hd ba bb n ly L (dd_Q s 0) (dd_Q s 36) (dd_Q s' 36) (dd_Q s' 108) (dd_Q s' 144))
    (b1 : ∀ j, j < 108 ∨ 144 ≤ j → s1 j = s' j) (S1 : dd_A6 s1) (b2 : ∀ r, ly r ≠ L → ∀ x y, dd_Q s1 108 r x y ↔ dd_Q s' 108 r x y) (b3 : ∀ r x y, ly r = L → F0 r x y → ¬ dd_Q s 0 r x y → dd_Q s1 108 r x y)
    (h : ∀ s4, (∀ j, j < 36 → s4 j = s j) → (∀ j, j < 36 → s4 (72 + j) = s (36 + j)) → dd_A6 s4 → dd_Up sh hd ba bb n ly (L + 1) (dd_Q s 0) (dd_Q s 36) (dd_Q s4 36) (dd_Q s4 108) (dd_Q s4 144) → J (nI (L + 1)) (nI n) g l (dd_N sh) (dd_N hd) (dd_N ba) (dd_N bb) nd (dd_N ly) s4) :
    wX_update_49 post J x1 x2 x3 (nI L) (nI n) g l (dd_N sh) (dd_N hd) (dd_N ba) (dd_N bb) nd (dd_N ly) s1 := by
  unfold wX_update_49
  refine dd_xtake rl l6 hL h8 S1 fun s2 ⟨t1, t2, t3, t4, t5, t6, t7⟩ => dd_xderive st rl l6 hL h8 t2 fun s3 d1 d2 d3 => dd_xsettle l6 hL d2 fun s4 ⟨e1, e2, e3, e4⟩ => nm_r (nI_1 L) (h s4 ?_ ?_ e2 ?_)
  · exact fun j hj => (e1 j (by omega)).trans ((d1 j (by omega)).trans ((t1 j (by omega)).trans ((b1 j (by omega)).trans (a1 j hj))))
  · exact fun j hj => (e1 _ (by omega)).trans ((d1 _ (by omega)).trans ((t1 _ (by omega)).trans ((b1 _ (by omega)).trans (a2 j hj))))
  · have q1 : dd_Q s1 36 = dd_Q s' 36 := dd_Qf fun j hj => b1 _ (by omega)
    have q2 : dd_Q s1 72 = dd_Q s 36 := by
      funext r x y
      refine propext ⟨fun z => ⟨z.1, z.2.1, z.2.2.1, ?_⟩, fun z => ⟨z.1, z.2.1, z.2.2.1, ?_⟩⟩
      · have hr := z.1
        have hx := z.2.1
        have z3 := z.2.2.2
        rw [b1 _ (by omega), Nat.add_assoc, a2 _ (by omega), ← Nat.add_assoc] at z3
        exact z3
      · have hr := z.1
        have hx := z.2.1
        rw [b1 _ (by omega), Nat.add_assoc, a2 _ (by omega), ← Nat.add_assoc]
        exact z.2.2.2
    have q3 : dd_Q s1 144 = dd_Q s' 144 := dd_Qf fun j hj => b1 _ (by omega)
    have q4 : dd_Q s2 0 = dd_Q s 0 := dd_Qf fun j hj => (t1 _ (by omega)).trans ((b1 _ (by omega)).trans (by rw [Nat.zero_add]; exact a1 j hj))
    have q5 : dd_Q s3 108 = dd_Q s2 108 := dd_Qf fun j hj => d1 _ (by omega)
    have q6 : dd_Q s3 144 = dd_Q s' 144 := dd_Qf fun j hj => (d1 _ (by omega)).trans ((t1 _ (by omega)).trans (b1 _ (by omega)))
    have q7 : dd_Q s3 72 = dd_Q s 36 := (dd_Qf fun j hj => (d1 _ (by omega)).trans (t1 _ (by omega))).trans q2
    have q8 : dd_Q s4 36 = dd_Q s3 36 := dd_Qf fun j hj => e1 _ (by omega)
    rw [q2, q3] at t5
    rw [q1] at t6 t7
    rw [q4] at d3
    rw [q5, q6] at e3
    rw [q7] at e4
    rw [q8]
    exact dd_Up_next (G' := dd_Q s2 108) (N' := dd_Q s2 36) st m u (fun r hr x y => (t3 r hr x y).trans (b2 r hr x y)) t5 (fun r x y e f nf => t4 r x y (b3 r x y e f nf)) t6 t7 d3 e3 e4
theorem dd_xupdate {post : SX → Prop} {s : Nat → Int32} {F0 : dd_R} {rr : Int32} {x y : Nat} (st : dd_St sh hd ba bb n ly) (rl : dd_Rl sh hd ba bb) (l6 : ∀ r, ly r < 6) (h8 : n ≤ 8) (S : dd_A6 s) (m : dd_Mod sh hd ba bb n ly F0 (dd_Q s 36))
    (hx : x < 6) (hy : y < 6) (hr : rr < 0 ∨ ∃ r, r < 6 ∧ rr = nI r) (hF : ∀ r' x' y', F0 r' x' y' → ¬ dd_Q s 0 r' x' y' → rr = nI r' ∧ r' < 6 ∧ x' = x ∧ y' = y)
    (h : ∀ s', (∀ j, j < 36 → s' j = s j) → dd_A6 s' → (∀ j, j < 36 → s' (72 + j) = s (36 + j)) → dd_Mod sh hd ba bb n ly (dd_Q s 0) (dd_Q s' 36) →
      post (nI n, nI (dd_c (dd_dq s' 36 72) 216), nI (dd_c (dd_dq s' 72 36) 216), dd_N sh, dd_N hd, dd_N ba, dd_N bb, nd, dd_N ly, s')) :
    wpX_update post (nI n, g, l, dd_N sh, dd_N hd, dd_N ba, dd_N bb, nd, dd_N ly, s) rr (nI x) (nI y) := by
  unfold wpX_update
  refine dd_xremember fun s0 k1 => ?_
  have S0 := dd_Rm6 S k1
  have q0 : dd_Q s0 36 = dd_Q s 36 := dd_Qf fun j hj => k1.1 _ (by omega)
  refine loop_0 (fun m L (s' : Nat → Int32) => wX_update_7 post rr (nI x) (nI y) m (nI L) (nI n) g l (dd_N sh) (dd_N hd) (dd_N ba) (dd_N bb) nd (dd_N ly) s')
    (fun L s' => (∀ j, j < 36 → s' j = s j) ∧ (∀ j, j < 36 → s' (72 + j) = s (36 + j)) ∧ dd_A6 s' ∧ dd_Up sh hd ba bb n ly L (dd_Q s 0) (dd_Q s 36) (dd_Q s' 36) (dd_Q s' 108) (dd_Q s' 144))
    6 s0 ⟨fun j hj => k1.1 j (by omega), fun j hj => (k1.2 j hj).1, S0, fun L' hL' => absurd hL' (Nat.not_lt_zero _), fun r x y _ => by rw [q0], fun r x y hr => absurd hr (Nat.not_lt_zero _)⟩ ?_ ?_
  · intro m s1 ⟨a1, a2, a3, a4⟩
    exact br_t (nI_le (a := 6) (by omega) (by omega)) (dd_xcount (h s1 a1 a3 a2 a4.1))
  · intro c L s1 hL ⟨a1, a2, a3, a4⟩ hn
    refine br_f (nI_ge (b := 6) hL (by omega)) ?_
    rcases hr with hr | ⟨r, hr, er⟩
    · refine br_t hr (dd_xu49 st rl l6 hL h8 (m L hL) a1 a2 a4 (fun _ _ => rfl) a3 (fun _ _ _ _ => Iff.rfl) (fun r' x' y' _ f nf => ?_) fun s4 b1 b2 b3 b4 => hn s4 ⟨b1, b2, b3, b4⟩)
      obtain ⟨e, e2, _⟩ := hF r' x' y' f nf
      rw [e] at hr
      exact absurd hr (nI_pos (by omega))
    · subst er
      have h6 := l6 r
      have e0 : ((108 : Int32) + 6 * nI r) + nI x = nI (108 + 6 * r + x) := dd_ix 108 r x
      refine br_f (nI_pos (by omega)) ⟨vp_in_nI hr (by omega), pk_eq (ly r) L (fun e => ?_) (fun e => ?_) (dd_at ly (by omega))⟩
      · rw [e0, nI_clamp (n := 108 + 6 * r + x) (by omega)]
        refine ⟨vp_in_nI (by omega) (by omega), vp_in_nI (by omega) (by omega), nm_e (dd_xu49 st rl l6 hL h8 (m L hL) a1 a2 a4 (fun j hj => pk_un (by omega)) (dd_A6u a3 (dd_Sor (a3 _ (by omega)) (dd_S1 hy))) (fun r' hr' x' y' => ?_) (fun r' x' y' _ f nf => ?_) fun s4 b1 b2 b3 b4 => hn s4 ⟨b1, b2, b3, b4⟩)⟩
        · rw [dd_Qn hx fun z => hr' (by rw [z.1]; exact e)]
        · obtain ⟨e1, e2, e3, e4⟩ := hF r' x' y' f nf
          rw [nI_eq (by omega) (by omega)] at e1
          subst e1 e3 e4
          refine (dd_Qup hr hx r x' y').mpr (Or.inr ⟨rfl, rfl, hy, ?_⟩)
          rw [dd_one (by omega), decide_eq_true rfl]
      · refine dd_xu49 st rl l6 hL h8 (m L hL) a1 a2 a4 (fun _ _ => rfl) a3 (fun _ _ _ _ => Iff.rfl) (fun r' x' y' e' f nf => ?_) fun s4 b1 b2 b3 b4 => hn s4 ⟨b1, b2, b3, b4⟩
        obtain ⟨e1, e2, _⟩ := hF r' x' y' f nf
        rw [nI_eq (by omega) (by omega)] at e1
        subst e1
        exact absurd e' e
end
end
section
/-! X: findLayers, findNeeds, isLayered -/
theorem dd_nar6 : ∀ v, v < 6 → vp_nar .byte (nI v).toInt8.toInt32 = nI v := by
  intro v hv
  rw [vp_nar_byte]
  exact (by decide +kernel : ∀ v, v < 6 → (nI v).toInt8.toInt32.toInt8.toInt32 = nI v) v hv
theorem dd_nar0 : vp_nar .byte 0 = 0 := by
  rw [vp_nar_byte]
  decide
section
variable {g l : Int32} {sh hd ba bb : Nat → Nat} {nd s : Nat → Int32} {n : Nat}
theorem dd_xl97 {post : SX → Prop} {J23 J31 : Int32 → (Nat → Int32) → (Nat → Int32) → (Nat → Int32) → (Nat → Int32) → (Nat → Int32) → (Nat → Int32) → (Nat → Int32) → Prop} {x1 : Int32} {i v : Nat} {ly : Nat → Nat} (rl : dd_Rl sh hd ba bb) (hi : i < 9) (l6 : ∀ r, ly r < 6) (hv : v < 100)
    (h : J31 (nI (i + 1)) (dd_N sh) (dd_N hd) (dd_N ba) (dd_N bb) nd (dd_N (if ly (hd i) < v ∧ v < 6 then dd_u ly (hd i) v else ly)) s) :
    wX_findLayers_97 post J23 J31 x1 (nI i) (nI v) (nI n) g l (dd_N sh) (dd_N hd) (dd_N ba) (dd_N bb) nd (dd_N ly) s := by
  obtain ⟨h4, hh, ha, hb⟩ := rl i
  have h6 := l6 (hd i)
  unfold wX_findLayers_97
  rw [dd_at hd (by omega), dd_at ly (by omega), nI_clamp (n := hd i) (by omega)]
  refine ⟨vp_in_nI hi (by omega), vp_in_nI hh (by omega), pk_le v (ly (hd i)) (fun z => nm_r (nI_1 i) ?_) (fun z => pk_le 6 v (fun z2 => nm_r (nI_1 i) ?_) (fun z2 => ⟨vp_in_nI hi (by omega), vp_in_nI hh (by omega), nm_r (by rw [dd_nar6 v z2, dd_Nu]) (nm_r (nI_1 i) ?_)⟩))⟩
  · rw [if_neg (by omega)] at h
    exact h
  · rw [if_neg (by omega)] at h
    exact h
  · rw [if_pos (by omega)] at h
    exact h
theorem dd_xl31 {post : SX → Prop} {J23 : Int32 → (Nat → Int32) → (Nat → Int32) → (Nat → Int32) → (Nat → Int32) → (Nat → Int32) → (Nat → Int32) → (Nat → Int32) → Prop} {k : Nat} {ly : Nat → Nat} (rl : dd_Rl sh hd ba bb) (h8 : n ≤ 8) (l6 : ∀ r, ly r < 6)
    (h : J23 (nI (k + 1)) (dd_N sh) (dd_N hd) (dd_N ba) (dd_N bb) nd (dd_N (dd_lp sh hd ba bb n ly)) s) :
    ∃ m, wX_findLayers_31 post J23 (nI k) (nI n) g l m 0 (dd_N sh) (dd_N hd) (dd_N ba) (dd_N bb) nd (dd_N ly) s := by
  refine loop_0 (fun m i (ly' : Nat → Nat) => wX_findLayers_31 post J23 (nI k) (nI n) g l m (nI i) (dd_N sh) (dd_N hd) (dd_N ba) (dd_N bb) nd (dd_N ly') s)
    (fun i ly' => ly' = dd_lp sh hd ba bb i ly) n ly rfl ?_ ?_
  · intro m ly' e
    subst e
    exact br_t (nI_le (Nat.le_refl _) (by omega)) (nm_r (nI_1 k) h)
  · intro m i ly' hi e hn
    have L6 : ∀ r, ly' r < 6 := by
      rw [e]
      exact dd_lp_6 l6 i
    obtain ⟨h4, hh, ha, hb⟩ := rl i
    have ha6 := L6 (ba i)
    have hb6 := L6 (bb i)
    have fin : wX_findLayers_31 post J23 (nI k) (nI n) g l m (nI (i + 1)) (dd_N sh) (dd_N hd) (dd_N ba) (dd_N bb) nd (dd_N (dd_ls sh hd ba bb ly' i)) s := hn _ (by rw [e]; rfl)
    unfold dd_ls at fin
    refine br_f (nI_ge hi (by omega)) ⟨vp_in_nI (by omega) (by omega), dd_inN ba (by omega) ha (by omega), nm_r (dd_at2 ly' ba (by omega) (by omega)) (dd_xh (by omega) h4 (fun k2 => br_t rfl (dd_xl97 rl (by omega) L6 (by omega) ?_)) fun k2 => br_f (by decide) ⟨vp_in_nI (by omega) (by omega), dd_inN bb (by omega) hb (by omega), vp_in_nI (by omega) (by omega), ?_⟩)⟩
    · have e1 : dd_l1 sh ba bb ly' i = ly' (ba i) := if_neg (by omega)
      rw [e1] at fin
      exact fin
    · have e1 : dd_l1 sh ba bb ly' i = if ly' (ba i) < dd_l2 sh bb ly' i then dd_l2 sh bb ly' i else ly' (ba i) := if_pos k2
      have key : ∀ z : Int32, ∀ w : Nat, z = nI w → w ≤ 1 → dd_l2 sh bb ly' i = ly' (bb i) + w → wX_findLayers_85 post J23 (wX_findLayers_31 post J23 (nI k) (nI n) g l m) (nI k) (nI i) (nI (ly' (ba i))) z (dd_N ly' (dd_N bb (nI i).toNatClampNeg).toNatClampNeg) (nI n) g l (dd_N sh) (dd_N hd) (dd_N ba) (dd_N bb) nd (dd_N ly') s := by
        intro z w hz hw e2
        subst hz
        rw [dd_at2 ly' bb (by omega) (by omega)]
        unfold wX_findLayers_85
        refine nm_r (nI_add _ _) (pk_le (ly' (bb i) + w) (ly' (ba i)) (fun z => dd_xl97 rl (by omega) L6 (by omega) ?_) (fun z => dd_xl97 rl (by omega) L6 (by omega) ?_))
        · have e3 : dd_l1 sh ba bb ly' i = ly' (ba i) := e1.trans (if_neg (by omega))
          rw [e3] at fin
          exact fin
        · have e3 : dd_l1 sh ba bb ly' i = ly' (bb i) + w := (e1.trans (if_pos (by omega))).trans e2
          rw [e3] at fin
          exact fin
      refine pk_eq (sh i) 4 (fun k4 => key 1 1 rfl (by omega) ?_) (fun k4 => key 0 0 rfl (by omega) ?_) (dd_at sh (by omega))
      · unfold dd_l2
        rw [if_pos k4]
      · unfold dd_l2
        rw [if_neg k4]
theorem dd_z6 {w : Nat → Int32} (h1 : ∀ j, j < 6 → w j = 0) (h2 : ∀ j, 6 ≤ j → w j = 0) : w = fun _ => 0 := by
  funext j
  rcases Nat.lt_or_ge j 6 with h | h
  · exact h1 j h
  · exact h2 j h
theorem dd_xfl {post : SX → Prop} {la : Nat → Int32} (rl : dd_Rl sh hd ba bb) (h8 : n ≤ 8) (hz : ∀ j, 6 ≤ j → la j = 0)
    (h : post (nI n, g, l, dd_N sh, dd_N hd, dd_N ba, dd_N bb, nd, dd_N (dd_LY sh hd ba bb n), s)) :
    wpX_findLayers post (nI n, g, l, dd_N sh, dd_N hd, dd_N ba, dd_N bb, nd, la, s) := by
  unfold wpX_findLayers
  refine loop_0 (fun m r (la' : Nat → Int32) => wX_findLayers_2 post (nI n) g l m (nI r) (dd_N sh) (dd_N hd) (dd_N ba) (dd_N bb) nd la' s)
    (fun r la' => (∀ j, j < r → la' j = 0) ∧ ∀ j, 6 ≤ j → la' j = 0) 6 la ⟨fun j hj => absurd hj (Nat.not_lt_zero _), hz⟩ ?_ ?_
  · intro m la' ⟨z1, z2⟩
    have e : la' = dd_N (fun _ => 0) := dd_z6 z1 z2
    subst e
    refine br_t (nI_le (a := 6) (by omega) (by omega)) ?_
    refine loop_0 (fun m k (ly : Nat → Nat) => wX_findLayers_23 post (nI n) g l m (nI k) (dd_N sh) (dd_N hd) (dd_N ba) (dd_N bb) nd (dd_N ly) s)
      (fun k ly => ly = dd_li sh hd ba bb n k) 36 (fun _ => 0) rfl ?_ ?_
    · intro m ly e
      subst e
      exact br_t (nI_le (a := 36) (by omega) (by omega)) h
    · intro m k ly hk e hn
      refine br_f (nI_ge (b := 36) hk (by omega)) (dd_xl31 rl h8 (by rw [e]; exact dd_li_6 n k) (hn _ ?_))
      rw [e]
      rfl
  · intro m r la' hr ⟨z1, z2⟩ hn
    refine br_f (nI_ge (b := 6) hr (by omega)) ⟨vp_in_nI hr (by omega), nm_e (nm_r (nI_1 r) (hn _ ?_))⟩
    rw [nI_clamp (by omega), dd_nar0]
    refine ⟨fun j hj => ?_, fun j hj => ?_⟩
    · by_cases e : j = r
      · subst e
        exact pk_us
      · rw [pk_un e]
        exact z1 j (by omega)
    · rw [pk_un (by omega)]
      exact z2 j hj
theorem dd_xn99 {post : SX → Prop} {J : Int32 → (Nat → Int32) → (Nat → Int32) → (Nat → Int32) → (Nat → Int32) → (Nat → Int32) → (Nat → Int32) → (Nat → Int32) → Prop} {k : Nat} {w la : Nat → Int32} (hk : k < 6)
    (h : J (nI (k + 1)) (dd_N sh) (dd_N hd) (dd_N ba) (dd_N bb) (dd_wr k w 6) la s) :
    ∃ m, wX_findNeeds_99 post J (nI k) (nI n) g l m 0 (dd_N sh) (dd_N hd) (dd_N ba) (dd_N bb) w la s := by
  refine loop_0 (fun m r (w' : Nat → Int32) => wX_findNeeds_99 post J (nI k) (nI n) g l m (nI r) (dd_N sh) (dd_N hd) (dd_N ba) (dd_N bb) w' la s)
    (fun r w' => w' = dd_wr k w r) 6 w rfl ?_ ?_
  · intro m w' e
    subst e
    exact br_t (nI_le (a := 6) (by omega) (by omega)) (nm_r (nI_1 k) h)
  · intro m r w' hr e hn
    refine br_f (nI_ge (b := 6) hr (by omega)) ⟨vp_in_nI hr (by omega), ?_⟩
    rw [nI_clamp (n := r) (by omega), nI_clamp (n := k) (by omega)]
    refine br_c (fun z => nm_r (nI_1 r) (hn _ ?_)) (fun z => ⟨vp_in_nI hr (by omega), vp_in_nI hk (by omega), vp_in_nI hr (by omega), nm_e (nm_r (nI_1 r) (hn _ ?_))⟩)
    · rw [dd_rd0 _ (by omega)] at z
      show w' = dd_w1 k (dd_wr k w r) r
      rw [← e]
      unfold dd_w1
      rw [if_neg (by rw [z]; decide)]
    · rw [dd_rd0 _ (by omega)] at z
      show _ = dd_w1 k (dd_wr k w r) r
      rw [← e]
      unfold dd_w1
      have z' : bt (w' r) k = true := by
        cases hb : bt (w' r) k
        · exact absurd hb z
        · rfl
      rw [if_pos z']
theorem dd_xfn {post : SX → Prop} {la : Nat → Int32} (rl : dd_Rl sh hd ba bb) (h8 : n ≤ 8) (hn0 : ∀ j, 6 ≤ j → nd j = 0) (hz : ∀ j, 6 ≤ j → la j = 0)
    (h : post (nI n, g, l, dd_N sh, dd_N hd, dd_N ba, dd_N bb, dd_ND sh hd ba bb n, dd_N (dd_LY sh hd ba bb n), s)) :
    wpX_findNeeds post (nI n, g, l, dd_N sh, dd_N hd, dd_N ba, dd_N bb, nd, la, s) := by
  unfold wpX_findNeeds
  refine loop_0 (fun m r (w : Nat → Int32) => wX_findNeeds_2 post (nI n) g l m (nI r) (dd_N sh) (dd_N hd) (dd_N ba) (dd_N bb) w la s)
    (fun r w => (∀ j, j < r → w j = 0) ∧ ∀ j, 6 ≤ j → w j = 0) 6 nd ⟨fun j hj => absurd hj (Nat.not_lt_zero _), hn0⟩ ?_ ?_
  · intro m w ⟨z1, z2⟩
    have e : w = fun _ => 0 := dd_z6 z1 z2
    subst e
    refine br_t (nI_le (a := 6) (by omega) (by omega)) ?_
    refine loop_0 (fun m i (w : Nat → Int32) => wX_findNeeds_23 post (nI n) g l m (nI i) (dd_N sh) (dd_N hd) (dd_N ba) (dd_N bb) w la s)
      (fun i w => w = dd_nd sh hd ba bb i) n (fun _ => 0) rfl ?_ ?_
    · intro m w e
      subst e
      refine br_t (nI_le (Nat.le_refl _) (by omega)) ?_
      refine loop_0 (fun m k (w : Nat → Int32) => wX_findNeeds_91 post (nI n) g l m (nI k) (dd_N sh) (dd_N hd) (dd_N ba) (dd_N bb) w la s)
        (fun k w => w = dd_wm (dd_nd sh hd ba bb n) k) 6 (dd_nd sh hd ba bb n) rfl ?_ ?_
      · intro m w e
        subst e
        exact br_t (nI_le (a := 6) (by omega) (by omega)) (dd_xfl rl h8 hz h)
      · intro m k w hk e hn
        refine br_f (nI_ge (b := 6) hk (by omega)) (dd_xn99 hk (hn _ ?_))
        rw [e]
        rfl
    · intro m i w hi e hn
      obtain ⟨h4, hh, ha, hb⟩ := rl i
      refine br_f (nI_ge hi (by omega)) ?_
      rw [dd_at hd (by omega), dd_at ba (by omega), nI_clamp (n := hd i) (by omega)]
      have i1 : vp_in (nI i) 9 := vp_in_nI (by omega) (by omega)
      have i2 : vp_in (nI (hd i)) 6 := vp_in_nI hh (by omega)
      refine ⟨i1, i2, i1, i2, nm_e (dd_xh (by omega) h4 (fun k2 => br_t rfl (nm_r (nI_1 i) (hn _ ?_))) fun k2 => br_f (by decide) ⟨i1, i2, i1, i2, nm_e (nm_r (nI_1 i) (hn _ ?_))⟩)⟩
      · show _ = dd_n1 sh hd ba bb (dd_nd sh hd ba bb i) i
        rw [← e]
        unfold dd_n1
        rw [if_neg (by omega), Int32.or_zero]
      · show _ = dd_n1 sh hd ba bb (dd_nd sh hd ba bb i) i
        rw [← e]
        unfold dd_n1
        rw [if_pos k2, pk_us, dd_uu, dd_at bb (by omega)]
  · intro m r w hr ⟨z1, z2⟩ hn
    refine br_f (nI_ge (b := 6) hr (by omega)) ⟨vp_in_nI hr (by omega), nm_e (nm_r (nI_1 r) (hn _ ?_))⟩
    rw [nI_clamp (by omega)]
    refine ⟨fun j hj => ?_, fun j hj => ?_⟩
    · by_cases e : j = r
      · subst e
        exact pk_us
      · rw [pk_un e]
        exact z1 j (by omega)
    · rw [pk_un (by omega)]
      exact z2 j hj
theorem dd_xil {post : Int32 → Prop} {w la : Nat → Int32} (rl : dd_Rl sh hd ba bb) (h8 : n ≤ 8) (h1 : dd_Ly sh hd bb n w → post 1) (h0 : ¬ dd_Ly sh hd bb n w → post 0) :
    wpX_isLayered post (nI n, g, l, dd_N sh, dd_N hd, dd_N ba, dd_N bb, w, la, s) := by
  unfold wpX_isLayered
  refine loop_0 (fun m i (_ : Unit) => wX_isLayered_2 post (nI n) g l (dd_N sh) (dd_N hd) (dd_N ba) (dd_N bb) w la s m (nI i))
    (fun i _ => ∀ i', i' < i → sh i' = 4 → bb i' ≠ hd i' ∧ bt (w (bb i')) (hd i') = false) n () (fun i hi => absurd hi (Nat.not_lt_zero _)) ?_ ?_
  · intro m _ hI
    exact br_t (nI_le (Nat.le_refl _) (by omega)) (h1 hI)
  · intro m i _ hi hI hn
    obtain ⟨h4, hh, ha, hb⟩ := rl i
    have i1 : vp_in (nI i) 9 := vp_in_nI (by omega) (by omega)
    refine br_f (nI_ge hi (by omega)) ?_
    rw [dd_at hd (by omega), dd_at bb (by omega), dd_at sh (by omega)]
    refine ⟨i1, pk_eq (sh i) 4 (fun k => ⟨i1, nm_e ⟨i1, pk_eq (bb i) (hd i) (fun e => h0 fun z => (z i hi k).1 e) (fun e => ⟨vp_in_nI hb (by omega), i1, br_c (fun z => nm_r (nI_1 i) (hn () fun i' hi' k' => ?_)) (fun z => h0 fun z2 => z ?_)⟩)⟩⟩) (fun k => nm_r (nI_1 i) (hn () fun i' hi' k' => ?_))⟩
    · rw [nI_clamp (by omega), dd_rd0 _ (by omega)] at z
      by_cases ei : i' = i
      · subst ei
        exact ⟨e, z⟩
      · exact hI i' (by omega) k'
    · rw [nI_clamp (by omega), dd_rd0 _ (by omega)]
      exact (z2 i hi k).2
    · by_cases ei : i' = i
      · subst ei
        exact absurd k' k
      · exact hI i' (by omega) k'
end
end
section
/-! Y: hasTwo, layered, raise -/
section
variable {fn : Int32} {sh hd ba bb : Nat → Nat} {fa nw bf la nd : Nat → Int32} {ah aa ab : Nat → Int32} {n : Nat}
theorem dd_yh {post : Int32 → Prop} {i : Nat} (hi : i < 9) (h4 : sh i ≤ 4) (h0 : sh i < 2 → post 0) (h1 : 2 ≤ sh i → post 1) : wpY_hasTwo post (fn, dd_N sh, ah, aa, ab, fa, nw, bf, la, nd) (nI i) := by
  unfold wpY_hasTwo
  exact ⟨vp_in_nI hi (by omega), pk_lt (sh i) 2 h0 h1 (dd_at sh (by omega))⟩
theorem dd_yl149 {post : Int32 → SY → Prop} {w : Nat → Int32} (rl : dd_Rl sh hd ba bb) (h9 : n ≤ 9) (h1 : dd_Ly sh hd bb n w → post 1 (fn, dd_N sh, dd_N hd, dd_N ba, dd_N bb, fa, nw, bf, la, w)) (h0 : ¬ dd_Ly sh hd bb n w → post 0 (fn, dd_N sh, dd_N hd, dd_N ba, dd_N bb, fa, nw, bf, la, w)) :
    ∃ m, wY_layered_149 post (nI n) fn (dd_N sh) (dd_N hd) (dd_N ba) (dd_N bb) fa nw bf la w m 0 := by
  refine loop_0 (fun m i (_ : Unit) => wY_layered_149 post (nI n) fn (dd_N sh) (dd_N hd) (dd_N ba) (dd_N bb) fa nw bf la w m (nI i))
    (fun i _ => ∀ i', i' < i → sh i' = 4 → bb i' ≠ hd i' ∧ bt (w (bb i')) (hd i') = false) n () (fun i hi => absurd hi (Nat.not_lt_zero _)) ?_ ?_
  · intro m _ hI
    exact br_t (nI_le (Nat.le_refl _) (by omega)) (h1 hI)
  · intro m i _ hi hI hn
    obtain ⟨h4, hh, ha, hb⟩ := rl i
    have i1 : vp_in (nI i) 9 := vp_in_nI (by omega) (by omega)
    refine br_f (nI_ge hi (by omega)) ?_
    rw [dd_at hd (by omega), dd_at bb (by omega), dd_at sh (by omega), nI_clamp (n := bb i) (by omega)]
    refine ⟨i1, pk_eq (sh i) 4 (fun k => ⟨i1, i1, pk_eq (bb i) (hd i) (fun e => h0 fun z => (z i hi k).1 e) (fun e => ⟨i1, vp_in_nI hb (by omega), i1, br_c (fun z => h0 fun z2 => ?_) (fun z => nm_r (nI_1 i) (hn () fun i' hi' k' => ?_))⟩)⟩) (fun k => nm_r (nI_1 i) (hn () fun i' hi' k' => ?_))⟩
    · rw [dd_rd1 _ (by omega)] at z
      have z3 := (z2 i hi k).2
      rw [z] at z3
      exact absurd z3 (by decide)
    · rw [dd_rd1 _ (by omega)] at z
      by_cases ei : i' = i
      · subst ei
        refine ⟨e, ?_⟩
        cases hb : bt (w (bb i')) (hd i')
        · rfl
        · exact absurd hb z
      · exact hI i' (by omega) k'
    · by_cases ei : i' = i
      · subst ei
        exact absurd k' k
      · exact hI i' (by omega) k'
theorem dd_yl96 {post : Int32 → SY → Prop} {J : Int32 → (Nat → Int32) → (Nat → Int32) → (Nat → Int32) → (Nat → Int32) → (Nat → Int32) → (Nat → Int32) → (Nat → Int32) → (Nat → Int32) → (Nat → Int32) → Prop} {x1 : Int32} {k : Nat} {w : Nat → Int32} (hk : k < 6)
    (h : J (nI (k + 1)) (dd_N sh) (dd_N hd) (dd_N ba) (dd_N bb) fa nw bf la (dd_wr k w 6)) :
    ∃ m, wY_layered_96 post J x1 (nI k) fn m 0 (dd_N sh) (dd_N hd) (dd_N ba) (dd_N bb) fa nw bf la w := by
  refine loop_0 (fun m r (w' : Nat → Int32) => wY_layered_96 post J x1 (nI k) fn m (nI r) (dd_N sh) (dd_N hd) (dd_N ba) (dd_N bb) fa nw bf la w')
    (fun r w' => w' = dd_wr k w r) 6 w rfl ?_ ?_
  · intro m w' e
    subst e
    exact br_t (nI_le (a := 6) (by omega) (by omega)) (nm_r (nI_1 k) h)
  · intro m r w' hr e hn
    refine br_f (nI_ge (b := 6) hr (by omega)) ⟨vp_in_nI hr (by omega), ?_⟩
    rw [nI_clamp (n := r) (by omega), nI_clamp (n := k) (by omega)]
    refine br_c (fun z => ⟨vp_in_nI hr (by omega), vp_in_nI hk (by omega), vp_in_nI hr (by omega), nm_e (nm_r (nI_1 r) (hn _ ?_))⟩) (fun z => nm_r (nI_1 r) (hn _ ?_))
    · rw [dd_rd1 _ (by omega)] at z
      show _ = dd_w1 k (dd_wr k w r) r
      rw [← e]
      unfold dd_w1
      rw [if_pos z]
    · rw [dd_rd1 _ (by omega)] at z
      show w' = dd_w1 k (dd_wr k w r) r
      rw [← e]
      unfold dd_w1
      rw [if_neg z]
theorem dd_yl {post : Int32 → SY → Prop} (rl : dd_Rl sh hd ba bb) (h9 : n ≤ 9) (hn0 : ∀ j, 6 ≤ j → nd j = 0)
    (h1 : dd_Ly sh hd bb n (dd_ND sh hd ba bb n) → post 1 (fn, dd_N sh, dd_N hd, dd_N ba, dd_N bb, fa, nw, bf, la, dd_ND sh hd ba bb n)) (h0 : ¬ dd_Ly sh hd bb n (dd_ND sh hd ba bb n) → post 0 (fn, dd_N sh, dd_N hd, dd_N ba, dd_N bb, fa, nw, bf, la, dd_ND sh hd ba bb n)) :
    wpY_layered post (fn, dd_N sh, dd_N hd, dd_N ba, dd_N bb, fa, nw, bf, la, nd) (nI n) := by
  unfold wpY_layered
  refine loop_0 (fun m r (w : Nat → Int32) => wY_layered_2 post (nI n) fn m (nI r) (dd_N sh) (dd_N hd) (dd_N ba) (dd_N bb) fa nw bf la w)
    (fun r w => (∀ j, j < r → w j = 0) ∧ ∀ j, 6 ≤ j → w j = 0) 6 nd ⟨fun j hj => absurd hj (Nat.not_lt_zero _), hn0⟩ ?_ ?_
  · intro m w ⟨z1, z2⟩
    have e : w = fun _ => 0 := dd_z6 z1 z2
    subst e
    refine br_t (nI_le (a := 6) (by omega) (by omega)) ?_
    refine loop_0 (fun m i (w : Nat → Int32) => wY_layered_23 post (nI n) fn m (nI i) (dd_N sh) (dd_N hd) (dd_N ba) (dd_N bb) fa nw bf la w)
      (fun i w => w = dd_nd sh hd ba bb i) n (fun _ => 0) rfl ?_ ?_
    · intro m w e
      subst e
      refine br_t (nI_le (Nat.le_refl _) (by omega)) ?_
      refine loop_0 (fun m k (w : Nat → Int32) => wY_layered_88 post (nI n) fn m (nI k) (dd_N sh) (dd_N hd) (dd_N ba) (dd_N bb) fa nw bf la w)
        (fun k w => w = dd_wm (dd_nd sh hd ba bb n) k) 6 (dd_nd sh hd ba bb n) rfl ?_ ?_
      · intro m w e
        subst e
        exact br_t (nI_le (a := 6) (by omega) (by omega)) (dd_yl149 rl h9 h1 h0)
      · intro m k w hk e hn
        refine br_f (nI_ge (b := 6) hk (by omega)) (dd_yl96 hk (hn _ ?_))
        rw [e]
        rfl
    · intro m i w hi e hn
      obtain ⟨h4, hh, ha, hb⟩ := rl i
      refine br_f (nI_ge hi (by omega)) ?_
      rw [dd_at hd (by omega), dd_at ba (by omega), dd_at bb (by omega), nI_clamp (n := hd i) (by omega)]
      have i1 : vp_in (nI i) 9 := vp_in_nI (by omega) (by omega)
      have i2 : vp_in (nI (hd i)) 6 := vp_in_nI hh (by omega)
      refine ⟨i1, i1, i2, i1, dd_yh (by omega) h4 (fun k2 => br_t rfl ⟨i2, nm_e (nm_r (nI_1 i) (hn _ ?_))⟩) fun k2 => br_f (by decide) ⟨i1, i2, nm_e (nm_r (nI_1 i) (hn _ ?_))⟩⟩
      · show _ = dd_n1 sh hd ba bb (dd_nd sh hd ba bb i) i
        rw [← e]
        unfold dd_n1
        rw [if_neg (by omega)]
      · show _ = dd_n1 sh hd ba bb (dd_nd sh hd ba bb i) i
        rw [← e]
        unfold dd_n1
        rw [if_pos k2]
  · intro m r w hr ⟨z1, z2⟩ hn
    refine br_f (nI_ge (b := 6) hr (by omega)) ⟨vp_in_nI hr (by omega), nm_e (nm_r (nI_1 r) (hn _ ?_))⟩
    rw [nI_clamp (by omega)]
    refine ⟨fun j hj => ?_, fun j hj => ?_⟩
    · by_cases e : j = r
      · subst e
        exact pk_us
      · rw [pk_un e]
        exact z1 j (by omega)
    · rw [pk_un (by omega)]
      exact z2 j hj
theorem dd_yr74 {post : Int32 → SY → Prop} {J : Int32 → Int32 → (Nat → Int32) → (Nat → Int32) → (Nat → Int32) → (Nat → Int32) → (Nat → Int32) → (Nat → Int32) → (Nat → Int32) → (Nat → Int32) → (Nat → Int32) → Prop} {c : Int32} {i v : Nat} {ly : Nat → Nat} (rl : dd_Rl sh hd ba bb) (hi : i < 9) (l6 : ∀ r, ly r < 6) (hv : v < 100)
    (ha : v ≤ ly (hd i) → J c (nI (i + 1)) (dd_N sh) (dd_N hd) (dd_N ba) (dd_N bb) fa nw bf (dd_N ly) nd) (hb : ly (hd i) < v → J 1 (nI (i + 1)) (dd_N sh) (dd_N hd) (dd_N ba) (dd_N bb) fa nw bf (dd_N (dd_u ly (hd i) v)) nd) :
    wY_raise_74 post J c (nI i) (nI v) fn (dd_N sh) (dd_N hd) (dd_N ba) (dd_N bb) fa nw bf (dd_N ly) nd := by
  obtain ⟨h4, hh, _, _⟩ := rl i
  have h6 := l6 (hd i)
  unfold wY_raise_74
  rw [dd_at hd (by omega), dd_at ly (by omega), nI_clamp (n := hd i) (by omega)]
  exact ⟨vp_in_nI hi (by omega), vp_in_nI hh (by omega), pk_le v (ly (hd i)) (fun z => nm_r (nI_1 i) (ha z)) (fun z => ⟨vp_in_nI hi (by omega), vp_in_nI hh (by omega), nm_r (dd_Nu _ _ _) (nm_r (nI_1 i) (hb z))⟩)⟩
theorem dd_yraise {post : Int32 → SY → Prop} {ly rk : Nat → Nat} (rl : dd_Rl sh hd ba bb) (h8 : n ≤ 8) (l6 : ∀ r, ly r < 6) (ra : dd_Ra sh hd ba bb n rk) (hr : ∀ r, ly r ≤ rk r)
    (h : ∀ c, ((c = 0 ∧ dd_lp sh hd ba bb n ly = ly) ∨ c = 1) → post c (nI n, dd_N sh, dd_N hd, dd_N ba, dd_N bb, fa, nw, bf, dd_N (dd_lp sh hd ba bb n ly), nd)) :
    wpY_raise post (nI n, dd_N sh, dd_N hd, dd_N ba, dd_N bb, fa, nw, bf, dd_N ly, nd) := by
  unfold wpY_raise
  refine dd_loop2 (fun m i (c : Int32) (ly' : Nat → Nat) => wY_raise_4 post (nI n) m c (nI i) (dd_N sh) (dd_N hd) (dd_N ba) (dd_N bb) fa nw bf (dd_N ly') nd)
    (fun i c ly' => ly' = dd_lp sh hd ba bb i ly ∧ ((c = 0 ∧ ly' = ly) ∨ c = 1)) n 0 ly ⟨rfl, Or.inl ⟨rfl, rfl⟩⟩ ?_ ?_
  · intro m c ly' ⟨e, hc⟩
    subst e
    refine br_t (nI_le (Nat.le_refl _) (by omega)) ⟨?_, h c hc⟩
    rcases hc with ⟨rfl, _⟩ | rfl
    · rfl
    · rfl
  · intro m i c ly' hi ⟨e, hc⟩ hn
    have L6 : ∀ r, ly' r < 6 := by
      rw [e]
      exact dd_lp_6 l6 i
    have Lr : ∀ r, ly' r ≤ rk r := by
      rw [e]
      exact dd_lp_ra ra hr i (by omega)
    obtain ⟨h4, hh, ha, hb⟩ := rl i
    have ha6 := L6 (ba i)
    have hb6 := L6 (bb i)
    have h1 := dd_l1_ra ra Lr hi
    have hk5 := ra.1 (hd i)
    have ee : dd_lp sh hd ba bb (i + 1) ly = dd_ls sh hd ba bb ly' i := by
      rw [e]
      rfl
    have key : ∀ v, v = dd_l1 sh ba bb ly' i → wY_raise_74 post (wY_raise_4 post (nI n) m) c (nI i) (nI v) (nI n) (dd_N sh) (dd_N hd) (dd_N ba) (dd_N bb) fa nw bf (dd_N ly') nd := by
      intro v hv
      refine dd_yr74 rl (by omega) L6 (by omega) (fun z => hn c ly' ⟨?_, hc⟩) (fun z => hn 1 _ ⟨?_, Or.inr rfl⟩)
      · rw [ee]
        unfold dd_ls
        rw [if_neg (by omega)]
      · rw [ee]
        unfold dd_ls
        rw [if_pos (by omega), hv]
    refine br_f (nI_ge hi (by omega)) ⟨vp_in_nI (by omega) (by omega), dd_inN ba (by omega) ha (by omega), nm_r (dd_at2 ly' ba (by omega) (by omega)) (dd_yh (by omega) h4 (fun k2 => br_t rfl ?_) fun k2 => br_f (by decide) ⟨vp_in_nI (by omega) (by omega), dd_inN bb (by omega) hb (by omega), vp_in_nI (by omega) (by omega), ?_⟩)⟩
    · have e1 : dd_l1 sh ba bb ly' i = ly' (ba i) := if_neg (by omega)
      unfold wY_raise_63
      exact br_t (nI_pos' (by omega)) (key _ e1.symm)
    · have e1 : dd_l1 sh ba bb ly' i = if ly' (ba i) < dd_l2 sh bb ly' i then dd_l2 sh bb ly' i else ly' (ba i) := if_pos k2
      have key2 : ∀ z : Int32, ∀ w : Nat, z = nI w → w ≤ 1 → dd_l2 sh bb ly' i = ly' (bb i) + w → wY_raise_58 post (wY_raise_4 post (nI n) m) c (nI i) (nI (ly' (ba i))) z (dd_N ly' (dd_N bb (nI i).toNatClampNeg).toNatClampNeg) (nI n) (dd_N sh) (dd_N hd) (dd_N ba) (dd_N bb) fa nw bf (dd_N ly') nd := by
        intro z w hz hw e2
        subst hz
        rw [dd_at2 ly' bb (by omega) (by omega)]
        unfold wY_raise_58 wY_raise_63
        rw [nI_add]
        refine pk_le (ly' (bb i) + w) (ly' (ba i)) (fun z => key _ ?_) (fun z => key _ ?_)
        · exact (e1.trans (if_neg (by omega))).symm
        · exact ((e1.trans (if_pos (by omega))).trans e2).symm
      refine pk_eq (sh i) 4 (fun k4 => key2 1 1 rfl (by omega) ?_) (fun k4 => key2 0 0 rfl (by omega) ?_) (dd_at sh (by omega))
      · unfold dd_l2
        rw [if_pos k4]
      · unfold dd_l2
        rw [if_neg k4]
end
end
section
/-! Y: gives, derive -/
def dd_B (q : Nat → Bool) : Nat → Int32 := fun k => dd_b (q k)
def dd_ub (q : Nat → Bool) (k : Nat) (v : Bool) : Nat → Bool := fun j => if j = k then v else q j
theorem dd_Bu (q : Nat → Bool) (k : Nat) (v : Bool) : upd (dd_B q) k (dd_b v) = dd_B (dd_ub q k v) := by
  funext j
  unfold upd dd_B dd_ub
  by_cases h : j = k
  · rw [if_pos h, if_pos h]
  · rw [if_neg h, if_neg h]
theorem dd_ubs (q : Nat → Bool) (k : Nat) (v : Bool) : dd_ub q k v k = v := if_pos rfl
theorem dd_ubn (q : Nat → Bool) {k j : Nat} {v : Bool} (h : j ≠ k) : dd_ub q k v j = q j := if_neg h
def dd_B6 (q : Nat → Bool) : Prop := ∀ k, 216 ≤ k → q k = false
/-- Y's relation -/
def dd_V (q : Nat → Bool) : dd_R := fun r x y => r < 6 ∧ x < 6 ∧ y < 6 ∧ q (36 * r + 6 * x + y) = true
theorem dd_Vin {q : Nat → Bool} {k a b x y : Nat} (h : dd_G k a b (dd_V q) (dd_V q) x y) : x < 6 ∧ y < 6 := by
  rcases h with ⟨_, h⟩ | ⟨_, h⟩ | ⟨_, z, h1, h2⟩ | ⟨_, h1, _⟩ | ⟨_, h1, _⟩
  · exact ⟨h.2.1, h.2.2.1⟩
  · exact ⟨h.2.2.1, h.2.1⟩
  · exact ⟨h1.2.1, h2.2.2.1⟩
  · exact ⟨h1.2.1, h1.2.2.1⟩
  · exact ⟨h1.2.1, h1.2.2.1⟩
section
variable {fn : Int32} {sh hd ba bb : Nat → Nat} {fa bf la nd : Nat → Int32} {n : Nat}
theorem dd_yg162 {post : Int32 → Prop} {q : Nat → Bool} {x y a b : Nat} (ha : a < 6) (hb : b < 6) (hx : x < 6) (hy : y < 6)
    (h1 : (∃ z, dd_V q a x z ∧ dd_V q b z y) → post 1) (h0 : ¬ (∃ z, dd_V q a x z ∧ dd_V q b z y) → post 0) :
    ∃ m, wY_gives_162 post (nI x) (nI y) (nI (36 * a)) (nI (36 * b)) fn (dd_N sh) (dd_N hd) (dd_N ba) (dd_N bb) fa (dd_B q) bf la nd m 0 := by
  refine loop_0 (fun m z (_ : Unit) => wY_gives_162 post (nI x) (nI y) (nI (36 * a)) (nI (36 * b)) fn (dd_N sh) (dd_N hd) (dd_N ba) (dd_N bb) fa (dd_B q) bf la nd m (nI z))
    (fun z _ => ∀ z', z' < z → ¬ (dd_V q a x z' ∧ dd_V q b z' y)) 6 () (fun z hz => absurd hz (Nat.not_lt_zero _)) ?_ ?_
  · intro m _ hI
    exact br_t (nI_le (a := 6) (by omega) (by omega)) (h0 fun ⟨z, z1, z2⟩ => hI z z1.2.2.1 ⟨z1, z2⟩)
  · intro m z _ hz hI hn
    have e1 : (nI (36 * a) + 6 * nI x) + nI z = nI (36 * a + 6 * x + z) := dd_ix _ _ _
    have e2 : (nI (36 * b) + 6 * nI z) + nI y = nI (36 * b + 6 * z + y) := dd_ix _ _ _
    have nx : ∀ z', z' < z + 1 → (z' = z → ¬ (dd_V q a x z' ∧ dd_V q b z' y)) → ¬ (dd_V q a x z' ∧ dd_V q b z' y) := fun z' hz' h => by
      by_cases e : z' = z
      · exact h e
      · exact hI z' (by omega)
    refine br_f (nI_ge (b := 6) hz (by omega)) ?_
    rw [e1, e2, nI_clamp (n := 36 * a + 6 * x + z) (by omega), nI_clamp (n := 36 * b + 6 * z + y) (by omega)]
    refine ⟨vp_in_nI (by omega) (by omega), br_c (fun w => nm_r (nI_1 z) (hn () fun z' hz' => nx z' hz' fun e => ?_)) (fun w => ⟨vp_in_nI (by omega) (by omega), br_c (fun w2 => nm_r (nI_1 z) (hn () fun z' hz' => nx z' hz' fun e => ?_)) (fun w2 => h1 ⟨z, ?_, ?_⟩)⟩)⟩
    · subst e
      intro v
      have v1 := v.1.2.2.2
      rw [(dd_b0 _).mp w] at v1
      exact absurd v1 (by decide)
    · subst e
      intro v
      have v1 := v.2.2.2.2
      rw [(dd_b0 _).mp w2] at v1
      exact absurd v1 (by decide)
    · refine ⟨ha, hx, hz, ?_⟩
      cases e : q (36 * a + 6 * x + z)
      · exact absurd ((dd_b0 _).mpr e) w
      · rfl
    · refine ⟨hb, hz, hy, ?_⟩
      cases e : q (36 * b + 6 * z + y)
      · exact absurd ((dd_b0 _).mpr e) w2
      · rfl
theorem dd_ygv {post : Int32 → Prop} {q : Nat → Bool} (rl : dd_Rl sh hd ba bb) {i x y : Nat} (hi : i < 9) (hx : x < 6) (hy : y < 6)
    (h1 : dd_G (sh i) (ba i) (bb i) (dd_V q) (dd_V q) x y → post 1) (h0 : ¬ dd_G (sh i) (ba i) (bb i) (dd_V q) (dd_V q) x y → post 0) :
    wpY_gives post (fn, dd_N sh, dd_N hd, dd_N ba, dd_N bb, fa, dd_B q, bf, la, nd) (nI i) (nI x) (nI y) := by
  obtain ⟨h4, hh, ha, hb⟩ := rl i
  have i1 : vp_in (nI i) 9 := vp_in_nI hi (by omega)
  have ea : (36 : Int32) * dd_N ba (nI i).toNatClampNeg = nI (36 * ba i) := by
    rw [dd_at ba (by omega)]
    exact pk_mul 36 (ba i)
  have eb : (36 : Int32) * dd_N bb (nI i).toNatClampNeg = nI (36 * bb i) := by
    rw [dd_at bb (by omega)]
    exact pk_mul 36 (bb i)
  have exy : (6 : Int32) * nI x + nI y = nI (6 * x + y) := dd_ix2 x y
  have e1 : nI (36 * ba i) + nI (6 * x + y) = nI (36 * ba i + 6 * x + y) := dd_ixa _ _ (by omega)
  have e2 : nI (36 * bb i) + nI (6 * x + y) = nI (36 * bb i + 6 * x + y) := dd_ixa _ _ (by omega)
  have e3 : (nI (36 * ba i) + 6 * nI y) + nI x = nI (36 * ba i + 6 * y + x) := dd_ix _ _ _
  unfold wpY_gives
  refine ⟨i1, nm_r ea ⟨i1, nm_r eb (nm_r exy ⟨i1, ?_⟩)⟩⟩
  rw [e1, e2, e3, nI_clamp (n := 36 * ba i + 6 * x + y) (by omega), nI_clamp (n := 36 * bb i + 6 * x + y) (by omega), nI_clamp (n := 36 * ba i + 6 * y + x) (by omega), dd_at sh (by omega)]
  have j1 : vp_in (nI (36 * ba i + 6 * x + y)) 216 := vp_in_nI (by omega) (by omega)
  have j2 : vp_in (nI (36 * bb i + 6 * x + y)) 216 := vp_in_nI (by omega) (by omega)
  have j3 : vp_in (nI (36 * ba i + 6 * y + x)) 216 := vp_in_nI (by omega) (by omega)
  have v0 : ∀ {r x y : Nat}, dd_B q (36 * r + 6 * x + y) = 0 → ¬ dd_V q r x y := fun z v => by
    have v1 := v.2.2.2
    rw [(dd_b0 _).mp z] at v1
    exact absurd v1 (by decide)
  have v1 : ∀ {r x y : Nat}, r < 6 → x < 6 → y < 6 → ¬ dd_B q (36 * r + 6 * x + y) = 0 → dd_V q r x y := fun {r x y} hr hx hy z => ⟨hr, hx, hy, by
    cases e : q (36 * r + 6 * x + y)
    · exact absurd ((dd_b0 _).mpr e) z
    · rfl⟩
  have vv : ∀ {r x y : Nat}, r < 6 → x < 6 → y < 6 → (dd_V q r x y → post 1) → (¬ dd_V q r x y → post 0) → post (dd_B q (36 * r + 6 * x + y)) := fun {r x y} hr hx hy p1 p0 => by
    by_cases z : dd_B q (36 * r + 6 * x + y) = 0
    · rw [z]
      exact p0 (v0 z)
    · have w := v1 hr hx hy z
      have e : dd_B q (36 * r + 6 * x + y) = 1 := (dd_b1 _).mpr w.2.2.2
      rw [e]
      exact p1 w
  refine pk_eq (sh i) 0 (fun k => ⟨j1, dd_bw _, vv ha hx hy (fun z => h1 (Or.inl ⟨k, z⟩)) (fun z => h0 fun w => ?_)⟩) (fun k0 => ⟨i1, pk_eq (sh i) 1 (fun k => ⟨j3, dd_bw _, vv ha hy hx (fun z => h1 (Or.inr (Or.inl ⟨k, z⟩))) (fun z => h0 fun w => ?_)⟩) (fun k1 => ⟨i1, pk_eq (sh i) 3 (fun k => ⟨j1, br_c (fun z => h0 fun w => ?_) (fun z => ⟨j2, br_c (fun z2 => h0 fun w => ?_) (fun z2 => h1 (Or.inr (Or.inr (Or.inr (Or.inl ⟨k, v1 ha hx hy z, v1 hb hx hy z2⟩)))))⟩)⟩) (fun k3 => ⟨i1, pk_eq (sh i) 4 (fun k => ⟨j1, br_c (fun z => h0 fun w => ?_) (fun z => ⟨j2, br_c (fun z2 => h1 (Or.inr (Or.inr (Or.inr (Or.inr ⟨k, v1 ha hx hy z, v0 z2⟩))))) (fun z2 => h0 fun w => ?_)⟩)⟩) (fun k4 => ?_)⟩)⟩)⟩)
  · rcases w with w | w | w | w | w
    · exact z w.2
    · omega
    · omega
    · omega
    · omega
  · rcases w with w | w | w | w | w
    · omega
    · exact z w.2
    · omega
    · omega
    · omega
  · rcases w with w | w | w | w | w
    · omega
    · omega
    · omega
    · exact v0 z w.2.1
    · omega
  · rcases w with w | w | w | w | w
    · omega
    · omega
    · omega
    · exact v0 z2 w.2.2
    · omega
  · rcases w with w | w | w | w | w
    · omega
    · omega
    · omega
    · omega
    · exact v0 z w.2.1
  · rcases w with w | w | w | w | w
    · omega
    · omega
    · omega
    · omega
    · exact w.2.2 (v1 hb hx hy z2)
  · have k : sh i = 2 := by omega
    refine dd_yg162 ha hb hx hy (fun z => h1 (Or.inr (Or.inr (Or.inl ⟨k, z⟩)))) (fun z => h0 fun w => ?_)
    rcases w with w | w | w | w | w
    · omega
    · omega
    · exact z w.2
    · omega
    · omega
end
/-- the layer L of Y derived from q0, on the way at q -/
def dd_Dy (sh hd ba bb : Nat → Nat) (n : Nat) (ly : Nat → Nat) (L : Nat) (F : dd_R) (q0 q : Nat → Bool) : Prop :=
  dd_B6 q ∧ (∀ r, ly r ≠ L → ∀ x y, dd_V q r x y ↔ dd_V q0 r x y) ∧
  ∀ T : dd_R, (∀ r, ly r < L → ∀ x y, T r x y ↔ dd_V q0 r x y) → (∀ r x y, ly r = L → dd_V q0 r x y → T r x y) → dd_Cl sh hd ba bb n ly L F T → ∀ r x y, ly r = L → dd_V q r x y → T r x y
theorem dd_Vput {q : Nat → Bool} {h k : Nat} (hh : h < 6) (hk : k < 36) (r x y : Nat) : dd_V (dd_ub q (36 * h + k) true) r x y ↔ dd_V q r x y ∨ (r = h ∧ x = k / 6 ∧ y = k % 6) := by
  unfold dd_V
  by_cases e : 36 * r + 6 * x + y = 36 * h + k
  · rw [e, dd_ubs]
    constructor
    · intro ⟨a, b, c, _⟩
      exact Or.inr ⟨by omega, by omega, by omega⟩
    · intro z
      rcases z with ⟨a, b, c, _⟩ | ⟨a, b, c⟩
      · exact ⟨a, b, c, rfl⟩
      · exact ⟨by omega, by omega, by omega, rfl⟩
  · rw [dd_ubn q e]
    exact ⟨Or.inl, fun z => z.elim id fun z => absurd (by omega) e⟩
section
variable {sh hd ba bb ly : Nat → Nat} {fa bf nd : Nat → Int32} {n : Nat}
theorem dd_Dy_put {L : Nat} {F : dd_R} {q0 q : Nat → Bool} (st : dd_St sh hd ba bb n ly) (rl : dd_Rl sh hd ba bb) (d : dd_Dy sh hd ba bb n ly L F q0 q) {i k : Nat} (hi : i < n) (hk : k < 36) (e : ly (hd i) = L)
    (h : dd_G (sh i) (ba i) (bb i) (dd_V q) (dd_V q) (k / 6) (k % 6)) : dd_Dy sh hd ba bb n ly L F q0 (dd_ub q (36 * hd i + k) true) := by
  obtain ⟨d0, d1, d2⟩ := d
  have hh := (rl i).2.1
  refine ⟨fun j hj => ?_, fun r hr x y => ?_, fun T t1 t2 t3 r x y e' v => ?_⟩
  · rw [dd_ubn q (by omega)]
    exact d0 j hj
  · rw [dd_Vput hh hk, d1 r hr x y]
    exact ⟨fun z => z.elim id fun z => absurd e (by rw [← z.1]; exact hr), Or.inl⟩
  · rw [dd_Vput hh hk] at v
    have d3 := d2 T t1 t2 t3
    rcases v with v | ⟨rfl, rfl, rfl⟩
    · exact d3 r x y e' v
    · obtain ⟨s1, s2, s3⟩ := st i hi
      have key : ∀ r, ly r ≤ L → ∀ x y, dd_V q r x y → T r x y := by
        intro r hr x y v
        by_cases e' : ly r = L
        · exact d3 r x y e' v
        · exact (t1 r (by omega) x y).mpr ((d1 r e' x y).mp v)
      refine t3.2 i hi e _ _ (dd_G_mono (key _ (by omega)) (fun z _ => key _ (by have := s2 z; omega)) (fun z x y t => ?_) h)
      have s3' := s3 z
      exact (d1 _ (by omega) x y).mpr ((t1 _ (by omega) x y).mp t)
/-- rule i gives nothing new -/
def dd_Ry (sh hd ba bb : Nat → Nat) (i : Nat) (q : Nat → Bool) : Prop := ∀ x y, dd_G (sh i) (ba i) (bb i) (dd_V q) (dd_V q) x y → dd_V q (hd i) x y
theorem dd_Vlt {q : Nat → Bool} {j : Nat} (hj : j < 216) (h : q j = false) : dd_c q 216 < dd_c (dd_ub q j true) 216 := by
  refine dd_c_lt 216 (fun k _ hk => ?_) ⟨j, hj, dd_ubs q j true, h⟩
  by_cases e : k = j
  · subst e
    exact dd_ubs _ _ _
  · rw [dd_ubn q e]
    exact hk
theorem dd_yd15 {post : Int32 → SY → Prop} {J : Int32 → Int32 → (Nat → Int32) → (Nat → Int32) → (Nat → Int32) → (Nat → Int32) → (Nat → Int32) → (Nat → Int32) → (Nat → Int32) → (Nat → Int32) → (Nat → Int32) → Prop} {L i : Nat} {c1 : Int32} {F : dd_R} {q0 q1 : Nat → Bool} (st : dd_St sh hd ba bb n ly) (rl : dd_Rl sh hd ba bb) (l6 : ∀ r, ly r < 6) (hL : L < 6) (h8 : n ≤ 8) (hi : i < n) (d : dd_Dy sh hd ba bb n ly L F q0 q1)
    (h : ∀ c q', dd_Dy sh hd ba bb n ly L F q0 q' → (∀ r x y, dd_V q1 r x y → dd_V q' r x y) → ((c = c1 ∧ q' = q1 ∧ (ly (hd i) = L → dd_Ry sh hd ba bb i q1)) ∨ (c = 1 ∧ dd_c q1 216 < dd_c q' 216)) → J c (nI (i + 1)) (dd_N sh) (dd_N hd) (dd_N ba) (dd_N bb) fa (dd_B q') bf (dd_N ly) nd) :
    ∃ m, wY_derive_15 post J (nI L) (nI i) (nI n) m c1 0 (dd_N sh) (dd_N hd) (dd_N ba) (dd_N bb) fa (dd_B q1) bf (dd_N ly) nd := by
  obtain ⟨h4, hh, ha, hb⟩ := rl i
  have h6 := l6 (hd i)
  refine dd_loop2 (fun m k (c : Int32) (q : Nat → Bool) => wY_derive_15 post J (nI L) (nI i) (nI n) m c (nI k) (dd_N sh) (dd_N hd) (dd_N ba) (dd_N bb) fa (dd_B q) bf (dd_N ly) nd)
    (fun k c q => dd_Dy sh hd ba bb n ly L F q0 q ∧ (∀ r x y, dd_V q1 r x y → dd_V q r x y) ∧ ((c = c1 ∧ q = q1 ∧ (ly (hd i) = L → ∀ k', k' < k → dd_G (sh i) (ba i) (bb i) (dd_V q1) (dd_V q1) (k' / 6) (k' % 6) → dd_V q1 (hd i) (k' / 6) (k' % 6))) ∨ (c = 1 ∧ dd_c q1 216 < dd_c q 216)))
    36 c1 q1 ⟨d, fun _ _ _ z => z, Or.inl ⟨rfl, rfl, fun _ k hk => absurd hk (Nat.not_lt_zero _)⟩⟩ ?_ ?_
  · intro m c q ⟨d', le, hc⟩
    refine br_t (nI_le (a := 36) (by omega) (by omega)) (nm_r (nI_1 i) (h c q d' le ?_))
    rcases hc with ⟨hc, eq, hr⟩ | hc
    · refine Or.inl ⟨hc, eq, fun e x y gv => ?_⟩
      obtain ⟨hx, hy⟩ := dd_Vin gv
      have z := hr e (6 * x + y) (by omega)
      rw [show (6 * x + y) / 6 = x by omega, show (6 * x + y) % 6 = y by omega] at z
      exact z gv
    · exact Or.inr hc
  · intro m k c q hk ⟨d', le, hc⟩ hn
    have e1 : (36 : Int32) * dd_N hd (nI i).toNatClampNeg + nI k = nI (36 * hd i + k) := by
      rw [dd_at hd (by omega)]
      show nI 36 * nI (hd i) + nI k = _
      rw [pk_mul, nI_add]
    have e2 : nI k / 6 = nI (k / 6) := pk_div (d := 6) (by omega) (by omega) (by omega)
    have e3 : nI k - nI (k / 6) * 6 = nI (k % 6) := by
      rw [← e2]
      exact pk_rem (d := 6) (by omega) (by omega) (by omega)
    have i1 : vp_in (nI i) 9 := vp_in_nI (by omega) (by omega)
    have i2 : vp_in (nI (36 * hd i + k)) 216 := vp_in_nI (by omega) (by omega)
    have skip : (ly (hd i) = L → dd_G (sh i) (ba i) (bb i) (dd_V q) (dd_V q) (k / 6) (k % 6) → dd_V q (hd i) (k / 6) (k % 6)) → wY_derive_15 post J (nI L) (nI i) (nI n) m c (nI (k + 1)) (dd_N sh) (dd_N hd) (dd_N ba) (dd_N bb) fa (dd_B q) bf (dd_N ly) nd := by
      intro hz
      refine hn c q ⟨d', le, ?_⟩
      rcases hc with ⟨hc, eq, hr⟩ | hc
      · subst eq
        refine Or.inl ⟨hc, rfl, fun e k' hk' => ?_⟩
        by_cases ek : k' = k
        · subst ek
          exact hz e
        · exact hr e k' (by omega)
      · exact Or.inr hc
    refine br_f (nI_ge (b := 36) hk (by omega)) ⟨i1, nm_r e1 ⟨i1, dd_inN hd (by omega) hh (by omega), pk_eq (ly (hd i)) L (fun e => ⟨i2, ?_⟩) (fun e => nm_r (nI_1 k) (skip fun z => absurd z e)) (dd_at2 ly hd (by omega) (by omega))⟩⟩
    rw [nI_clamp (n := 36 * hd i + k) (by omega), e2, e3]
    refine br_c (fun z => ⟨by decide, by decide, dd_ygv rl (by omega) (by omega) (by omega) (fun gv => br_f (by decide) ⟨i2, nm_r (dd_Bu q _ true) (nm_r (nI_1 k) (hn 1 _ ⟨dd_Dy_put st rl d' hi hk e gv, fun r x y v => (dd_Vput hh hk r x y).mpr (Or.inl (le r x y v)), Or.inr ⟨rfl, ?_⟩⟩))⟩) (fun gv => br_t rfl (nm_r (nI_1 k) (skip fun _ w => absurd w gv)))⟩) (fun z => nm_r (nI_1 k) (skip fun _ _ => ?_))
    · refine Nat.lt_of_le_of_lt ?_ (dd_Vlt (by omega) ((dd_b0 _).mp z))
      rcases hc with ⟨_, eq, _⟩ | ⟨_, hk2⟩
      · rw [eq]
        exact Nat.le_refl _
      · exact Nat.le_of_lt hk2
    · refine ⟨hh, by omega, by omega, ?_⟩
      rw [show 36 * hd i + 6 * (k / 6) + k % 6 = 36 * hd i + k by omega]
      cases e4 : q (36 * hd i + k)
      · exact absurd ((dd_b0 _).mpr e4) z
      · rfl
theorem dd_yderive {post : Int32 → SY → Prop} {L : Nat} {F : dd_R} {q0 q1 : Nat → Bool} (st : dd_St sh hd ba bb n ly) (rl : dd_Rl sh hd ba bb) (l6 : ∀ r, ly r < 6) (hL : L < 6) (h8 : n ≤ 8) (d : dd_Dy sh hd ba bb n ly L F q0 q1)
    (h : ∀ c q', dd_Dy sh hd ba bb n ly L F q0 q' → (∀ r x y, dd_V q1 r x y → dd_V q' r x y) → ((c = 0 ∧ ∀ i, i < n → ly (hd i) = L → dd_Ry sh hd ba bb i q') ∨ (c = 1 ∧ dd_c q1 216 < dd_c q' 216)) → post c (nI n, dd_N sh, dd_N hd, dd_N ba, dd_N bb, fa, dd_B q', bf, dd_N ly, nd)) :
    wpY_derive post (nI n, dd_N sh, dd_N hd, dd_N ba, dd_N bb, fa, dd_B q1, bf, dd_N ly, nd) (nI L) := by
  unfold wpY_derive
  refine dd_loop2 (fun m i (c : Int32) (q : Nat → Bool) => wY_derive_4 post (nI L) (nI n) m c (nI i) (dd_N sh) (dd_N hd) (dd_N ba) (dd_N bb) fa (dd_B q) bf (dd_N ly) nd)
    (fun i c q => dd_Dy sh hd ba bb n ly L F q0 q ∧ (∀ r x y, dd_V q1 r x y → dd_V q r x y) ∧ ((c = 0 ∧ q = q1 ∧ ∀ i', i' < i → ly (hd i') = L → dd_Ry sh hd ba bb i' q1) ∨ (c = 1 ∧ dd_c q1 216 < dd_c q 216)))
    n 0 q1 ⟨d, fun _ _ _ z => z, Or.inl ⟨rfl, rfl, fun i hi => absurd hi (Nat.not_lt_zero _)⟩⟩ ?_ ?_
  · intro m c q ⟨d', le, hc⟩
    refine br_t (nI_le (Nat.le_refl _) (by omega)) ⟨?_, h c q d' le ?_⟩
    · rcases hc with ⟨rfl, _⟩ | ⟨rfl, _⟩
      · rfl
      · rfl
    · rcases hc with ⟨hc, eq, hr⟩ | hc
      · subst eq
        exact Or.inl ⟨hc, hr⟩
      · exact Or.inr hc
  · intro m i c q hi ⟨d', le, hc⟩ hn
    refine br_f (nI_ge hi (by omega)) (dd_yd15 st rl l6 hL h8 hi d' fun c' q' d2 le2 hc2 => hn c' q' ⟨d2, fun r x y v => le2 r x y (le r x y v), ?_⟩)
    rcases hc2 with ⟨hc2, eq2, hr2⟩ | ⟨hc2, hk2⟩
    · subst eq2
      rcases hc with ⟨hc, eq, hr⟩ | ⟨hc, hk⟩
      · subst eq
        refine Or.inl ⟨hc2.trans hc, rfl, fun i' hi' e' => ?_⟩
        by_cases ei : i' = i
        · subst ei
          exact hr2 e'
        · exact hr i' (by omega) e'
      · exact Or.inr ⟨hc2.trans hc, hk⟩
    · refine Or.inr ⟨hc2, Nat.lt_of_le_of_lt ?_ hk2⟩
      rcases hc with ⟨_, eq, _⟩ | ⟨_, hk⟩
      · rw [eq]
        exact Nat.le_refl _
      · exact Nat.le_of_lt hk
end
end
section
/-! Y: settle -/
section
variable {sh hd ba bb : Nat → Nat} {nd : Nat → Int32} {n : Nat}
theorem dd_ys97 {post : SY → Prop} {J : Int32 → Int32 → (Nat → Int32) → (Nat → Int32) → (Nat → Int32) → (Nat → Int32) → (Nat → Int32) → (Nat → Int32) → (Nat → Int32) → (Nat → Int32) → (Nat → Int32) → Prop} {ly : Nat → Nat} {fa bf : Nat → Int32} {L : Nat} {F : dd_R} {q0 : Nat → Bool} (st : dd_St sh hd ba bb n ly) (rl : dd_Rl sh hd ba bb) (l6 : ∀ r, ly r < 6) (hL : L < 6) (h8 : n ≤ 8) (b6 : dd_B6 q0) (hf : ∀ r x y, ly r = L → F r x y → dd_V q0 r x y)
    (h : ∀ q', dd_B6 q' → dd_De sh hd ba bb n ly L F (dd_V q0) (dd_V q') → J (nI (L + 1)) (nI n) (dd_N sh) (dd_N hd) (dd_N ba) (dd_N bb) fa (dd_B q') bf (dd_N ly) nd) :
    ∃ m, wY_settle_97 post J (nI L) m 1 0 (nI n) (dd_N sh) (dd_N hd) (dd_N ba) (dd_N bb) fa (dd_B q0) bf (dd_N ly) nd := by
  have fin : ∀ q', dd_Dy sh hd ba bb n ly L F q0 q' → (∀ r x y, dd_V q0 r x y → dd_V q' r x y) → (∀ i, i < n → ly (hd i) = L → dd_Ry sh hd ba bb i q') → J (nI (L + 1)) (nI n) (dd_N sh) (dd_N hd) (dd_N ba) (dd_N bb) fa (dd_B q') bf (dd_N ly) nd :=
    fun q' d le hr => h q' d.1 ⟨d.2.1, ⟨fun r x y e f => le r x y (hf r x y e f), hr⟩, d.2.2⟩
  refine dd_loop2 (fun m k (c : Int32) (q : Nat → Bool) => wY_settle_97 post J (nI L) m c (nI k) (nI n) (dd_N sh) (dd_N hd) (dd_N ba) (dd_N bb) fa (dd_B q) bf (dd_N ly) nd)
    (fun k c q => dd_Dy sh hd ba bb n ly L F q0 q ∧ (∀ r x y, dd_V q0 r x y → dd_V q r x y) ∧ ((c = 0 ∧ ∀ i, i < n → ly (hd i) = L → dd_Ry sh hd ba bb i q) ∨ (c = 1 ∧ k ≤ dd_c q 216)))
    217 1 q0 ⟨⟨b6, fun _ _ _ _ => Iff.rfl, fun _ _ t _ => t⟩, fun _ _ _ z => z, Or.inr ⟨rfl, Nat.zero_le _⟩⟩ ?_ ?_
  · intro m c q ⟨d, le, hc⟩
    refine br_t (nI_le (a := 217) (by omega) (by omega)) (nm_r (nI_1 L) (fin q d le ?_))
    rcases hc with ⟨_, hr⟩ | ⟨_, hk⟩
    · exact hr
    · have := dd_c_le q 216
      omega
  · intro m k c q hk ⟨d, le, hc⟩ hn
    refine br_f (nI_ge (b := 217) hk (by omega)) ?_
    rcases hc with ⟨hc, hr⟩ | ⟨hc, hk2⟩
    · exact br_t hc (nm_r (nI_1 L) (fin q d le hr))
    · subst hc
      refine br_f (by decide) (dd_yderive st rl l6 hL h8 d fun c' q' d2 le2 hc2 => nm_r (nI_1 k) (hn c' q' ⟨d2, fun r x y v => le2 r x y (le r x y v), ?_⟩))
      rcases hc2 with ⟨hc2, hr⟩ | ⟨hc2, hk3⟩
      · exact Or.inl ⟨hc2, hr⟩
      · exact Or.inr ⟨hc2, by omega⟩
theorem dd_ys87 {post : SY → Prop} {ly : Nat → Nat} {bf : Nat → Int32} {qf : Nat → Bool} (st : dd_St sh hd ba bb n ly) (rl : dd_Rl sh hd ba bb) (l6 : ∀ r, ly r < 6) (h8 : n ≤ 8) (b6 : dd_B6 qf)
    (h : ∀ q', dd_B6 q' → dd_Mod sh hd ba bb n ly (dd_V qf) (dd_V q') → post (nI n, dd_N sh, dd_N hd, dd_N ba, dd_N bb, dd_B qf, dd_B q', bf, dd_N ly, nd)) :
    ∃ m, wY_settle_87 post m 0 (nI n) (dd_N sh) (dd_N hd) (dd_N ba) (dd_N bb) (dd_B qf) (dd_B qf) bf (dd_N ly) nd := by
  refine loop_0 (fun m L (q : Nat → Bool) => wY_settle_87 post m (nI L) (nI n) (dd_N sh) (dd_N hd) (dd_N ba) (dd_N bb) (dd_B qf) (dd_B q) bf (dd_N ly) nd)
    (fun L q => dd_B6 q ∧ dd_An sh hd ba bb n ly L (dd_V qf) (dd_V q) ∧ ∀ r x y, L ≤ ly r → dd_V qf r x y → dd_V q r x y)
    6 qf ⟨b6, ⟨fun L' hL' => absurd hL' (Nat.not_lt_zero _), fun _ _ _ _ z => z⟩, fun _ _ _ _ z => z⟩ ?_ ?_
  · intro m q ⟨d, a, f⟩
    exact br_t (nI_le (a := 6) (by omega) (by omega)) (h q d a.1)
  · intro m L q hL ⟨d, a, f⟩ hn
    exact br_f (nI_ge (b := 6) hL (by omega)) (dd_ys97 st rl l6 hL h8 d (fun r x y e => f r x y (by omega)) fun q' d2 de => hn q' ⟨d2, dd_An_step st a de, fun r x y e z => (de.1 r (by omega) x y).mpr (f r x y (by omega) z)⟩)
theorem dd_ysettle {post : SY → Prop} {la : Nat → Int32} {qf qn qb : Nat → Bool} {rk : Nat → Nat} (rl : dd_Rl sh hd ba bb) (ra : dd_Ra sh hd ba bb n rk) (h8 : n ≤ 8) (bf6 : dd_B6 qf) (bn6 : dd_B6 qn) (bb6 : dd_B6 qb) (hz : ∀ j, 6 ≤ j → la j = 0)
    (h : ∀ q', dd_B6 q' → dd_Mod sh hd ba bb n (dd_LY sh hd ba bb n) (dd_V qf) (dd_V q') → post (nI n, dd_N sh, dd_N hd, dd_N ba, dd_N bb, dd_B qf, dd_B q', dd_B qn, dd_N (dd_LY sh hd ba bb n), nd)) :
    wpY_settle post (nI n, dd_N sh, dd_N hd, dd_N ba, dd_N bb, dd_B qf, dd_B qn, dd_B qb, la, nd) := by
  have st := dd_LY_St rl ra
  unfold wpY_settle
  refine loop_0 (fun m k (_ : Unit) => wY_settle_2 post (nI n) m (nI k) (dd_N sh) (dd_N hd) (dd_N ba) (dd_N bb) (dd_B qf) (dd_B fun j => if j < k then qf j else qn j) (dd_B fun j => if j < k then qn j else qb j) la nd) (fun _ _ => True) 216 () trivial ?_ ?_
  · intro m _ _
    have e1 : (fun j => if j < 216 then qf j else qn j) = qf := by
      funext j
      by_cases hj : j < 216
      · rw [if_pos hj]
      · rw [if_neg hj, bf6 j (by omega), bn6 j (by omega)]
    have e2 : (fun j => if j < 216 then qn j else qb j) = qn := by
      funext j
      by_cases hj : j < 216
      · rw [if_pos hj]
      · rw [if_neg hj, bb6 j (by omega), bn6 j (by omega)]
    show wY_settle_2 post (nI n) (m + 1) (nI 216) (dd_N sh) (dd_N hd) (dd_N ba) (dd_N bb) (dd_B qf) (dd_B fun j => if j < 216 then qf j else qn j) (dd_B fun j => if j < 216 then qn j else qb j) la nd
    rw [e1, e2]
    refine br_t (nI_le (a := 216) (by omega) (by omega)) ?_
    refine loop_0 (fun m r (la' : Nat → Int32) => wY_settle_41 post (nI n) m (nI r) (dd_N sh) (dd_N hd) (dd_N ba) (dd_N bb) (dd_B qf) (dd_B qf) (dd_B qn) la' nd)
      (fun r la' => (∀ j, j < r → la' j = 0) ∧ ∀ j, 6 ≤ j → la' j = 0) 6 la ⟨fun j hj => absurd hj (Nat.not_lt_zero _), hz⟩ ?_ ?_
    · intro m la' ⟨z1, z2⟩
      have e : la' = dd_N (fun _ => 0) := dd_z6 z1 z2
      subst e
      refine br_t (nI_le (a := 6) (by omega) (by omega)) ?_
      refine dd_loop2 (fun m k (c : Int32) (ly : Nat → Nat) => wY_settle_64 post m c (nI k) (nI n) (dd_N sh) (dd_N hd) (dd_N ba) (dd_N bb) (dd_B qf) (dd_B qf) (dd_B qn) (dd_N ly) nd)
        (fun k c ly => ly = dd_li sh hd ba bb n k ∧ ((c = 0 ∧ ly = dd_LY sh hd ba bb n) ∨ c = 1)) 37 1 (fun _ => 0) ⟨rfl, Or.inr rfl⟩ ?_ ?_
      · intro m c ly ⟨e, hc⟩
        have e3 : ly = dd_LY sh hd ba bb n := e.trans (dd_LY_fix rl n)
        subst e3
        exact br_t (nI_le (a := 37) (by omega) (by omega)) (dd_ys87 st rl (dd_LY_6 n) h8 bf6 h)
      · intro m k c ly hk ⟨e, hc⟩ hn
        refine br_f (nI_ge (b := 37) hk (by omega)) ?_
        rcases hc with ⟨hc, e2⟩ | hc
        · rw [e2]
          exact br_t hc (dd_ys87 st rl (dd_LY_6 n) h8 bf6 h)
        · subst hc
          refine br_f (by decide) (dd_yraise rl h8 (by rw [e]; exact dd_li_6 n k) ra (by rw [e]; exact dd_li_ra ra k) fun c' hc' => nm_r (nI_1 k) (hn c' _ ⟨by rw [e]; rfl, ?_⟩))
          rcases hc' with ⟨hc', e4⟩ | hc'
          · refine Or.inl ⟨hc', ?_⟩
            rw [e] at e4 ⊢
            exact dd_LY_of n (by omega) e4
          · exact Or.inr hc'
    · intro m r la' hr ⟨z1, z2⟩ hn
      refine br_f (nI_ge (b := 6) hr (by omega)) ⟨vp_in_nI hr (by omega), nm_e (nm_r (nI_1 r) (hn _ ?_))⟩
      rw [nI_clamp (by omega)]
      refine ⟨fun j hj => ?_, fun j hj => ?_⟩
      · by_cases e : j = r
        · subst e
          exact pk_us
        · rw [pk_un e]
          exact z1 j (by omega)
      · rw [pk_un (by omega)]
        exact z2 j hj
  · intro m k _ hk _ hn
    have i1 : vp_in (nI k) 216 := vp_in_nI hk (by omega)
    refine br_f (nI_ge (b := 216) hk (by omega)) ?_
    rw [nI_clamp (n := k) (by omega)]
    have e1 : upd (dd_B fun j => if j < k then qn j else qb j) k (vp_nar .boolean (dd_B (fun j => if j < k then qf j else qn j) k)) = dd_B fun j => if j < k + 1 then qn j else qb j := by
      have e2 : dd_B (fun j => if j < k then qf j else qn j) k = dd_b (qn k) := by
        show dd_b (if k < k then qf k else qn k) = _
        rw [if_neg (Nat.lt_irrefl _)]
      rw [e2, dd_bn, dd_Bu]
      congr 1
      funext j
      unfold dd_ub
      by_cases e : j = k
      · subst e
        rw [if_pos rfl, if_pos (by omega)]
      · rw [if_neg e]
        dsimp only
        by_cases h2 : j < k
        · rw [if_pos h2, if_pos (by omega)]
        · rw [if_neg h2, if_neg (by omega)]
    have e3 : upd (dd_B fun j => if j < k then qf j else qn j) k (vp_nar .boolean (dd_B qf k)) = dd_B fun j => if j < k + 1 then qf j else qn j := by
      show upd (dd_B fun j => if j < k then qf j else qn j) k (vp_nar .boolean (dd_b (qf k))) = _
      rw [dd_bn, dd_Bu]
      congr 1
      funext j
      unfold dd_ub
      by_cases e : j = k
      · subst e
        rw [if_pos rfl, if_pos (by omega)]
      · rw [if_neg e]
        dsimp only
        by_cases h2 : j < k
        · rw [if_pos h2, if_pos (by omega)]
        · rw [if_neg h2, if_neg (by omega)]
    exact ⟨i1, i1, nm_r e1 ⟨i1, i1, nm_r e3 (nm_r (nI_1 k) (hn () trivial))⟩⟩
end
end
section
/-! the relation -/
def dd_q (s : Nat → Int32) (f : Nat) : Nat → Bool := fun k => decide (k < 216) && bt (s (f + k / 6)) (k % 6)
theorem dd_q6 (s : Nat → Int32) (f : Nat) : dd_B6 (dd_q s f) := fun k hk => by
  unfold dd_q
  rw [decide_eq_false (by omega)]
  rfl
theorem dd_qlt (s : Nat → Int32) (f : Nat) {k : Nat} (hk : k < 216) : dd_q s f k = bt (s (f + k / 6)) (k % 6) := by
  unfold dd_q
  rw [decide_eq_true hk]
  rfl
theorem dd_qrxy (s : Nat → Int32) (f : Nat) {r x y : Nat} (hr : r < 6) (hx : x < 6) (hy : y < 6) : dd_q s f (36 * r + 6 * x + y) = bt (s (f + 6 * r + x)) y := by
  rw [dd_qlt s f (by omega), show (36 * r + 6 * x + y) / 6 = 6 * r + x by omega, show (36 * r + 6 * x + y) % 6 = y by omega, Nat.add_assoc]
theorem dd_VQ (s : Nat → Int32) (f : Nat) : dd_V (dd_q s f) = dd_Q s f := by
  funext r x y
  refine propext ⟨fun z => ⟨z.1, z.2.1, z.2.2.1, ?_⟩, fun z => ⟨z.1, z.2.1, z.2.2.1, ?_⟩⟩
  · rw [← dd_qrxy s f z.1 z.2.1 z.2.2.1]
    exact z.2.2.2
  · rw [dd_qrxy s f z.1 z.2.1 z.2.2.1]
    exact z.2.2.2
theorem dd_qeq {q q' : Nat → Bool} (h1 : dd_B6 q) (h2 : dd_B6 q') (h : ∀ r x y, dd_V q r x y ↔ dd_V q' r x y) : q = q' := by
  funext k
  rcases Nat.lt_or_ge k 216 with hk | hk
  · have e : 36 * (k / 36) + 6 * (k % 36 / 6) + k % 6 = k := by omega
    have z := h (k / 36) (k % 36 / 6) (k % 6)
    unfold dd_V at z
    rw [e] at z
    cases e1 : q k <;> cases e2 : q' k
    · rfl
    · exact (e1.symm.trans (z.mpr ⟨by omega, by omega, by omega, e2⟩).2.2.2)
    · exact ((z.mp ⟨by omega, by omega, by omega, e1⟩).2.2.2.symm.trans e2)
    · rfl
  · rw [h1 k hk, h2 k hk]
theorem dd_qsame {s s' : Nat → Int32} {f f' : Nat} (h : ∀ j, j < 36 → s' (f' + j) = s (f + j)) : dd_q s' f' = dd_q s f := by
  funext k
  unfold dd_q
  rcases Nat.lt_or_ge k 216 with hk | hk
  · rw [h (k / 6) (by omega)]
  · rw [decide_eq_false (by omega)]
    rfl
theorem dd_ND_z {sh hd ba bb : Nat → Nat} (rl : dd_Rl sh hd ba bb) (n : Nat) : ∀ j, 6 ≤ j → dd_ND sh hd ba bb n j = 0 := by
  have h1 : ∀ n j, 6 ≤ j → dd_nd sh hd ba bb n j = 0 := by
    intro n
    induction n with
    | zero => exact fun j _ => rfl
    | succ n ih =>
      intro j hj
      show dd_n1 sh hd ba bb (dd_nd sh hd ba bb n) n j = 0
      unfold dd_n1
      rw [pk_un (by have := (rl n).2.1; omega)]
      exact ih j hj
  have h2 : ∀ (m : Nat) (w : Nat → Int32), (∀ j, 6 ≤ j → w j = 0) → ∀ r, r ≤ 6 → ∀ j, 6 ≤ j → dd_wr m w r j = 0 := by
    intro m w hw r
    induction r with
    | zero => exact fun _ => hw
    | succ r ih =>
      intro hr j hj
      show dd_w1 m (dd_wr m w r) r j = 0
      unfold dd_w1
      split
      · rw [pk_un (by omega)]
        exact ih (by omega) j hj
      · exact ih (by omega) j hj
  have h3 : ∀ k j, 6 ≤ j → dd_wm (dd_nd sh hd ba bb n) k j = 0 := by
    intro k
    induction k with
    | zero => exact h1 n
    | succ k ih => exact h2 k _ ih 6 (Nat.le_refl _)
  exact h3 6
/-- the rules below n are the same -/
def dd_Eq (n : Nat) (sh hd ba bb sh' hd' ba' bb' : Nat → Nat) : Prop := ∀ i, i < n → sh' i = sh i ∧ hd' i = hd i ∧ ba' i = ba i ∧ bb' i = bb i
section
variable {sh hd ba bb sh' hd' ba' bb' : Nat → Nat}
theorem dd_lp_eq (ly : Nat → Nat) : ∀ n, dd_Eq n sh hd ba bb sh' hd' ba' bb' → dd_lp sh' hd' ba' bb' n ly = dd_lp sh hd ba bb n ly := by
  intro n
  induction n with
  | zero => exact fun _ => rfl
  | succ n ih =>
    intro h
    have e := ih fun i hi => h i (by omega)
    obtain ⟨e1, e2, e3, e4⟩ := h n (by omega)
    show dd_ls sh' hd' ba' bb' (dd_lp sh' hd' ba' bb' n ly) n = dd_ls sh hd ba bb (dd_lp sh hd ba bb n ly) n
    rw [e]
    unfold dd_ls dd_l1 dd_l2
    rw [e1, e2, e3, e4]
theorem dd_LY_eq {n : Nat} (h : dd_Eq n sh hd ba bb sh' hd' ba' bb') : dd_LY sh' hd' ba' bb' n = dd_LY sh hd ba bb n := by
  have k : ∀ k, dd_li sh' hd' ba' bb' n k = dd_li sh hd ba bb n k := by
    intro k
    induction k with
    | zero => rfl
    | succ k ih =>
      show dd_lp sh' hd' ba' bb' n (dd_li sh' hd' ba' bb' n k) = dd_lp sh hd ba bb n (dd_li sh hd ba bb n k)
      rw [ih, dd_lp_eq _ n h]
  exact k 36
theorem dd_Ra_eq {n : Nat} {rk : Nat → Nat} (h : dd_Eq n sh hd ba bb sh' hd' ba' bb') (ra : dd_Ra sh hd ba bb n rk) : dd_Ra sh' hd' ba' bb' n rk :=
  ⟨ra.1, fun i hi => by
    obtain ⟨e1, e2, e3, e4⟩ := h i hi
    rw [e1, e2, e3, e4]
    exact ra.2 i hi⟩
theorem dd_Cl_eq {n : Nat} {ly : Nat → Nat} (h : dd_Eq n sh hd ba bb sh' hd' ba' bb') (L : Nat) (F T : dd_R) : dd_Cl sh' hd' ba' bb' n ly L F T ↔ dd_Cl sh hd ba bb n ly L F T := by
  constructor
  · intro c
    refine ⟨c.1, fun i hi => ?_⟩
    obtain ⟨e1, e2, e3, e4⟩ := h i hi
    have z := c.2 i hi
    rw [e1, e2, e3, e4] at z
    exact z
  · intro c
    refine ⟨c.1, fun i hi => ?_⟩
    obtain ⟨e1, e2, e3, e4⟩ := h i hi
    rw [e1, e2, e3, e4]
    exact c.2 i hi
theorem dd_Mod_eq {n : Nat} {ly : Nat → Nat} (h : dd_Eq n sh hd ba bb sh' hd' ba' bb') {F M : dd_R} (m : dd_Mod sh hd ba bb n ly F M) : dd_Mod sh' hd' ba' bb' n ly F M := fun L hL => by
  obtain ⟨m1, m2⟩ := m L hL
  exact ⟨(dd_Cl_eq h L F M).mpr m1, fun T hT cT => m2 T hT ((dd_Cl_eq h L F T).mp cT)⟩
end
/-- the relation's facts -/
def dd_I (n : Nat) (sh hd ba bb : Nat → Nat) (g l : Int32) (nd s yl yn : Nat → Int32) (qb : Nat → Bool) (rk : Nat → Nat) : Prop :=
  n ≤ 8 ∧ dd_Rl sh hd ba bb ∧ dd_Ra sh hd ba bb n rk ∧ (∀ j, 6 ≤ j → nd j = 0) ∧ (∀ j, 6 ≤ j → yl j = 0) ∧ (∀ j, 6 ≤ j → yn j = 0) ∧ dd_A6 s ∧ dd_B6 qb ∧
  dd_Mod sh hd ba bb n (dd_LY sh hd ba bb n) (dd_Q s 0) (dd_Q s 36) ∧ g = nI (dd_c (fun k => dd_q s 36 k && !qb k) 216) ∧ l = nI (dd_c (fun k => qb k && !dd_q s 36 k) 216)
/-- the relation at the head of a turn -/
def i_Rel (_ : Nat) (u : SX) (v : SY) : Prop :=
  ∃ (n : Nat) (sh hd ba bb : Nat → Nat) (g l : Int32) (nd s yl yn : Nat → Int32) (qb : Nat → Bool) (rk : Nat → Nat),
    u = (nI n, g, l, dd_N sh, dd_N hd, dd_N ba, dd_N bb, nd, dd_N (dd_LY sh hd ba bb n), s) ∧
    v = (nI n, dd_N sh, dd_N hd, dd_N ba, dd_N bb, dd_B (dd_q s 0), dd_B (dd_q s 36), dd_B qb, yl, yn) ∧ dd_I n sh hd ba bb g l nd s yl yn qb rk
theorem i_up {k : Nat} {u : SX} {v : SY} (h : i_Rel k u v) : i_Rel (k + 4) u v := h
theorem dd_c_z {p : Nat → Bool} : ∀ n, (∀ k, k < n → p k = false) → dd_c p n = 0 := by
  intro n
  induction n with
  | zero => exact fun _ => rfl
  | succ n ih =>
    intro h
    show dd_c p n + (if p n = true then 1 else 0) = 0
    rw [ih fun k hk => h k (by omega), h n (by omega)]
    rfl
theorem dd_q0 (f k : Nat) : dd_q (fun _ => 0) f k = false := by
  unfold dd_q
  rw [b_0, Bool.and_false]
theorem i_vc0 : wpX_init (fun u => wpY_init (fun v => i_Rel 0 u v)) := by
  have eq : ∀ f, dd_B (dd_q (fun _ => 0) f) = fun _ => 0 := fun f => by
    funext k
    show dd_b (dd_q (fun _ => 0) f k) = 0
    rw [dd_q0]
    rfl
  have el : dd_LY (fun _ => 0) (fun _ => 0) (fun _ => 0) (fun _ => 0) 0 = fun _ => 0 := by
    have k : ∀ k, dd_li (fun _ => 0) (fun _ => 0) (fun _ => 0) (fun _ => 0) 0 k = fun _ => 0 := by
      intro k
      induction k with
      | zero => rfl
      | succ k ih => exact ih
    exact k 36
  have nq : ∀ f r x y, ¬ dd_Q (fun _ => 0) f r x y := fun f r x y z => by
    have z3 := z.2.2.2
    rw [b_0] at z3
    exact absurd z3 (by decide)
  unfold wpX_init wpY_init
  refine ⟨0, fun _ => 0, fun _ => 0, fun _ => 0, fun _ => 0, 0, 0, fun _ => 0, fun _ => 0, fun _ => 0, fun _ => 0, fun _ => false, fun _ => 0, ?_, ?_, ?_⟩
  · rw [el]
    rfl
  · rw [eq 0, eq 36]
    rfl
  · refine ⟨by omega, fun i => ⟨Nat.zero_le _, Nat.succ_pos _, Nat.succ_pos _, Nat.succ_pos _⟩, ⟨fun r => Nat.zero_le _, fun i hi => absurd hi (Nat.not_lt_zero _)⟩, fun _ _ => rfl, fun _ _ => rfl, fun _ _ => rfl, fun _ _ => dd_S0, fun _ _ => rfl, fun L hL => ⟨⟨fun r x y _ z => absurd z (nq 0 r x y), fun i hi => absurd hi (Nat.not_lt_zero _)⟩, fun T _ _ r x y _ z => absurd z (nq 36 r x y)⟩, ?_, ?_⟩
    · exact (congrArg nI (dd_c_z (p := fun k => dd_q (fun _ => 0) 36 k && !false) 216 fun k _ => by rw [dd_q0]; rfl)).symm
    · exact (congrArg nI (dd_c_z (p := fun k => false && !dd_q (fun _ => 0) 36 k) 216 fun k _ => rfl)).symm
/-- both sides have worked out anew -/
theorem dd_fin {k n : Nat} {sh hd ba bb rk : Nat → Nat} {nd s s' yl yn : Nat → Int32} {qf q' : Nat → Bool} (h8 : n ≤ 8) (rl : dd_Rl sh hd ba bb) (ra : dd_Ra sh hd ba bb n rk) (hnd : ∀ j, 6 ≤ j → nd j = 0) (hyl : ∀ j, 6 ≤ j → yl j = 0) (hyn : ∀ j, 6 ≤ j → yn j = 0)
    (hq : qf = dd_q s 0) (a1 : ∀ j, j < 36 → s' j = s j) (a2 : dd_A6 s') (a3 : ∀ j, j < 36 → s' (72 + j) = s (36 + j)) (m : dd_Mod sh hd ba bb n (dd_LY sh hd ba bb n) (dd_Q s 0) (dd_Q s' 36))
    (b1 : dd_B6 q') (b2 : dd_Mod sh hd ba bb n (dd_LY sh hd ba bb n) (dd_V qf) (dd_V q')) :
    i_Rel k (nI n, nI (dd_c (dd_dq s' 36 72) 216), nI (dd_c (dd_dq s' 72 36) 216), dd_N sh, dd_N hd, dd_N ba, dd_N bb, nd, dd_N (dd_LY sh hd ba bb n), s')
      (nI n, dd_N sh, dd_N hd, dd_N ba, dd_N bb, dd_B qf, dd_B q', dd_B (dd_q s 36), yl, yn) := by
  have e0 : dd_q s' 0 = dd_q s 0 := dd_qsame fun j hj => by rw [Nat.zero_add]; exact a1 j hj
  have e72 : dd_q s' 72 = dd_q s 36 := dd_qsame a3
  have eQ : dd_Q s' 0 = dd_Q s 0 := dd_Qf fun j hj => by rw [Nat.zero_add]; exact a1 j hj
  rw [hq, dd_VQ] at b2
  have eq : q' = dd_q s' 36 := dd_qeq b1 (dd_q6 _ _) fun r x y => by
    rw [dd_VQ]
    exact dd_uniq (dd_LY_6 n) b2 m r x y
  refine ⟨n, sh, hd, ba, bb, _, _, nd, s', yl, yn, dd_q s 36, rk, rfl, ?_, h8, rl, ra, hnd, hyl, hyn, a2, dd_q6 _ _, by rw [eQ]; exact m, ?_, ?_⟩
  · rw [hq, e0, eq]
  · refine congrArg nI (dd_c_eq 216 fun k hk => ?_)
    rw [← e72, dd_qlt _ _ hk, dd_qlt _ _ hk]
    rfl
  · refine congrArg nI (dd_c_eq 216 fun k hk => ?_)
    rw [← e72, dd_qlt _ _ hk, dd_qlt _ _ hk]
    rfl
end
section
/-! the methods that only read -/
def dd_Nm (p : Int32) : Prop := ∃ j, j < 6 ∧ p = nI j
theorem dd_Nm_of {p : Int32} (h0 : ¬ p < 0) (h5 : ¬ 5 < p) : dd_Nm p := by
  obtain ⟨j, hj, rfl⟩ := nI_of h0
  refine ⟨j, ?_, rfl⟩
  rcases Nat.lt_or_ge j 6 with h | h
  · exact h
  · exact absurd (nI_lt (a := 5) (b := j) (by omega) hj) h5
theorem dd_xnum {post : Int32 → Prop} {u : SX} {p : Int32} (hb : ¬ dd_Nm p → post 0) (hg : dd_Nm p → post 1) : wpX_isNumber post u p := by
  obtain ⟨u1, u2, u3, u4, u5, u6, u7, u8, u9, u10⟩ := u
  unfold wpX_isNumber
  refine br_c (fun h => hb fun ⟨j, hj, e⟩ => ?_) fun h => br_c (fun h2 => hb fun ⟨j, hj, e⟩ => ?_) fun h2 => hg (dd_Nm_of h h2)
  · subst e
    exact nI_pos (by omega) h
  · subst e
    exact nI_nlt (a := 5) (b := j) (by omega) (by omega) h2
theorem dd_ynum {post : Int32 → Prop} {u : SY} {p : Int32} (hb : ¬ dd_Nm p → post 0) (hg : dd_Nm p → post 1) : wpY_isNumber post u p := by
  obtain ⟨u1, u2, u3, u4, u5, u6, u7, u8, u9, u10⟩ := u
  unfold wpY_isNumber
  refine br_c (fun h => hb fun ⟨j, hj, e⟩ => ?_) fun h => br_c (fun h2 => hb fun ⟨j, hj, e⟩ => ?_) fun h2 => hg (dd_Nm_of h h2)
  · subst e
    exact nI_pos (by omega) h
  · subst e
    exact nI_nlt (a := 5) (b := j) (by omega) (by omega) h2
theorem dd_x1 {Bad Good : Prop} {u : SX} {p0 : Int32} (hb : ¬ dd_Nm p0 → Bad) (hg : dd_Nm p0 → Good) : wpX_isNumber (fun r => (r = 0 → Bad) ∧ (¬ r = 0 → Good)) u p0 :=
  dd_xnum (fun z => br_t rfl (hb z)) (fun z => br_f (by decide) (hg z))
theorem dd_y1 {Bad Good : Prop} {u : SY} {p0 : Int32} (hb : ¬ dd_Nm p0 → Bad) (hg : dd_Nm p0 → Good) : wpY_isNumber (fun r => (r = 0 → Bad) ∧ (¬ r = 0 → Good)) u p0 :=
  dd_ynum (fun z => br_t rfl (hb z)) (fun z => br_f (by decide) (hg z))
theorem dd_y3 {Bad Good : Prop} {u : SY} {p0 p1 p2 : Int32} (hb : ¬ (dd_Nm p0 ∧ dd_Nm p1 ∧ dd_Nm p2) → Bad) (hg : dd_Nm p0 → dd_Nm p1 → dd_Nm p2 → Good) : wpY_isTriple (fun r => (r = 0 → Bad) ∧ (¬ r = 0 → Good)) u p0 p1 p2 := by
  obtain ⟨u1, u2, u3, u4, u5, u6, u7, u8, u9, u10⟩ := u
  unfold wpY_isTriple
  refine dd_y1 (fun z => br_t rfl (hb fun w => z w.1)) fun z0 => dd_y1 (fun z => br_t rfl (hb fun w => z w.2.1)) fun z1 => dd_y1 (fun z => br_t rfl (hb fun w => z w.2.2)) fun z2 => br_f (by decide) (hg z0 z1 z2)
theorem dd_bb {post : Int32 → Prop} {x : Int32} {y : Nat} (hy : y < 32) (h : post (dd_b (bt x y))) : ((((x >>> (nI y &&& 31)) &&& 1) = 0 → post 0) ∧ (¬ ((x >>> (nI y &&& 31)) &&& 1) = 0 → post 1)) := by
  rw [dd_rd0 x hy]
  cases e : bt x y
  · rw [e] at h
    exact br_t rfl h
  · rw [e] at h
    exact br_f (by decide) h
theorem dd_bv {post : Int32 → Prop} {b : Bool} (h : post (dd_b b)) : (dd_b b = 0 → post 0) ∧ (¬ dd_b b = 0 → post 1) := by
  cases b
  · exact br_t rfl h
  · exact br_f (by decide) h
theorem dd_ix3 (r x y : Nat) : ((36 : Int32) * nI r + 6 * nI x) + nI y = nI (36 * r + 6 * x + y) := by
  show (nI 36 * nI r + nI 6 * nI x) + nI y = _
  rw [pk_mul, pk_mul, nI_add, nI_add]
section
variable {rc g l fn : Int32} {ah ag aa ab nd la s fa nw bf yl yn : Nat → Int32}
theorem dd_xholds {post : Int32 → Prop} {p0 p1 p2 : Int32} (hb : ¬ (dd_Nm p0 ∧ dd_Nm p1 ∧ dd_Nm p2) → post 0) (hg : ∀ r x y, r < 6 → x < 6 → y < 6 → p0 = nI r → p1 = nI x → p2 = nI y → post (dd_b (dd_q s 36 (36 * r + 6 * x + y)))) : wpX_holds post (rc, g, l, ah, ag, aa, ab, nd, la, s) p0 p1 p2 := by
  unfold wpX_holds
  refine dd_x1 (fun z => hb fun w => z w.1) fun ⟨r, hr, e0⟩ => dd_x1 (fun z => hb fun w => z w.2.1) fun ⟨x, hx, e1⟩ => dd_x1 (fun z => hb fun w => z w.2.2) fun ⟨y, hy, e2⟩ => ?_
  have h := hg r x y hr hx hy e0 e1 e2
  subst e0 e1 e2
  rw [dd_qrxy s 36 hr hx hy] at h
  have e : ((36 : Int32) + 6 * nI r) + nI x = nI (36 + 6 * r + x) := dd_ix 36 r x
  rw [e, nI_clamp (n := 36 + 6 * r + x) (by omega)]
  exact ⟨vp_in_nI (by omega) (by omega), dd_bb (by omega) h⟩
theorem dd_xisFact {post : Int32 → Prop} {p0 p1 p2 : Int32} (hb : ¬ (dd_Nm p0 ∧ dd_Nm p1 ∧ dd_Nm p2) → post 0) (hg : ∀ r x y, r < 6 → x < 6 → y < 6 → p0 = nI r → p1 = nI x → p2 = nI y → post (dd_b (dd_q s 0 (36 * r + 6 * x + y)))) : wpX_isFact post (rc, g, l, ah, ag, aa, ab, nd, la, s) p0 p1 p2 := by
  unfold wpX_isFact
  refine dd_x1 (fun z => hb fun w => z w.1) fun ⟨r, hr, e0⟩ => dd_x1 (fun z => hb fun w => z w.2.1) fun ⟨x, hx, e1⟩ => dd_x1 (fun z => hb fun w => z w.2.2) fun ⟨y, hy, e2⟩ => ?_
  have h := hg r x y hr hx hy e0 e1 e2
  subst e0 e1 e2
  rw [dd_qrxy s 0 hr hx hy] at h
  have e : ((0 : Int32) + 6 * nI r) + nI x = nI (0 + 6 * r + x) := dd_ix 0 r x
  rw [e, nI_clamp (n := 0 + 6 * r + x) (by omega)]
  exact ⟨vp_in_nI (by omega) (by omega), dd_bb (by omega) h⟩
theorem dd_yholds {post : Int32 → Prop} {q : Nat → Bool} {p0 p1 p2 : Int32} (hb : ¬ (dd_Nm p0 ∧ dd_Nm p1 ∧ dd_Nm p2) → post 0) (hg : ∀ r x y, r < 6 → x < 6 → y < 6 → p0 = nI r → p1 = nI x → p2 = nI y → post (dd_b (q (36 * r + 6 * x + y)))) : wpY_holds post (fn, ah, ag, aa, ab, fa, dd_B q, bf, yl, yn) p0 p1 p2 := by
  unfold wpY_holds
  refine dd_y3 hb fun ⟨r, hr, e0⟩ ⟨x, hx, e1⟩ ⟨y, hy, e2⟩ => ?_
  have h := hg r x y hr hx hy e0 e1 e2
  subst e0 e1 e2
  rw [dd_ix3, nI_clamp (n := 36 * r + 6 * x + y) (by omega)]
  exact ⟨vp_in_nI (by omega) (by omega), dd_bv h⟩
theorem dd_yisFact {post : Int32 → Prop} {q : Nat → Bool} {p0 p1 p2 : Int32} (hb : ¬ (dd_Nm p0 ∧ dd_Nm p1 ∧ dd_Nm p2) → post 0) (hg : ∀ r x y, r < 6 → x < 6 → y < 6 → p0 = nI r → p1 = nI x → p2 = nI y → post (dd_b (q (36 * r + 6 * x + y)))) : wpY_isFact post (fn, ah, ag, aa, ab, dd_B q, nw, bf, yl, yn) p0 p1 p2 := by
  unfold wpY_isFact
  refine dd_y3 hb fun ⟨r, hr, e0⟩ ⟨x, hx, e1⟩ ⟨y, hy, e2⟩ => ?_
  have h := hg r x y hr hx hy e0 e1 e2
  subst e0 e1 e2
  rw [dd_ix3, nI_clamp (n := 36 * r + 6 * x + y) (by omega)]
  exact ⟨vp_in_nI (by omega) (by omega), dd_bv h⟩
theorem dd_xcnt {post : Int32 → Prop} {r : Nat} (hr : r < 6) (h : post (nI (dd_c (fun k => dd_q s 36 (36 * r + k)) 36))) : ∃ m, wX_count_14 post (nI r) rc g l ah ag aa ab nd la s m 0 0 := by
  refine loop_0 (fun m x (c : Int32) => wX_count_14 post (nI r) rc g l ah ag aa ab nd la s m c (nI x)) (fun x c => c = nI (dd_c (fun k => dd_q s 36 (36 * r + k)) (6 * x))) 6 0 rfl ?_ ?_
  · intro m c e
    subst e
    exact br_t (nI_le (a := 6) (by omega) (by omega)) h
  · intro m x c hx e hn
    subst e
    have e1 : ((36 : Int32) + 6 * nI r) + nI x = nI (36 + 6 * r + x) := dd_ix 36 r x
    refine br_f (nI_ge (b := 6) hx (by omega)) ?_
    rw [e1, nI_clamp (n := 36 + 6 * r + x) (by omega)]
    refine ⟨vp_in_nI (by omega) (by omega), dd_xb (nm_r (nI_add _ _) (nm_r (nI_1 x) (hn _ (congrArg nI ?_))))⟩
    show _ = dd_c (fun k => dd_q s 36 (36 * r + k)) (6 * x + 6)
    rw [dd_c_add]
    refine congrArg _ (dd_c_eq 6 fun y hy => ?_)
    rw [← Nat.add_assoc, dd_qrxy s 36 hr hx hy]
theorem dd_ycnt {post : Int32 → Prop} {q : Nat → Bool} {r : Nat} (hr : r < 6) (h : post (nI (dd_c (fun k => q (36 * r + k)) 36))) : ∃ m, wY_count_14 post (nI r) fn ah ag aa ab fa (dd_B q) bf yl yn m 0 0 := by
  refine loop_0 (fun m x (c : Int32) => wY_count_14 post (nI r) fn ah ag aa ab fa (dd_B q) bf yl yn m c (nI x)) (fun x c => c = nI (dd_c (fun k => q (36 * r + k)) x)) 36 0 rfl ?_ ?_
  · intro m c e
    subst e
    exact br_t (nI_le (a := 36) (by omega) (by omega)) h
  · intro m x c hx e hn
    subst e
    have e1 : (36 : Int32) * nI r + nI x = nI (36 * r + x) := by
      show nI 36 * nI r + nI x = _
      rw [pk_mul, nI_add]
    refine br_f (nI_ge (b := 36) hx (by omega)) ?_
    rw [e1, nI_clamp (n := 36 * r + x) (by omega)]
    refine ⟨vp_in_nI (by omega) (by omega), br_c (fun z => nm_r (nI_1 x) (hn _ (congrArg nI ?_))) (fun z => nm_r (nI_1 _) (nm_r (nI_1 x) (hn _ (congrArg nI ?_))))⟩
    · have z' := (dd_b0 _).mp z
      show _ = dd_c (fun k => q (36 * r + k)) x + (if q (36 * r + x) = true then 1 else 0)
      rw [z']
      rfl
    · have z' : q (36 * r + x) = true := by
        cases e : q (36 * r + x)
        · exact absurd ((dd_b0 _).mpr e) z
        · rfl
      show _ = dd_c (fun k => q (36 * r + k)) x + (if q (36 * r + x) = true then 1 else 0)
      rw [z']
      rfl
theorem dd_ygain {post : Int32 → Prop} {q q' : Nat → Bool} (h : post (nI (dd_c (fun k => q k && !q' k) 216))) : wpY_gained post (fn, ah, ag, aa, ab, fa, dd_B q, dd_B q', yl, yn) := by
  unfold wpY_gained
  refine loop_0 (fun m k (c : Int32) => wY_gained_4 post fn ah ag aa ab fa (dd_B q) (dd_B q') yl yn m c (nI k)) (fun k c => c = nI (dd_c (fun k => q k && !q' k) k)) 216 0 rfl ?_ ?_
  · intro m c e
    subst e
    exact br_t (nI_le (a := 216) (by omega) (by omega)) h
  · intro m k c hk e hn
    subst e
    have i1 : vp_in (nI k) 216 := vp_in_nI hk (by omega)
    refine br_f (nI_ge (b := 216) hk (by omega)) ?_
    rw [nI_clamp (n := k) (by omega)]
    have st : dd_c (fun k => q k && !q' k) (k + 1) = dd_c (fun k => q k && !q' k) k + (if (q k && !q' k) = true then 1 else 0) := rfl
    refine ⟨i1, br_c (fun z => nm_r (nI_1 k) (hn _ ?_)) (fun z => ⟨i1, br_c (fun z2 => nm_r (nI_1 _) (nm_r (nI_1 k) (hn _ ?_))) (fun z2 => nm_r (nI_1 k) (hn _ ?_))⟩)⟩
    · rw [st, (dd_b0 _).mp z]
      rfl
    · have z' : q k = true := by
        cases e : q k
        · exact absurd ((dd_b0 _).mpr e) z
        · rfl
      rw [st, z', (dd_b0 _).mp z2]
      rfl
    · have z' : q' k = true := by
        cases e : q' k
        · exact absurd ((dd_b0 _).mpr e) z2
        · rfl
      rw [st, z', show (!true) = false from rfl, Bool.and_false]
      rfl
theorem dd_ylost {post : Int32 → Prop} {q q' : Nat → Bool} (h : post (nI (dd_c (fun k => q' k && !q k) 216))) : wpY_lost post (fn, ah, ag, aa, ab, fa, dd_B q, dd_B q', yl, yn) := by
  unfold wpY_lost
  refine loop_0 (fun m k (c : Int32) => wY_lost_4 post fn ah ag aa ab fa (dd_B q) (dd_B q') yl yn m c (nI k)) (fun k c => c = nI (dd_c (fun k => q' k && !q k) k)) 216 0 rfl ?_ ?_
  · intro m c e
    subst e
    exact br_t (nI_le (a := 216) (by omega) (by omega)) h
  · intro m k c hk e hn
    subst e
    have i1 : vp_in (nI k) 216 := vp_in_nI hk (by omega)
    refine br_f (nI_ge (b := 216) hk (by omega)) ?_
    rw [nI_clamp (n := k) (by omega)]
    have st : dd_c (fun k => q' k && !q k) (k + 1) = dd_c (fun k => q' k && !q k) k + (if (q' k && !q k) = true then 1 else 0) := rfl
    refine ⟨i1, br_c (fun z => nm_r (nI_1 k) (hn _ ?_)) (fun z => ⟨i1, br_c (fun z2 => nm_r (nI_1 _) (nm_r (nI_1 k) (hn _ ?_))) (fun z2 => nm_r (nI_1 k) (hn _ ?_))⟩)⟩
    · rw [st, (dd_b0 _).mp z]
      rfl
    · have z' : q' k = true := by
        cases e : q' k
        · exact absurd ((dd_b0 _).mpr e) z
        · rfl
      rw [st, z', (dd_b0 _).mp z2]
      rfl
    · have z' : q k = true := by
        cases e : q k
        · exact absurd ((dd_b0 _).mpr e) z2
        · rfl
      rw [st, z', show (!true) = false from rfl, Bool.and_false]
      rfl
theorem dd_yfrom {post : Int32 → Prop} {q : Nat → Bool} {w : Int32} {r x : Nat} (hr : r < 6) (hx : x < 6) (hw : dd_S w) (hq : ∀ y, y < 6 → q (36 * r + 6 * x + y) = bt w y) (h : post w) : ∃ m, wY_from_23 post (nI r) (nI x) fn ah ag aa ab fa (dd_B q) bf yl yn m 0 0 := by
  refine loop_0 (fun m y (c : Int32) => wY_from_23 post (nI r) (nI x) fn ah ag aa ab fa (dd_B q) bf yl yn m c (nI y)) (fun y c => ∀ k, bt c k = true ↔ k < y ∧ bt w k = true) 6 0 ?_ ?_ ?_
  · intro k
    rw [b_0]
    exact ⟨fun z => absurd z (by decide), fun z => absurd z.1 (Nat.not_lt_zero _)⟩
  · intro m c hI
    have e : c = w := by
      refine b_ext fun k _ => ?_
      cases e1 : bt c k <;> cases e2 : bt w k
      · rfl
      · have h6 : k < 6 := by
          rcases Nat.lt_or_ge k 6 with h | h
          · exact h
          · rw [hw k h] at e2
            exact absurd e2 (by decide)
        exact e1.symm.trans ((hI k).mpr ⟨h6, e2⟩)
      · exact ((hI k).mp e1).2.symm.trans e2
      · rfl
    subst e
    exact br_t (nI_le (a := 6) (by omega) (by omega)) h
  · intro m y c hy hI hn
    refine br_f (nI_ge (b := 6) hy (by omega)) ?_
    rw [dd_ix3, nI_clamp (n := 36 * r + 6 * x + y) (by omega)]
    refine ⟨vp_in_nI (by omega) (by omega), br_c (fun z => nm_r (nI_1 y) (hn _ fun k => ?_)) (fun z => nm_e (nm_r (nI_1 y) (hn _ fun k => ?_)))⟩
    · have z' := (dd_b0 _).mp z
      rw [hq y hy] at z'
      rw [hI k]
      refine ⟨fun w => ⟨by omega, w.2⟩, fun v => ⟨?_, v.2⟩⟩
      by_cases e : k = y
      · subst e
        have v2 := v.2
        rw [z'] at v2
        exact absurd v2 (by decide)
      · omega
    · have z' : q (36 * r + 6 * x + y) = true := by
        cases e : q (36 * r + 6 * x + y)
        · exact absurd ((dd_b0 _).mpr e) z
        · rfl
      rw [hq y hy] at z'
      rw [b_or, Bool.or_eq_true, hI k, dd_one (by omega), decide_eq_true_eq]
      constructor
      · intro v
        rcases v with v | rfl
        · exact ⟨by omega, v.2⟩
        · exact ⟨by omega, z'⟩
      · intro v
        by_cases e : k = y
        · exact Or.inr e
        · exact Or.inl ⟨by omega, v.2⟩
end
theorem dd_nIj {a b : Nat} (ha : a < 6) (hb : b < 6) (h : nI a = nI b) : a = b := (nI_eq (by omega) (by omega)).mp h
theorem i_vc_holds {k : Nat} {u : SX} {v : SY} (I : i_Rel k u v) (hk : k + 4 ≤ 2048) (v1 : Int32) (v2 : Int32) (v3 : Int32) : wpX_holds (fun r => wpY_holds (fun r' => r' = r ∧ i_Rel (k + 4) u v) v v1 v2 v3) u v1 v2 v3 := by
  have I' : i_Rel (k + 4) u v := I
  obtain ⟨n, sh, hd, ba, bb, g, l, nd, s, yl, yn, qb, rk, eu, ev, _⟩ := I
  generalize i_Rel (k + 4) u v = R at I'
  subst eu ev
  refine dd_xholds (fun nb => dd_yholds (fun _ => ⟨rfl, I'⟩) fun r x y hr hx hy e0 e1 e2 => absurd ⟨⟨r, hr, e0⟩, ⟨x, hx, e1⟩, ⟨y, hy, e2⟩⟩ nb) fun r x y hr hx hy e0 e1 e2 => dd_yholds (fun nb => absurd ⟨⟨r, hr, e0⟩, ⟨x, hx, e1⟩, ⟨y, hy, e2⟩⟩ nb) fun r' x' y' hr' hx' hy' e0' e1' e2' => ⟨?_, I'⟩
  rw [dd_nIj hr hr' (e0.symm.trans e0'), dd_nIj hx hx' (e1.symm.trans e1'), dd_nIj hy hy' (e2.symm.trans e2')]
theorem i_vc_isFact {k : Nat} {u : SX} {v : SY} (I : i_Rel k u v) (hk : k + 4 ≤ 2048) (v1 : Int32) (v2 : Int32) (v3 : Int32) : wpX_isFact (fun r => wpY_isFact (fun r' => r' = r ∧ i_Rel (k + 4) u v) v v1 v2 v3) u v1 v2 v3 := by
  have I' : i_Rel (k + 4) u v := I
  obtain ⟨n, sh, hd, ba, bb, g, l, nd, s, yl, yn, qb, rk, eu, ev, _⟩ := I
  generalize i_Rel (k + 4) u v = R at I'
  subst eu ev
  refine dd_xisFact (fun nb => dd_yisFact (fun _ => ⟨rfl, I'⟩) fun r x y hr hx hy e0 e1 e2 => absurd ⟨⟨r, hr, e0⟩, ⟨x, hx, e1⟩, ⟨y, hy, e2⟩⟩ nb) fun r x y hr hx hy e0 e1 e2 => dd_yisFact (fun nb => absurd ⟨⟨r, hr, e0⟩, ⟨x, hx, e1⟩, ⟨y, hy, e2⟩⟩ nb) fun r' x' y' hr' hx' hy' e0' e1' e2' => ⟨?_, I'⟩
  rw [dd_nIj hr hr' (e0.symm.trans e0'), dd_nIj hx hx' (e1.symm.trans e1'), dd_nIj hy hy' (e2.symm.trans e2')]
theorem i_vc_count {k : Nat} {u : SX} {v : SY} (I : i_Rel k u v) (hk : k + 4 ≤ 2048) (v1 : Int32) : wpX_count (fun r => wpY_count (fun r' => r' = r ∧ i_Rel (k + 4) u v) v v1) u v1 := by
  have I' : i_Rel (k + 4) u v := I
  obtain ⟨n, sh, hd, ba, bb, g, l, nd, s, yl, yn, qb, rk, eu, ev, _⟩ := I
  generalize i_Rel (k + 4) u v = R at I'
  subst eu ev
  unfold wpX_count wpY_count
  refine dd_x1 (fun nb => dd_y1 (fun _ => ⟨rfl, I'⟩) fun z => absurd z nb) fun ⟨r, hr, e⟩ => ?_
  subst e
  exact dd_xcnt hr (dd_y1 (fun nb => absurd ⟨r, hr, rfl⟩ nb) fun _ => dd_ycnt hr ⟨rfl, I'⟩)
theorem i_vc_gained {k : Nat} {u : SX} {v : SY} (I : i_Rel k u v) (hk : k + 4 ≤ 2048) : wpX_gained (fun r => wpY_gained (fun r' => r' = r ∧ i_Rel (k + 4) u v) v) u := by
  have I' : i_Rel (k + 4) u v := I
  obtain ⟨n, sh, hd, ba, bb, g, l, nd, s, yl, yn, qb, rk, eu, ev, h1, h2, h3, h4, h5, h6, h7, h8, h9, hg, hl⟩ := I
  generalize i_Rel (k + 4) u v = R at I'
  subst eu ev
  unfold wpX_gained
  exact dd_ygain ⟨hg.symm, I'⟩
theorem i_vc_lost {k : Nat} {u : SX} {v : SY} (I : i_Rel k u v) (hk : k + 4 ≤ 2048) : wpX_lost (fun r => wpY_lost (fun r' => r' = r ∧ i_Rel (k + 4) u v) v) u := by
  have I' : i_Rel (k + 4) u v := I
  obtain ⟨n, sh, hd, ba, bb, g, l, nd, s, yl, yn, qb, rk, eu, ev, h1, h2, h3, h4, h5, h6, h7, h8, h9, hg, hl⟩ := I
  generalize i_Rel (k + 4) u v = R at I'
  subst eu ev
  unfold wpX_lost
  exact dd_ylost ⟨hl.symm, I'⟩
theorem i_vc_from {k : Nat} {u : SX} {v : SY} (I : i_Rel k u v) (hk : k + 4 ≤ 2048) (v1 : Int32) (v2 : Int32) : wpX_from (fun r => wpY_from (fun r' => r' = r ∧ i_Rel (k + 4) u v) v v1 v2) u v1 v2 := by
  have I' : i_Rel (k + 4) u v := I
  obtain ⟨n, sh, hd, ba, bb, g, l, nd, s, yl, yn, qb, rk, eu, ev, h1, h2, h3, h4, h5, h6, h7, h8, h9, hg, hl⟩ := I
  generalize i_Rel (k + 4) u v = R at I'
  subst eu ev
  unfold wpX_from wpY_from
  refine dd_x1 (fun nb => dd_y1 (fun _ => ⟨rfl, I'⟩) fun z => absurd z nb) fun ⟨r, hr, e⟩ => dd_x1 (fun nb => ?_) fun ⟨x, hx, e2⟩ => ?_
  · exact dd_y1 (fun _ => ⟨rfl, I'⟩) fun _ => dd_y1 (fun _ => ⟨rfl, I'⟩) fun z => absurd z nb
  · subst e e2
    have e1 : ((36 : Int32) + 6 * nI r) + nI x = nI (36 + 6 * r + x) := dd_ix 36 r x
    rw [e1, nI_clamp (n := 36 + 6 * r + x) (by omega)]
    exact ⟨vp_in_nI (by omega) (by omega), dd_y1 (fun nb => absurd ⟨r, hr, rfl⟩ nb) fun _ => dd_y1 (fun nb => absurd ⟨x, hx, rfl⟩ nb) fun _ => dd_yfrom hr hx (h7 _ (by omega)) (fun y hy => dd_qrxy s 36 hr hx hy) ⟨rfl, I'⟩⟩
end
section
/-! add and remove -/
theorem dd_ub6 {q : Nat → Bool} (h : dd_B6 q) {k : Nat} (hk : k < 216) (v : Bool) : dd_B6 (dd_ub q k v) := fun j hj => by
  rw [dd_ubn q (by omega)]
  exact h j hj
theorem dd_qst (s : Nat → Int32) {r x y : Nat} (hr : r < 6) (hx : x < 6) (hy : y < 6) (w : Int32) (b : Bool) (hw : ∀ i, i < 6 → bt w i = if i = y then b else bt (s (0 + 6 * r + x)) i) : dd_ub (dd_q s 0) (36 * r + 6 * x + y) b = dd_q (upd s (0 + 6 * r + x) w) 0 := by
  funext k
  rcases Nat.lt_or_ge k 216 with hk | hk
  · rw [dd_qlt _ _ hk]
    by_cases e : k / 6 = 6 * r + x
    · rw [show 0 + k / 6 = 0 + 6 * r + x by omega, pk_us, hw (k % 6) (by omega)]
      by_cases e2 : k % 6 = y
      · rw [if_pos e2, show k = 36 * r + 6 * x + y by omega, dd_ubs]
      · rw [if_neg e2, dd_ubn _ (by omega), dd_qlt _ _ hk, show 0 + k / 6 = 0 + 6 * r + x by omega]
    · rw [pk_un (by omega), dd_ubn _ (by omega), dd_qlt _ _ hk]
  · rw [dd_q6 _ _ k hk, dd_ubn _ (by omega), dd_q6 _ _ k hk]
theorem dd_bset (w : Int32) {y : Nat} (hy : y < 6) (i : Nat) (hi : i < 6) : bt (w ||| ((1 : Int32) <<< (nI y &&& 31))) i = if i = y then true else bt w i := by
  rw [b_or, dd_one (by omega)]
  by_cases e : i = y
  · rw [if_pos e, decide_eq_true e, Bool.or_true]
  · rw [if_neg e, decide_eq_false e, Bool.or_false]
theorem dd_bclr (w : Int32) {y : Nat} (hy : y < 6) (i : Nat) (hi : i < 6) : bt (w &&& (((1 : Int32) <<< (nI y &&& 31)) ^^^ (-1))) i = if i = y then false else bt w i := by
  rw [dd_nb, dd_one (by omega)]
  by_cases e : i = y
  · rw [if_pos e, decide_eq_true e, show (!true) = false from rfl, Bool.and_false]
  · rw [if_neg e, decide_eq_false e, show (!false) = true from rfl, Bool.and_true]
theorem dd_Qclr {s : Nat → Int32} {r x y : Nat} (hr : r < 6) (hx : x < 6) (hy : y < 6) {r' x' y' : Nat} (h : dd_Q s 0 r' x' y') (nh : ¬ dd_Q (upd s (0 + 6 * r + x) (s (0 + 6 * r + x) &&& (((1 : Int32) <<< (nI y &&& 31)) ^^^ (-1)))) 0 r' x' y') : r' = r ∧ x' = x ∧ y' = y := by
  by_cases e : r' = r ∧ x' = x
  · obtain ⟨rfl, rfl⟩ := e
    refine ⟨rfl, rfl, ?_⟩
    rw [dd_Qs hr hx, dd_bclr _ hy y'] at nh
    · by_cases e2 : y' = y
      · exact e2
      · rw [if_neg e2] at nh
        exact absurd ⟨h.2.2.1, h.2.2.2⟩ nh
    · exact h.2.2.1
  · rw [dd_Qn hx e] at nh
    exact absurd h nh
section
variable {g l : Int32} {sh hd ba bb ly : Nat → Nat} {nd s yl yn : Nat → Int32} {n : Nat}
theorem dd_xadd {post : Int32 → SX → Prop} {p0 p1 p2 : Int32} (st : dd_St sh hd ba bb n ly) (rl : dd_Rl sh hd ba bb) (l6 : ∀ r, ly r < 6) (h8 : n ≤ 8) (S : dd_A6 s) (m : dd_Mod sh hd ba bb n ly (dd_Q s 0) (dd_Q s 36))
    (hb : ¬ (dd_Nm p0 ∧ dd_Nm p1 ∧ dd_Nm p2) → post (-1) (nI n, g, l, dd_N sh, dd_N hd, dd_N ba, dd_N bb, nd, dd_N ly, s))
    (hg : ∀ r x y, r < 6 → x < 6 → y < 6 → p0 = nI r → p1 = nI x → p2 = nI y → ∀ s1 s', s1 = upd s (0 + 6 * r + x) (s (0 + 6 * r + x) ||| ((1 : Int32) <<< (nI y &&& 31))) → (∀ j, j < 36 → s' j = s1 j) → dd_A6 s' → (∀ j, j < 36 → s' (72 + j) = s1 (36 + j)) → dd_Mod sh hd ba bb n ly (dd_Q s1 0) (dd_Q s' 36) →
      post (dd_b (!dd_q s 0 (36 * r + 6 * x + y))) (nI n, nI (dd_c (dd_dq s' 36 72) 216), nI (dd_c (dd_dq s' 72 36) 216), dd_N sh, dd_N hd, dd_N ba, dd_N bb, nd, dd_N ly, s')) :
    wpX_add post (nI n, g, l, dd_N sh, dd_N hd, dd_N ba, dd_N bb, nd, dd_N ly, s) p0 p1 p2 := by
  unfold wpX_add
  refine dd_x1 (fun z => hb fun w => z w.1) fun ⟨r, hr, e0⟩ => dd_x1 (fun z => hb fun w => z w.2.1) fun ⟨x, hx, e1⟩ => dd_x1 (fun z => hb fun w => z w.2.2) fun ⟨y, hy, e2⟩ => ?_
  have h := hg r x y hr hx hy e0 e1 e2
  subst e0 e1 e2
  have e : ((0 : Int32) + 6 * nI r) + nI x = nI (0 + 6 * r + x) := dd_ix 0 r x
  have i1 : vp_in (nI (0 + 6 * r + x)) 180 := vp_in_nI (by omega) (by omega)
  have key : ∀ c : Int32, c = dd_b (!dd_q s 0 (36 * r + 6 * x + y)) → wX_add_55 post (nI y) (nI (0 + 6 * r + x)) c (nI n) g l (dd_N sh) (dd_N hd) (dd_N ba) (dd_N bb) nd (dd_N ly) s := by
    intro c hc
    subst hc
    unfold wX_add_55
    rw [nI_clamp (n := 0 + 6 * r + x) (by omega)]
    have q36 : dd_Q (upd s (0 + 6 * r + x) (s (0 + 6 * r + x) ||| ((1 : Int32) <<< (nI y &&& 31)))) 36 = dd_Q s 36 := dd_Qo (by omega)
    refine ⟨i1, i1, nm_e (dd_xupdate (F0 := dd_Q s 0) (x := 0) (y := 0) st rl l6 h8 (dd_A6u S (dd_Sor (S _ (by omega)) (dd_S1 hy))) (by rw [q36]; exact m) (by omega) (by omega) (Or.inl (by decide)) (fun r' x' y' f nf => absurd ((dd_Qup hr hx r' x' y').mpr (Or.inl f)) nf) fun s' a1 a2 a3 a4 => h _ s' rfl a1 a2 a3 a4)⟩
  refine nm_r e ⟨i1, ?_⟩
  rw [nI_clamp (n := 0 + 6 * r + x) (by omega)]
  refine br_c (fun z => key 1 ?_) (fun z => key 0 ?_)
  · rw [dd_rd0 _ (by omega)] at z
    rw [dd_qrxy s 0 hr hx hy, z]
    rfl
  · rw [dd_rd0 _ (by omega)] at z
    have z' : bt (s (0 + 6 * r + x)) y = true := by
      cases e : bt (s (0 + 6 * r + x)) y
      · exact absurd e z
      · rfl
    rw [dd_qrxy s 0 hr hx hy, z']
    rfl
theorem dd_xremove {post : Int32 → SX → Prop} {p0 p1 p2 : Int32} (st : dd_St sh hd ba bb n ly) (rl : dd_Rl sh hd ba bb) (l6 : ∀ r, ly r < 6) (h8 : n ≤ 8) (S : dd_A6 s) (m : dd_Mod sh hd ba bb n ly (dd_Q s 0) (dd_Q s 36))
    (hb : ¬ (dd_Nm p0 ∧ dd_Nm p1 ∧ dd_Nm p2) → post (-1) (nI n, g, l, dd_N sh, dd_N hd, dd_N ba, dd_N bb, nd, dd_N ly, s))
    (hg : ∀ r x y, r < 6 → x < 6 → y < 6 → p0 = nI r → p1 = nI x → p2 = nI y → ∀ s1 s', s1 = upd s (0 + 6 * r + x) (s (0 + 6 * r + x) &&& (((1 : Int32) <<< (nI y &&& 31)) ^^^ (-1))) → (∀ j, j < 36 → s' j = s1 j) → dd_A6 s' → (∀ j, j < 36 → s' (72 + j) = s1 (36 + j)) → dd_Mod sh hd ba bb n ly (dd_Q s1 0) (dd_Q s' 36) →
      post (dd_b (dd_q s 0 (36 * r + 6 * x + y))) (nI n, nI (dd_c (dd_dq s' 36 72) 216), nI (dd_c (dd_dq s' 72 36) 216), dd_N sh, dd_N hd, dd_N ba, dd_N bb, nd, dd_N ly, s')) :
    wpX_remove post (nI n, g, l, dd_N sh, dd_N hd, dd_N ba, dd_N bb, nd, dd_N ly, s) p0 p1 p2 := by
  unfold wpX_remove
  refine dd_x1 (fun z => hb fun w => z w.1) fun ⟨r, hr, e0⟩ => dd_x1 (fun z => hb fun w => z w.2.1) fun ⟨x, hx, e1⟩ => dd_x1 (fun z => hb fun w => z w.2.2) fun ⟨y, hy, e2⟩ => ?_
  have h := hg r x y hr hx hy e0 e1 e2
  subst e0 e1 e2
  rw [dd_qrxy s 0 hr hx hy] at h
  have e : ((0 : Int32) + 6 * nI r) + nI x = nI (0 + 6 * r + x) := dd_ix 0 r x
  have i1 : vp_in (nI (0 + 6 * r + x)) 180 := vp_in_nI (by omega) (by omega)
  have q36 : dd_Q (upd s (0 + 6 * r + x) (s (0 + 6 * r + x) &&& (((1 : Int32) <<< (nI y &&& 31)) ^^^ (-1)))) 36 = dd_Q s 36 := dd_Qo (by omega)
  refine nm_r e ⟨i1, ?_⟩
  rw [nI_clamp (n := 0 + 6 * r + x) (by omega)]
  refine nm_r (e' := dd_b (bt (s (0 + 6 * r + x)) y)) (dd_rd _ y (by omega)) ⟨i1, i1, nm_e (br_c (fun z => ?_) (fun z => ?_))⟩
  · unfold wX_remove_75
    refine dd_xupdate (F0 := dd_Q s 0) st rl l6 h8 (dd_A6u S (dd_San (S _ (by omega)))) (by rw [q36]; exact m) hx hy (Or.inl (by decide)) (fun r' x' y' f nf => ?_) fun s' a1 a2 a3 a4 => h _ s' rfl a1 a2 a3 a4
    obtain ⟨rfl, rfl, rfl⟩ := dd_Qclr hr hx hy f nf
    have f3 := f.2.2.2
    rw [(dd_b0 _).mp z] at f3
    exact absurd f3 (by decide)
  · unfold wX_remove_75
    refine dd_xupdate (F0 := dd_Q s 0) st rl l6 h8 (dd_A6u S (dd_San (S _ (by omega)))) (by rw [q36]; exact m) hx hy (Or.inr ⟨r, hr, rfl⟩) (fun r' x' y' f nf => ?_) fun s' a1 a2 a3 a4 => h _ s' rfl a1 a2 a3 a4
    obtain ⟨rfl, rfl, rfl⟩ := dd_Qclr hr hx hy f nf
    exact ⟨rfl, hr, rfl, rfl⟩
theorem dd_ychange {post : Int32 → SY → Prop} {p0 p1 p2 : Int32} {qf qn qb : Nat → Bool} {rk : Nat → Nat} (b : Bool) (rl : dd_Rl sh hd ba bb) (ra : dd_Ra sh hd ba bb n rk) (h8 : n ≤ 8) (bf6 : dd_B6 qf) (bn6 : dd_B6 qn) (bb6 : dd_B6 qb) (hz : ∀ j, 6 ≤ j → yl j = 0)
    (hb : ¬ (dd_Nm p0 ∧ dd_Nm p1 ∧ dd_Nm p2) → post (-1) (nI n, dd_N sh, dd_N hd, dd_N ba, dd_N bb, dd_B qf, dd_B qn, dd_B qb, yl, yn))
    (hg : ∀ r x y, r < 6 → x < 6 → y < 6 → p0 = nI r → p1 = nI x → p2 = nI y → ∀ q', dd_B6 q' → dd_Mod sh hd ba bb n (dd_LY sh hd ba bb n) (dd_V (dd_ub qf (36 * r + 6 * x + y) b)) (dd_V q') →
      post (dd_b (qf (36 * r + 6 * x + y) ^^ b)) (nI n, dd_N sh, dd_N hd, dd_N ba, dd_N bb, dd_B (dd_ub qf (36 * r + 6 * x + y) b), dd_B q', dd_B qn, dd_N (dd_LY sh hd ba bb n), yn)) :
    wpY_change post (nI n, dd_N sh, dd_N hd, dd_N ba, dd_N bb, dd_B qf, dd_B qn, dd_B qb, yl, yn) p0 p1 p2 (dd_b b) := by
  unfold wpY_change
  refine dd_y3 hb fun ⟨r, hr, e0⟩ ⟨x, hx, e1⟩ ⟨y, hy, e2⟩ => ?_
  have h := hg r x y hr hx hy e0 e1 e2
  subst e0 e1 e2
  have i1 : vp_in (nI (36 * r + 6 * x + y)) 216 := vp_in_nI (by omega) (by omega)
  have key : ∀ c : Int32, c = dd_b (qf (36 * r + 6 * x + y) ^^ b) → wY_change_42 post (dd_b b) (nI (36 * r + 6 * x + y)) c (nI n) (dd_N sh) (dd_N hd) (dd_N ba) (dd_N bb) (dd_B qf) (dd_B qn) (dd_B qb) yl yn := by
    intro c hc
    subst hc
    unfold wY_change_42
    rw [nI_clamp (n := 36 * r + 6 * x + y) (by omega), dd_bn, dd_Bu]
    exact ⟨i1, nm_e (dd_ysettle rl ra h8 (dd_ub6 bf6 (by omega) b) bn6 bb6 hz fun q' b1 b2 => h q' b1 b2)⟩
  refine nm_r (dd_ix3 r x y) ⟨i1, ?_⟩
  rw [nI_clamp (n := 36 * r + 6 * x + y) (by omega)]
  have ee : dd_B qf (36 * r + 6 * x + y) = dd_b b ↔ (qf (36 * r + 6 * x + y) ^^ b) = false := by
    show dd_b (qf (36 * r + 6 * x + y)) = dd_b b ↔ _
    cases qf (36 * r + 6 * x + y) <;> cases b <;> decide
  refine br_c (fun z => key 0 ?_) (fun z => key 1 ?_)
  · rw [ee.mp z]
    rfl
  · have z' : (qf (36 * r + 6 * x + y) ^^ b) = true := by
      cases e : (qf (36 * r + 6 * x + y) ^^ b)
      · exact absurd (ee.mpr e) z
      · rfl
    rw [z']
    rfl
end
theorem i_vc_add {k : Nat} {u : SX} {v : SY} (I : i_Rel k u v) (hk : k + 4 ≤ 2048) (v1 : Int32) (v2 : Int32) (v3 : Int32) : wpX_add (fun r u' => wpY_add (fun r' v' => r' = r ∧ i_Rel (k + 4) u' v') v v1 v2 v3) u v1 v2 v3 := by
  have I' : i_Rel (k + 4) u v := I
  obtain ⟨n, sh, hd, ba, bb, g, l, nd, s, yl, yn, qb, rk, eu, ev, h8, rl, ra, hnd, hyl, hyn, S, b6, m, hg, hl⟩ := I
  subst eu ev
  refine dd_xadd (dd_LY_St rl ra) rl (dd_LY_6 n) h8 S m (fun nb => ?_) fun r x y hr hx hy e0 e1 e2 s1 s' es a1 a2 a3 a4 => ?_
  · unfold wpY_add
    exact dd_ychange true rl ra h8 (dd_q6 _ _) (dd_q6 _ _) b6 hyl (fun _ => ⟨rfl, I'⟩) fun r x y hr hx hy e0 e1 e2 => absurd ⟨⟨r, hr, e0⟩, ⟨x, hx, e1⟩, ⟨y, hy, e2⟩⟩ nb
  · unfold wpY_add
    refine dd_ychange true rl ra h8 (dd_q6 _ _) (dd_q6 _ _) b6 hyl (fun nb => absurd ⟨⟨r, hr, e0⟩, ⟨x, hx, e1⟩, ⟨y, hy, e2⟩⟩ nb) fun r' x' y' hr' hx' hy' e0' e1' e2' q' b1 b2 => ?_
    obtain rfl := dd_nIj hr hr' (e0.symm.trans e0')
    obtain rfl := dd_nIj hx hx' (e1.symm.trans e1')
    obtain rfl := dd_nIj hy hy' (e2.symm.trans e2')
    have e36 : dd_q s1 36 = dd_q s 36 := dd_qsame fun j hj => by rw [es]; exact pk_un (by omega)
    refine ⟨by rw [Bool.xor_true], ?_⟩
    rw [← e36]
    exact dd_fin h8 rl ra hnd (fun j hj => by show nI (dd_LY sh hd ba bb n j) = 0; rw [dd_LY_z rl n j hj]; rfl) hyn (by rw [es]; exact dd_qst s hr hx hy _ true (dd_bset _ hy)) a1 a2 a3 a4 b1 b2
theorem i_vc_remove {k : Nat} {u : SX} {v : SY} (I : i_Rel k u v) (hk : k + 4 ≤ 2048) (v1 : Int32) (v2 : Int32) (v3 : Int32) : wpX_remove (fun r u' => wpY_remove (fun r' v' => r' = r ∧ i_Rel (k + 4) u' v') v v1 v2 v3) u v1 v2 v3 := by
  have I' : i_Rel (k + 4) u v := I
  obtain ⟨n, sh, hd, ba, bb, g, l, nd, s, yl, yn, qb, rk, eu, ev, h8, rl, ra, hnd, hyl, hyn, S, b6, m, hg, hl⟩ := I
  subst eu ev
  refine dd_xremove (dd_LY_St rl ra) rl (dd_LY_6 n) h8 S m (fun nb => ?_) fun r x y hr hx hy e0 e1 e2 s1 s' es a1 a2 a3 a4 => ?_
  · unfold wpY_remove
    exact dd_ychange false rl ra h8 (dd_q6 _ _) (dd_q6 _ _) b6 hyl (fun _ => ⟨rfl, I'⟩) fun r x y hr hx hy e0 e1 e2 => absurd ⟨⟨r, hr, e0⟩, ⟨x, hx, e1⟩, ⟨y, hy, e2⟩⟩ nb
  · unfold wpY_remove
    refine dd_ychange false rl ra h8 (dd_q6 _ _) (dd_q6 _ _) b6 hyl (fun nb => absurd ⟨⟨r, hr, e0⟩, ⟨x, hx, e1⟩, ⟨y, hy, e2⟩⟩ nb) fun r' x' y' hr' hx' hy' e0' e1' e2' q' b1 b2 => ?_
    obtain rfl := dd_nIj hr hr' (e0.symm.trans e0')
    obtain rfl := dd_nIj hx hx' (e1.symm.trans e1')
    obtain rfl := dd_nIj hy hy' (e2.symm.trans e2')
    have e36 : dd_q s1 36 = dd_q s 36 := dd_qsame fun j hj => by rw [es]; exact pk_un (by omega)
    refine ⟨by rw [Bool.xor_false], ?_⟩
    rw [← e36]
    exact dd_fin h8 rl ra hnd (fun j hj => by show nI (dd_LY sh hd ba bb n j) = 0; rw [dd_LY_z rl n j hj]; rfl) hyn (by rw [es]; exact dd_qst s hr hx hy _ false (dd_bclr _ hy)) a1 a2 a3 a4 b1 b2
end
section
/-! addRule and dropRule -/
theorem dd_narI : ∀ v, v < 6 → vp_nar .byte (nI v) = nI v := by
  intro v hv
  rw [vp_nar_byte]
  exact (by decide +kernel : ∀ v, v < 6 → (nI v).toInt8.toInt32 = nI v) v hv
theorem dd_Rlu {sh hd ba bb : Nat → Nat} (rl : dd_Rl sh hd ba bb) {n k h a b : Nat} (hk : k ≤ 4) (hh : h < 6) (ha : a < 6) (hb : b < 6) : dd_Rl (dd_u sh n k) (dd_u hd n h) (dd_u ba n a) (dd_u bb n b) := by
  intro i
  by_cases e : i = n
  · subst e
    rw [dd_us, dd_us, dd_us, dd_us]
    exact ⟨hk, hh, ha, hb⟩
  · rw [dd_un _ e, dd_un _ e, dd_un _ e, dd_un _ e]
    exact rl i
theorem dd_Equ (sh hd ba bb : Nat → Nat) (n k h a b : Nat) : dd_Eq n sh hd ba bb (dd_u sh n k) (dd_u hd n h) (dd_u ba n a) (dd_u bb n b) := by
  intro i hi
  rw [dd_un _ (by omega), dd_un _ (by omega), dd_un _ (by omega), dd_un _ (by omega)]
  exact ⟨rfl, rfl, rfl, rfl⟩
/-- the numbers that a rule's number holds -/
theorem dd_w1n {w : Nat} (hw : w ≤ 215) : nI w / 36 = nI (w / 36) := pk_div (d := 36) (by omega) (by omega) (by omega)
theorem dd_w2n {w : Nat} (hw : w ≤ 215) : (nI w / 6) - (nI w / 6) / 6 * 6 = nI (w / 6 % 6) := by
  have e : nI w / 6 = nI (w / 6) := pk_div (d := 6) (by omega) (by omega) (by omega)
  rw [e]
  exact pk_rem (d := 6) (by omega) (by omega) (by omega)
theorem dd_w3n {w : Nat} (hw : w ≤ 215) : nI w - nI w / 6 * 6 = nI (w % 6) := pk_rem (d := 6) (by omega) (by omega) (by omega)
/-- the arguments that addRule takes -/
def dd_Ok (p0 p1 : Int32) : Prop := ∃ k w, k ≤ 4 ∧ w ≤ 215 ∧ p0 = nI k ∧ p1 = nI w
theorem dd_Ok_of {p0 p1 : Int32} (a : ¬ p0 < 0) (b : ¬ 4 < p0) (c : ¬ p1 < 0) (d : p1 ≤ 215) : dd_Ok p0 p1 := by
  obtain ⟨k, hk, rfl⟩ := nI_of a
  obtain ⟨w, hw, rfl⟩ := nI_of c
  refine ⟨k, w, ?_, (nI_leI (b := 215) hw (by omega)).mp d, rfl, rfl⟩
  rcases Nat.lt_or_ge 4 k with h | h
  · exact absurd (nI_lt (a := 4) h hk) b
  · exact h
/-- the form of the checks -/
theorem dd_chk {Bad Good : Prop} {p0 p1 : Int32} (hb : ¬ dd_Ok p0 p1 → Bad) (hg : dd_Ok p0 p1 → Good) :
    (p0 < 0 → Bad) ∧ (¬ p0 < 0 → (4 < p0 → Bad) ∧ (¬ 4 < p0 → (p1 < 0 → Bad) ∧ (¬ p1 < 0 → (p1 ≤ 215 → Good) ∧ (¬ p1 ≤ 215 → Bad)))) := by
  refine br_c (fun h => hb fun ⟨k, w, hk, hw, e0, e1⟩ => ?_) fun h0 => br_c (fun h => hb fun ⟨k, w, hk, hw, e0, e1⟩ => ?_) fun h1 => br_c (fun h => hb fun ⟨k, w, hk, hw, e0, e1⟩ => ?_) fun h2 => br_c (fun h3 => hg (dd_Ok_of h0 h1 h2 h3)) fun h => hb fun ⟨k, w, hk, hw, e0, e1⟩ => ?_
  · subst e0
    exact nI_pos (by omega) h
  · subst e0
    exact nI_nlt (a := 4) (b := k) hk (by omega) h
  · subst e1
    exact nI_pos (by omega) h
  · subst e1
    exact h (nI_le (b := 215) hw (by omega))
section
variable {g l : Int32} {sh hd ba bb : Nat → Nat} {nd s yl yn : Nat → Int32} {n : Nat}
theorem dd_xaddRule {post : Int32 → SX → Prop} {p0 p1 : Int32} (rl : dd_Rl sh hd ba bb) (h8 : n ≤ 8) (S : dd_A6 s) (hnd : ∀ j, 6 ≤ j → nd j = 0)
    (hb : ¬ dd_Ok p0 p1 → post (-1) (nI n, g, l, dd_N sh, dd_N hd, dd_N ba, dd_N bb, nd, dd_N (dd_LY sh hd ba bb n), s))
    (hf : dd_Ok p0 p1 → n = 8 → post (-2) (nI n, g, l, dd_N sh, dd_N hd, dd_N ba, dd_N bb, nd, dd_N (dd_LY sh hd ba bb n), s))
    (hg : ∀ k w, k ≤ 4 → w ≤ 215 → p0 = nI k → p1 = nI w → n < 8 → ∀ sh' hd' ba' bb', sh' = dd_u sh n k → hd' = dd_u hd n (w / 36) → ba' = dd_u ba n (w / 6 % 6) → bb' = dd_u bb n (w % 6) →
      (¬ dd_Ly sh' hd' bb' (n + 1) (dd_ND sh' hd' ba' bb' (n + 1)) → post (-3) (nI n, g, l, dd_N sh', dd_N hd', dd_N ba', dd_N bb', dd_ND sh' hd' ba' bb' n, dd_N (dd_LY sh' hd' ba' bb' n), s)) ∧
      (dd_Ly sh' hd' bb' (n + 1) (dd_ND sh' hd' ba' bb' (n + 1)) → ∀ s', (∀ j, j < 36 → s' j = s j) → dd_A6 s' → (∀ j, j < 36 → s' (72 + j) = s (36 + j)) → dd_Mod sh' hd' ba' bb' (n + 1) (dd_LY sh' hd' ba' bb' (n + 1)) (dd_Q s 0) (dd_Q s' 36) →
        post (nI (n + 1)) (nI (n + 1), nI (dd_c (dd_dq s' 36 72) 216), nI (dd_c (dd_dq s' 72 36) 216), dd_N sh', dd_N hd', dd_N ba', dd_N bb', dd_ND sh' hd' ba' bb' (n + 1), dd_N (dd_LY sh' hd' ba' bb' (n + 1)), s'))) :
    wpX_addRule post (nI n, g, l, dd_N sh, dd_N hd, dd_N ba, dd_N bb, nd, dd_N (dd_LY sh hd ba bb n), s) p0 p1 := by
  unfold wpX_addRule
  refine dd_chk hb fun ok => pk_lt n 8 (fun hn => ?_) (fun hn => hf ok (by omega))
  obtain ⟨k, w, hk, hw, e0, e1⟩ := ok
  obtain ⟨c0, c1⟩ := hg k w hk hw e0 e1 hn _ _ _ _ rfl rfl rfl rfl
  subst e0 e1
  have rl' : dd_Rl (dd_u sh n k) (dd_u hd n (w / 36)) (dd_u ba n (w / 6 % 6)) (dd_u bb n (w % 6)) := dd_Rlu rl hk (by omega) (by omega) (by omega)
  have i1 : vp_in (nI n) 9 := vp_in_nI (by omega) (by omega)
  have n36 : ¬ (36 : Int32) = 0 := by decide
  have n6 : ¬ (6 : Int32) = 0 := by decide
  rw [dd_w1n hw, dd_w2n hw, dd_w3n hw, nI_clamp (n := n) (by omega), dd_nar6 k (by omega), dd_nar6 (w / 36) (by omega), dd_nar6 (w / 6 % 6) (by omega), dd_nar6 (w % 6) (by omega), dd_Nu, dd_Nu, dd_Nu, dd_Nu]
  refine ⟨i1, nm_e ⟨n36, i1, nm_e ⟨n6, n6, i1, nm_e ⟨n6, i1, nm_e (nm_r (nI_1 n) (dd_xfn rl' (by omega) hnd (fun j hj => ?_) (dd_xil rl' (by omega) (fun ly => br_f (by decide) ?_) fun nly => br_t rfl (nm_r (nI_pred n) (dd_xfn rl' h8 (dd_ND_z rl' _) (fun j hj => ?_) (c0 nly))))))⟩⟩⟩⟩
  · show nI (dd_LY sh hd ba bb n j) = 0
    rw [dd_LY_z rl n j hj]
    rfl
  · obtain ⟨rk, ra⟩ := dd_rank rl' ly
    exact dd_xrecompute (dd_LY_St rl' ra) rl' (dd_LY_6 _) (by omega) S fun s' a1 a2 a3 a4 => c1 ly s' a1 a2 a3 a4
  · show nI (dd_LY _ _ _ _ (n + 1) j) = 0
    rw [dd_LY_z rl' (n + 1) j hj]
    rfl
theorem dd_yaddRule {post : Int32 → SY → Prop} {p0 p1 : Int32} {qf qn qb : Nat → Bool} (rl : dd_Rl sh hd ba bb) (h8 : n ≤ 8) (bf6 : dd_B6 qf) (bn6 : dd_B6 qn) (bb6 : dd_B6 qb) (hyl : ∀ j, 6 ≤ j → yl j = 0) (hyn : ∀ j, 6 ≤ j → yn j = 0)
    (hb : ¬ dd_Ok p0 p1 → post (-1) (nI n, dd_N sh, dd_N hd, dd_N ba, dd_N bb, dd_B qf, dd_B qn, dd_B qb, yl, yn))
    (hf : dd_Ok p0 p1 → n = 8 → post (-2) (nI n, dd_N sh, dd_N hd, dd_N ba, dd_N bb, dd_B qf, dd_B qn, dd_B qb, yl, yn))
    (hg : ∀ k w, k ≤ 4 → w ≤ 215 → p0 = nI k → p1 = nI w → n < 8 → ∀ sh' hd' ba' bb', sh' = dd_u sh n k → hd' = dd_u hd n (w / 36) → ba' = dd_u ba n (w / 6 % 6) → bb' = dd_u bb n (w % 6) →
      (¬ dd_Ly sh' hd' bb' (n + 1) (dd_ND sh' hd' ba' bb' (n + 1)) → post (-3) (nI n, dd_N sh', dd_N hd', dd_N ba', dd_N bb', dd_B qf, dd_B qn, dd_B qb, yl, dd_ND sh' hd' ba' bb' (n + 1))) ∧
      (dd_Ly sh' hd' bb' (n + 1) (dd_ND sh' hd' ba' bb' (n + 1)) → ∀ q', dd_B6 q' → dd_Mod sh' hd' ba' bb' (n + 1) (dd_LY sh' hd' ba' bb' (n + 1)) (dd_V qf) (dd_V q') →
        post (nI (n + 1)) (nI (n + 1), dd_N sh', dd_N hd', dd_N ba', dd_N bb', dd_B qf, dd_B q', dd_B qn, dd_N (dd_LY sh' hd' ba' bb' (n + 1)), dd_ND sh' hd' ba' bb' (n + 1)))) :
    wpY_addRule post (nI n, dd_N sh, dd_N hd, dd_N ba, dd_N bb, dd_B qf, dd_B qn, dd_B qb, yl, yn) p0 p1 := by
  unfold wpY_addRule
  refine dd_chk hb fun ok => pk_eq n 8 (fun hn => hf ok hn) (fun hn => ?_)
  obtain ⟨k, w, hk, hw, e0, e1⟩ := ok
  obtain ⟨c0, c1⟩ := hg k w hk hw e0 e1 (by omega) _ _ _ _ rfl rfl rfl rfl
  subst e0 e1
  have rl' : dd_Rl (dd_u sh n k) (dd_u hd n (w / 36)) (dd_u ba n (w / 6 % 6)) (dd_u bb n (w % 6)) := dd_Rlu rl hk (by omega) (by omega) (by omega)
  have i1 : vp_in (nI n) 9 := vp_in_nI (by omega) (by omega)
  have n36 : ¬ (36 : Int32) = 0 := by decide
  have n6 : ¬ (6 : Int32) = 0 := by decide
  rw [dd_w1n hw, dd_w2n hw, dd_w3n hw, nI_clamp (n := n) (by omega), dd_Nu, dd_Nu, dd_Nu, dd_Nu, nI_1]
  refine ⟨i1, nm_e ⟨n36, i1, nm_e ⟨n6, n6, i1, nm_e ⟨n6, i1, nm_e (dd_yl rl' (by omega) hyn (fun ly => br_f (by decide) (nm_r (nI_1 n) ?_)) fun nly => br_t rfl (c0 nly))⟩⟩⟩⟩
  obtain ⟨rk, ra⟩ := dd_rank rl' ly
  exact dd_ysettle rl' ra (by omega) bf6 bn6 bb6 hyl fun q' b1 b2 => c1 ly q' b1 b2
/-- the places from i to k moved down -/
def dd_sf (f : Nat → Nat) (i k : Nat) : Nat → Nat := fun j => if i ≤ j ∧ j < k then f (j + 1) else f j
theorem dd_sf0 (f : Nat → Nat) (i : Nat) : dd_sf f i i = f := by
  funext j
  unfold dd_sf
  rw [if_neg (by omega)]
theorem dd_sf1 (f : Nat → Nat) {i k : Nat} (h : i ≤ k) : dd_u (dd_sf f i k) k (f (k + 1)) = dd_sf f i (k + 1) := by
  funext j
  unfold dd_u dd_sf
  by_cases e : j = k
  · subst e
    rw [if_pos rfl, if_pos (by omega)]
  · rw [if_neg e]
    by_cases e2 : i ≤ j ∧ j < k
    · rw [if_pos e2, if_pos (by omega)]
    · rw [if_neg e2, if_neg (by omega)]
theorem dd_sfk (f : Nat → Nat) (i k : Nat) : dd_sf f i k (k + 1) = f (k + 1) := if_neg (by omega)
theorem dd_sf_Rl (rl : dd_Rl sh hd ba bb) (i k : Nat) : dd_Rl (dd_sf sh i k) (dd_sf hd i k) (dd_sf ba i k) (dd_sf bb i k) := by
  intro j
  unfold dd_sf
  by_cases e : i ≤ j ∧ j < k
  · rw [if_pos e, if_pos e, if_pos e, if_pos e]
    exact rl (j + 1)
  · rw [if_neg e, if_neg e, if_neg e, if_neg e]
    exact rl j
theorem dd_sf_Ra {rk : Nat → Nat} {k : Nat} (ra : dd_Ra sh hd ba bb (k + 1) rk) (i : Nat) : dd_Ra (dd_sf sh i k) (dd_sf hd i k) (dd_sf ba i k) (dd_sf bb i k) k rk := by
  refine ⟨ra.1, fun j hj => ?_⟩
  unfold dd_sf
  by_cases e : i ≤ j ∧ j < k
  · rw [if_pos e, if_pos e, if_pos e, if_pos e]
    exact ra.2 (j + 1) (by omega)
  · rw [if_neg e, if_neg e, if_neg e, if_neg e]
    exact ra.2 j (by omega)
theorem dd_xdropRule {post : Int32 → SX → Prop} {p0 : Int32} {rk : Nat → Nat} (rl : dd_Rl sh hd ba bb) (ra : dd_Ra sh hd ba bb n rk) (h8 : n ≤ 8) (S : dd_A6 s) (hnd : ∀ j, 6 ≤ j → nd j = 0)
    (hb : ¬ (∃ i, i < n ∧ p0 = nI i) → post (-1) (nI n, g, l, dd_N sh, dd_N hd, dd_N ba, dd_N bb, nd, dd_N (dd_LY sh hd ba bb n), s))
    (hg : ∀ i c, i ≤ c → n = c + 1 → p0 = nI i → ∀ sh' hd' ba' bb', sh' = dd_sf sh i c → hd' = dd_sf hd i c → ba' = dd_sf ba i c → bb' = dd_sf bb i c →
      ∀ s', (∀ j, j < 36 → s' j = s j) → dd_A6 s' → (∀ j, j < 36 → s' (72 + j) = s (36 + j)) → dd_Mod sh' hd' ba' bb' c (dd_LY sh' hd' ba' bb' c) (dd_Q s 0) (dd_Q s' 36) →
        post (nI c) (nI c, nI (dd_c (dd_dq s' 36 72) 216), nI (dd_c (dd_dq s' 72 36) 216), dd_N sh', dd_N hd', dd_N ba', dd_N bb', dd_ND sh' hd' ba' bb' c, dd_N (dd_LY sh' hd' ba' bb' c), s')) :
    wpX_dropRule post (nI n, g, l, dd_N sh, dd_N hd, dd_N ba, dd_N bb, nd, dd_N (dd_LY sh hd ba bb n), s) p0 := by
  unfold wpX_dropRule
  refine br_c (fun h => hb fun ⟨i, hi, e⟩ => ?_) fun h0 => br_c (fun h1 => ?_) fun h => hb fun ⟨i, hi, e⟩ => ?_
  · subst e
    exact nI_pos (by omega) h
  · obtain ⟨i, hi31, e⟩ := nI_of h0
    rw [e] at h1 ⊢
    have hi := (nI_ltI hi31 (by omega)).mp h1
    obtain ⟨c, hc⟩ : ∃ c, n = c + 1 := ⟨n - 1, by omega⟩
    have h := hg i c (by omega) hc e _ _ _ _ rfl rfl rfl rfl
    have hz : ∀ j, 6 ≤ j → dd_N (dd_LY sh hd ba bb n) j = 0 := fun j hj => by
      show nI (dd_LY sh hd ba bb n j) = 0
      rw [dd_LY_z rl n j hj]
      rfl
    generalize dd_N (dd_LY sh hd ba bb n) = la at hz
    subst hc
    refine nm_r (nI_pred c) ?_
    refine pk_loop (fun m k (_ : Unit) => wX_dropRule_26 post (nI c) g l m (nI k) (dd_N (dd_sf sh i k)) (dd_N (dd_sf hd i k)) (dd_N (dd_sf ba i k)) (dd_N (dd_sf bb i k)) nd la s) (fun k _ => i ≤ k) c i () (by omega) (Nat.le_refl _) ?_ ?_ |> fun z => ?_
    · rw [dd_sf0, dd_sf0, dd_sf0, dd_sf0] at z
      exact z
    · intro m _ _
      have rl' := dd_sf_Rl rl i c
      exact br_t (nI_le (Nat.le_refl _) (by omega)) (dd_xfn rl' (by omega) hnd hz (dd_xrecompute (dd_LY_St rl' (dd_sf_Ra ra i)) rl' (dd_LY_6 _) (by omega) S fun s' a1 a2 a3 a4 => h s' a1 a2 a3 a4))
    · intro m k _ hk hik hn
      obtain ⟨r1, r2, r3, r4⟩ := rl (k + 1)
      have i1 : vp_in (nI k) 9 := vp_in_nI (by omega) (by omega)
      have i2 : vp_in (nI (k + 1)) 9 := vp_in_nI (by omega) (by omega)
      refine br_f (nI_ge hk (by omega)) ?_
      rw [nI_1 k, nI_clamp (n := k) (by omega), dd_at (dd_sf sh i k) (by omega), dd_at (dd_sf hd i k) (by omega), dd_at (dd_sf ba i k) (by omega), dd_at (dd_sf bb i k) (by omega), dd_sfk, dd_sfk, dd_sfk, dd_sfk, dd_narI _ (by omega), dd_narI _ r2, dd_narI _ r3, dd_narI _ r4, dd_Nu, dd_Nu, dd_Nu, dd_Nu, dd_sf1 sh hik, dd_sf1 hd hik, dd_sf1 ba hik, dd_sf1 bb hik]
      exact ⟨i2, i1, nm_e ⟨i2, i1, nm_e ⟨i2, i1, nm_e ⟨i2, i1, nm_e (nm_e (hn () (by omega)))⟩⟩⟩⟩
  · subst e
    exact h (nI_lt hi (by omega))
theorem dd_ydropRule {post : Int32 → SY → Prop} {p0 : Int32} {qf qn qb : Nat → Bool} {rk : Nat → Nat} (rl : dd_Rl sh hd ba bb) (ra : dd_Ra sh hd ba bb n rk) (h8 : n ≤ 8) (bf6 : dd_B6 qf) (bn6 : dd_B6 qn) (bb6 : dd_B6 qb) (hyl : ∀ j, 6 ≤ j → yl j = 0)
    (hb : ¬ (∃ i, i < n ∧ p0 = nI i) → post (-1) (nI n, dd_N sh, dd_N hd, dd_N ba, dd_N bb, dd_B qf, dd_B qn, dd_B qb, yl, yn))
    (hg : ∀ i c, i ≤ c → n = c + 1 → p0 = nI i → ∀ sh' hd' ba' bb', sh' = dd_sf sh i c → hd' = dd_sf hd i c → ba' = dd_sf ba i c → bb' = dd_sf bb i c →
      ∀ q', dd_B6 q' → dd_Mod sh' hd' ba' bb' c (dd_LY sh' hd' ba' bb' c) (dd_V qf) (dd_V q') → post (nI c) (nI c, dd_N sh', dd_N hd', dd_N ba', dd_N bb', dd_B qf, dd_B q', dd_B qn, dd_N (dd_LY sh' hd' ba' bb' c), yn)) :
    wpY_dropRule post (nI n, dd_N sh, dd_N hd, dd_N ba, dd_N bb, dd_B qf, dd_B qn, dd_B qb, yl, yn) p0 := by
  unfold wpY_dropRule
  refine br_c (fun h => hb fun ⟨i, hi, e⟩ => ?_) fun h0 => br_c (fun h1 => ?_) fun h => hb fun ⟨i, hi, e⟩ => ?_
  · subst e
    exact nI_pos (by omega) h
  · obtain ⟨i, hi31, e⟩ := nI_of h0
    rw [e] at h1 ⊢
    have hi := (nI_ltI hi31 (by omega)).mp h1
    obtain ⟨c, hc⟩ : ∃ c, n = c + 1 := ⟨n - 1, by omega⟩
    have h := hg i c (by omega) hc e _ _ _ _ rfl rfl rfl rfl
    subst hc
    refine pk_loop (fun m k (_ : Unit) => wY_dropRule_16 post (nI (c + 1)) m (nI k) (dd_N (dd_sf sh i k)) (dd_N (dd_sf hd i k)) (dd_N (dd_sf ba i k)) (dd_N (dd_sf bb i k)) (dd_B qf) (dd_B qn) (dd_B qb) yl yn) (fun k _ => i ≤ k) c i () (by omega) (Nat.le_refl _) ?_ ?_ |> fun z => ?_
    · rw [dd_sf0, dd_sf0, dd_sf0, dd_sf0] at z
      exact z
    · intro m _ _
      have rl' := dd_sf_Rl rl i c
      exact br_t (by rw [nI_pred]; exact nI_le (Nat.le_refl _) (by omega)) (nm_r (nI_pred c) (dd_ysettle rl' (dd_sf_Ra ra i) (by omega) bf6 bn6 bb6 hyl fun q' b1 b2 => h q' b1 b2))
    · intro m k _ hk hik hn
      have i1 : vp_in (nI k) 9 := vp_in_nI (by omega) (by omega)
      have i2 : vp_in (nI (k + 1)) 9 := vp_in_nI (by omega) (by omega)
      refine br_f (by rw [nI_pred]; exact nI_ge hk (by omega)) ?_
      rw [nI_1 k, nI_clamp (n := k) (by omega), dd_at (dd_sf sh i k) (by omega), dd_at (dd_sf hd i k) (by omega), dd_at (dd_sf ba i k) (by omega), dd_at (dd_sf bb i k) (by omega), dd_sfk, dd_sfk, dd_sfk, dd_sfk, dd_Nu, dd_Nu, dd_Nu, dd_Nu, dd_sf1 sh hik, dd_sf1 hd hik, dd_sf1 ba hik, dd_sf1 bb hik]
      exact ⟨i2, i1, nm_e ⟨i2, i1, nm_e ⟨i2, i1, nm_e ⟨i2, i1, nm_e (nm_e (hn () (by omega)))⟩⟩⟩⟩
  · subst e
    exact h (nI_lt hi (by omega))
end
end
section
/-! the last two that are owed -/
theorem dd_LYN {sh hd ba bb : Nat → Nat} (rl : dd_Rl sh hd ba bb) (n : Nat) : ∀ j, 6 ≤ j → dd_N (dd_LY sh hd ba bb n) j = 0 := fun j hj => by
  show nI (dd_LY sh hd ba bb n j) = 0
  rw [dd_LY_z rl n j hj]
  rfl
theorem i_vc_addRule {k : Nat} {u : SX} {v : SY} (I : i_Rel k u v) (hk : k + 4 ≤ 2048) (v1 : Int32) (v2 : Int32) : wpX_addRule (fun r u' => wpY_addRule (fun r' v' => r' = r ∧ i_Rel (k + 4) u' v') v v1 v2) u v1 v2 := by
  have I' : i_Rel (k + 4) u v := I
  obtain ⟨n, sh, hd, ba, bb, g, l, nd, s, yl, yn, qb, rk, eu, ev, h8, rl, ra, hnd, hyl, hyn, S, b6, m, hg, hl⟩ := I
  subst eu ev
  refine dd_xaddRule rl h8 S hnd (fun nb => ?_) (fun ok e8 => ?_) fun c w hc hw e0 e1 hn sh' hd' ba' bb' es eh ea eb => ?_
  · exact dd_yaddRule rl h8 (dd_q6 _ _) (dd_q6 _ _) b6 hyl hyn (fun _ => ⟨rfl, I'⟩) (fun ok _ => absurd ok nb) fun c w hc hw e0 e1 => absurd ⟨c, w, hc, hw, e0, e1⟩ nb
  · exact dd_yaddRule rl h8 (dd_q6 _ _) (dd_q6 _ _) b6 hyl hyn (fun nb => absurd ok nb) (fun _ _ => ⟨rfl, I'⟩) fun c w hc hw e0 e1 hn => absurd e8 (by omega)
  · have ok : dd_Ok v1 v2 := ⟨c, w, hc, hw, e0, e1⟩
    have rl' : dd_Rl sh' hd' ba' bb' := by
      subst es eh ea eb
      exact dd_Rlu rl hc (by omega) (by omega) (by omega)
    have same : ∀ c' w', c' ≤ 4 → w' ≤ 215 → v1 = nI c' → v2 = nI w' → c' = c ∧ w' = w := fun c' w' hc' hw' e0' e1' => ⟨(nI_eq (by omega) (by omega)).mp (e0'.symm.trans e0), (nI_eq (by omega) (by omega)).mp (e1'.symm.trans e1)⟩
    refine ⟨fun nly => ?_, fun ly s' a1 a2 a3 a4 => ?_⟩
    · refine dd_yaddRule rl h8 (dd_q6 _ _) (dd_q6 _ _) b6 hyl hyn (fun nb => absurd ok nb) (fun _ e8 => absurd e8 (by omega)) fun c' w' hc' hw' e0' e1' _ sh2 hd2 ba2 bb2 es2 eh2 ea2 eb2 => ?_
      obtain ⟨rfl, rfl⟩ := same c' w' hc' hw' e0' e1'
      obtain rfl := es2.trans es.symm
      obtain rfl := eh2.trans eh.symm
      obtain rfl := ea2.trans ea.symm
      obtain rfl := eb2.trans eb.symm
      refine ⟨fun _ => ⟨rfl, ?_⟩, fun ly => absurd ly nly⟩
      have E : dd_Eq n sh hd ba bb sh2 hd2 ba2 bb2 := by
        rw [es, eh, ea, eb]
        exact dd_Equ sh hd ba bb n _ _ _ _
      refine ⟨n, sh2, hd2, ba2, bb2, g, l, _, s, yl, _, qb, rk, rfl, rfl, h8, rl', dd_Ra_eq E ra, dd_ND_z rl' n, hyl, dd_ND_z rl' (n + 1), S, b6, ?_, hg, hl⟩
      rw [dd_LY_eq E]
      exact dd_Mod_eq E m
    · refine dd_yaddRule rl h8 (dd_q6 _ _) (dd_q6 _ _) b6 hyl hyn (fun nb => absurd ok nb) (fun _ e8 => absurd e8 (by omega)) fun c' w' hc' hw' e0' e1' _ sh2 hd2 ba2 bb2 es2 eh2 ea2 eb2 => ?_
      obtain ⟨rfl, rfl⟩ := same c' w' hc' hw' e0' e1'
      obtain rfl := es2.trans es.symm
      obtain rfl := eh2.trans eh.symm
      obtain rfl := ea2.trans ea.symm
      obtain rfl := eb2.trans eb.symm
      obtain ⟨rk', ra'⟩ := dd_rank rl' ly
      exact ⟨fun nly => absurd ly nly, fun _ q' b1 b2 => ⟨rfl, dd_fin (by omega) rl' ra' (dd_ND_z rl' _) (dd_LYN rl' _) (dd_ND_z rl' _) rfl a1 a2 a3 a4 b1 b2⟩⟩
theorem i_vc_dropRule {k : Nat} {u : SX} {v : SY} (I : i_Rel k u v) (hk : k + 4 ≤ 2048) (v1 : Int32) : wpX_dropRule (fun r u' => wpY_dropRule (fun r' v' => r' = r ∧ i_Rel (k + 4) u' v') v v1) u v1 := by
  have I' : i_Rel (k + 4) u v := I
  obtain ⟨n, sh, hd, ba, bb, g, l, nd, s, yl, yn, qb, rk, eu, ev, h8, rl, ra, hnd, hyl, hyn, S, b6, m, hg, hl⟩ := I
  subst eu ev
  refine dd_xdropRule rl ra h8 S hnd (fun nb => ?_) fun i c hi hc e0 sh' hd' ba' bb' es eh ea eb s' a1 a2 a3 a4 => ?_
  · exact dd_ydropRule rl ra h8 (dd_q6 _ _) (dd_q6 _ _) b6 hyl (fun _ => ⟨rfl, I'⟩) fun i c hi hc e0 => absurd ⟨i, by omega, e0⟩ nb
  · refine dd_ydropRule rl ra h8 (dd_q6 _ _) (dd_q6 _ _) b6 hyl (fun nb => absurd ⟨i, by omega, e0⟩ nb) fun i' c' hi' hc' e0' sh2 hd2 ba2 bb2 es2 eh2 ea2 eb2 q' b1 b2 => ?_
    obtain rfl : c' = c := by omega
    obtain rfl : i' = i := (nI_eq (by omega) (by omega)).mp (e0'.symm.trans e0)
    obtain rfl := es2.trans es.symm
    obtain rfl := eh2.trans eh.symm
    obtain rfl := ea2.trans ea.symm
    obtain rfl := eb2.trans eb.symm
    have rl' : dd_Rl sh2 hd2 ba2 bb2 := by
      rw [es, eh, ea, eb]
      exact dd_sf_Rl rl _ _
    have ra' : dd_Ra sh2 hd2 ba2 bb2 c' rk := by
      rw [es, eh, ea, eb]
      rw [hc] at ra
      exact dd_sf_Ra ra _
    exact ⟨rfl, dd_fin (by omega) rl' ra' (dd_ND_z rl' _) (dd_LYN rl' _) hyn rfl a1 a2 a3 a4 b1 b2⟩
end
