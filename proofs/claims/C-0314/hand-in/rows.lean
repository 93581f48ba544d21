section
/-! rows of the kit (PURE-ROWS, BITS), pasted -/
theorem pk_us {f : Nat → Int32} {k : Nat} {x : Int32} : upd f k x k = x := if_pos rfl
theorem pk_un {f : Nat → Int32} {k j : Nat} {x : Int32} (h : j ≠ k) : upd f k x j = f j := if_neg h
theorem pk_sub {a b : Nat} (h : b ≤ a) : nI a - nI b = nI (a - b) := by
  obtain ⟨c, rfl⟩ : ∃ c, a = c + b := ⟨a - b, by omega⟩
  rw [← nI_add, Int32.add_sub_cancel, Nat.add_sub_cancel]
theorem pk_m1 (n : Nat) : nI (n + 1) + (-1) = nI n := by
  rw [← nI_1, Int32.add_assoc, show (1 : Int32) + (-1) = 0 from rfl, Int32.add_zero]
theorem pk_mul (a b : Nat) : nI a * nI b = nI (a * b) := (Int32.ofNat_mul a b).symm
theorem pk_div {a d : Nat} (ha : a < 2 ^ 31) (h0 : 0 < d) (hd : d < 2 ^ 31) : nI a / nI d = nI (a / d) := by
  apply Int32.toInt_inj.mp
  rw [lg_idiv_nonneg (by rw [nI_toInt ha]; omega) (by rw [nI_toInt hd]; omega), nI_toInt ha, nI_toInt hd, nI_toInt (Nat.lt_of_le_of_lt (Nat.div_le_self a d) ha)]
  first | rfl | exact (Int.natCast_ediv _ _).symm
theorem pk_rem {a d : Nat} (ha : a < 2 ^ 31) (h0 : 0 < d) (hd : d < 2 ^ 31) : nI a - nI a / nI d * nI d = nI (a % d) := by
  rw [pk_div ha h0 hd, pk_mul, pk_sub (Nat.div_mul_le_self a d)]
  exact congrArg nI (by have := Nat.div_add_mod' a d; omega)
theorem pk_ix (x : Int32) {n : Nat} (hn : n < 2 ^ 31) : x < 0 ∨ nI n ≤ x ∨ ∃ j : Nat, j < n ∧ x = nI j := by
  by_cases h : x < 0
  · exact Or.inl h
  · obtain ⟨j, hj, rfl⟩ := nI_of h
    by_cases h2 : j < n
    · exact Or.inr (Or.inr ⟨j, h2, rfl⟩)
    · exact Or.inr (Or.inl (nI_le (by omega) hj))
theorem pk_le {x y : Int32} {A B : Prop} (a b : Nat) (f : a ≤ b → A) (g : b < a → B) (hx : x = nI a := by rfl) (hy : y = nI b := by rfl) (ha : a < 2 ^ 31 := by omega) (hb : b < 2 ^ 31 := by omega) : (x ≤ y → A) ∧ (¬ x ≤ y → B) := by
  subst hx hy
  rw [nI_leI ha hb]
  exact ⟨f, fun z => g (by omega)⟩
theorem pk_lt {x y : Int32} {A B : Prop} (a b : Nat) (f : a < b → A) (g : b ≤ a → B) (hx : x = nI a := by rfl) (hy : y = nI b := by rfl) (ha : a < 2 ^ 31 := by omega) (hb : b < 2 ^ 31 := by omega) : (x < y → A) ∧ (¬ x < y → B) := by
  subst hx hy
  rw [nI_ltI ha hb]
  exact ⟨f, fun z => g (by omega)⟩
theorem pk_eq {x y : Int32} {A B : Prop} (a b : Nat) (f : a = b → A) (g : a ≠ b → B) (hx : x = nI a := by rfl) (hy : y = nI b := by rfl) (ha : a < 2 ^ 31 := by omega) (hb : b < 2 ^ 31 := by omega) : (x = y → A) ∧ (¬ x = y → B) := by
  subst hx hy
  rw [nI_eq ha hb]
  exact ⟨f, g⟩
theorem pk_in {x : Int32} (n N : Nat) (h : n < N) (hx : x = nI n := by rfl) (hN : N < 2 ^ 31 := by omega) : vp_in x N := by
  subst hx
  exact vp_in_nI h hN
theorem pk_cl {x : Int32} (n : Nat) (hx : x = nI n := by rfl) (h : n < 2 ^ 31 := by omega) : x.toNatClampNeg = n := by
  subst hx
  exact nI_clamp h
theorem pk_tn {n : Nat} (h : n < 2 ^ 32) : (nI n).toBitVec.toNat = n := Nat.mod_eq_of_lt h
theorem pk_and (x : Int32) {m : Int32} (k : Nat) (hm : m.toBitVec.toNat = 2 ^ k - 1) : x &&& m = nI (x.toBitVec.toNat % 2 ^ k) := by
  apply Int32.toBitVec_inj.mp
  apply BitVec.eq_of_toNat_eq
  rw [Int32.toBitVec_and, BitVec.toNat_and, hm, Nat.and_two_pow_sub_one_eq_mod]
  show _ = (BitVec.ofNat 32 _).toNat
  rw [BitVec.toNat_ofNat]
  exact (Nat.mod_eq_of_lt (Nat.lt_of_le_of_lt (Nat.mod_le _ _) x.toBitVec.isLt)).symm
theorem pk_andN {n : Nat} (h : n < 2 ^ 32) {m : Int32} (k : Nat) (hm : m.toBitVec.toNat = 2 ^ k - 1) : nI n &&& m = nI (n % 2 ^ k) := by
  rw [pk_and _ k hm, pk_tn h]
theorem pk_shl (a s : Int32) (k : Nat) (hs : (s.toBitVec.smod 32).toNat = k) : (a <<< s).toBitVec.toNat = a.toBitVec.toNat * 2 ^ k % 2 ^ 32 := by
  show (a.toBitVec <<< (s.toBitVec.smod 32).toNat).toNat = _
  rw [hs, BitVec.toNat_shiftLeft, Nat.shiftLeft_eq]
theorem pk_shlN {n : Nat} (s : Int32) (k : Nat) (hs : (s.toBitVec.smod 32).toNat = k) (h : n * 2 ^ k < 2 ^ 32) : nI n <<< s = nI (n * 2 ^ k) := by
  apply Int32.toBitVec_inj.mp
  apply BitVec.eq_of_toNat_eq
  have hn : n < 2 ^ 32 := Nat.lt_of_le_of_lt (Nat.le_mul_of_pos_right n (Nat.two_pow_pos k)) h
  rw [pk_shl _ _ k hs, pk_tn hn, pk_tn h, Nat.mod_eq_of_lt h]
theorem pk_shr (a s : Int32) (k : Nat) (hs : (s.toBitVec.smod 32).toNat = k) : (a >>> s).toInt = a.toInt >>> k := by
  show (a.toBitVec.sshiftRight (s.toBitVec.smod 32).toNat).toInt = _
  rw [hs, BitVec.toInt_sshiftRight]
  rfl
theorem pk_shrN {n : Nat} (h : n < 2 ^ 31) (s : Int32) (k : Nat) (hs : (s.toBitVec.smod 32).toNat = k) : nI n >>> s = nI (n / 2 ^ k) := by
  apply Int32.toInt_inj.mp
  have h2 : n / 2 ^ k ≤ n := Nat.div_le_self _ _
  rw [pk_shr _ _ k hs, nI_toInt h, nI_toInt (by omega), Int.shiftRight_eq_div_pow]
  rfl
theorem pk_vb (z : Int32) : vp_nar .byte z.toInt8.toInt32 = z.toInt8.toInt32 := by rw [vp_nar_byte]; simp
theorem pk_loop {σ : Type} (W : Nat → Nat → σ → Prop) (I : Nat → σ → Prop) (e i0 : Nat) (s : σ) (hi : i0 ≤ e) (h0 : I i0 s) (hx : ∀ n s, I e s → W (n + 1) e s)
    (hs : ∀ n i s, i < e → I i s → (∀ s', I (i + 1) s' → W n (i + 1) s') → W (n + 1) i s) : ∃ n, W n i0 s :=
  ⟨e + 1, loop_i W I e hx hs (e + 1) i0 s hi (by omega) h0⟩
theorem pk_least (P : Nat → Prop) (h : ∃ k, P k) : ∃ k, P k ∧ ∀ j, j < k → ¬ P j := by
  obtain ⟨k, hk⟩ := h
  induction k using Nat.strongRecOn with
  | ind k ih =>
    by_cases e : ∃ j, j < k ∧ P j
    · obtain ⟨j, hj, pj⟩ := e
      exact ih j hj pj
    · exact ⟨k, hk, fun j hj pj => e ⟨j, hj, pj⟩⟩
def bt (x : Int32) (i : Nat) : Bool := x.toBitVec.getLsbD i
theorem b_ext {x y : Int32} (h : ∀ i, i < 32 → bt x i = bt y i) : x = y := Int32.toBitVec_inj.mp (BitVec.eq_of_getLsbD_eq (fun i hi => h i hi))
theorem b_or (x y : Int32) (i : Nat) : bt (x ||| y) i = (bt x i || bt y i) := by unfold bt; rw [Int32.toBitVec_or, BitVec.getLsbD_or]
theorem b_and (x y : Int32) (i : Nat) : bt (x &&& y) i = (bt x i && bt y i) := by unfold bt; rw [Int32.toBitVec_and, BitVec.getLsbD_and]
theorem b_xor (x y : Int32) (i : Nat) : bt (x ^^^ y) i = (bt x i ^^ bt y i) := by unfold bt; rw [Int32.toBitVec_xor, BitVec.getLsbD_xor]
theorem b_big {x : Int32} {i : Nat} (h : 32 ≤ i) : bt x i = false := BitVec.getLsbD_of_ge _ _ h
theorem b_m1 : ∀ i, i < 32 → bt (-1) i = true := by decide +kernel
theorem b_0 (i : Nat) : bt 0 i = false := BitVec.getLsbD_zero
theorem s_l : ∀ n, n < 32 → ((nI n &&& 31).toBitVec.smod 32).toNat = n := by decide +kernel
theorem b_shl (n : Nat) (hn : n < 32) (x : Int32) {i : Nat} (hi : i < 32) : bt (x <<< (nI n &&& 31)) i = (decide (n ≤ i) && bt x (i - n)) := by
  unfold bt
  rw [Int32.toBitVec_shiftLeft]
  show (x.toBitVec <<< ((nI n &&& 31).toBitVec.smod 32).toNat).getLsbD i = _
  rw [s_l n hn, BitVec.getLsbD_shiftLeft]
  rcases Nat.lt_or_ge i n with h | h
  · simp [h, Nat.not_le.mpr h]
  · simp [hi, h, Nat.not_lt.mpr h]
theorem b_sshr (n : Nat) (hn : n < 32) (x : Int32) {i : Nat} (hi : i < 32) : bt (x >>> (nI n &&& 31)) i = if n + i < 32 then bt x (n + i) else bt x 31 := by
  unfold bt
  rw [Int32.toBitVec_shiftRight]
  show (x.toBitVec.sshiftRight ((nI n &&& 31).toBitVec.smod 32).toNat).getLsbD i = _
  rw [s_l n hn, BitVec.getLsbD_sshiftRight, BitVec.msb_eq_getLsbD_last]
  simp [hi]
theorem nx_and (a b : Nat) : nI a &&& nI b = nI (a &&& b) := by
  apply Int32.toBitVec_inj.1
  show BitVec.ofNat 32 a &&& BitVec.ofNat 32 b = BitVec.ofNat 32 (a &&& b)
  apply BitVec.eq_of_getLsbD_eq
  intro i hi
  simp [hi]
theorem nx_xor (a b : Nat) : nI a ^^^ nI b = nI (a ^^^ b) := by
  apply Int32.toBitVec_inj.1
  show BitVec.ofNat 32 a ^^^ BitVec.ofNat 32 b = BitVec.ofNat 32 (a ^^^ b)
  apply BitVec.eq_of_getLsbD_eq
  intro i hi
  simp [hi]
end
section
/-! bits, parity, triangular systems -/
def ss_b (c : Bool) : Int32 := if c = true then 1 else 0
theorem ss_b_t : ss_b true = 1 := rfl
theorem ss_b_f : ss_b false = 0 := rfl
theorem ss_b_inj {a b : Bool} (h : ss_b a = ss_b b) : a = b := by
  revert h; cases a <;> cases b <;> decide
theorem ss_b_xor (a b : Bool) : ss_b a ^^^ ss_b b = ss_b (a ^^ b) := by cases a <;> cases b <;> decide
theorem ss_b_0 {a : Bool} : ss_b a = 0 ↔ a = false := by cases a <;> decide
theorem ss_b_1 {a : Bool} : ss_b a = 1 ↔ a = true := by cases a <;> decide
theorem ss_b_ne2 (a : Bool) : ¬ ss_b a = 2 := by cases a <;> decide
theorem ss_b_nm2 (a : Bool) : ¬ ss_b a = (-2) := by cases a <;> decide
theorem ss_b_nI (a : Bool) : ss_b a = nI a.toNat := by cases a <;> decide
theorem ss_bt1 : ∀ i, i < 32 → bt 1 i = decide (i = 0) := by decide +kernel
theorem ss_btb (c : Bool) (i : Nat) (hi : i < 32) : bt (ss_b c) i = (c && decide (i = 0)) := by
  cases c
  · show bt 0 i = _
    rw [b_0]; rfl
  · show bt 1 i = _
    rw [ss_bt1 i hi]; rfl
theorem ss_bv (x : Int32) {b : Nat} (hb : b < 32) : (x >>> (nI b &&& 31)) &&& 1 = ss_b (bt x b) := by
  apply b_ext
  intro i hi
  rw [b_and, ss_bt1 i hi, ss_btb _ i hi, b_sshr b hb x hi]
  by_cases z : i = 0
  · subst z
    rw [if_pos (by omega)]; rfl
  · rw [decide_eq_false z, Bool.and_false, Bool.and_false]
theorem ss_bv0 (x : Int32) {b : Nat} (hb : b < 32) : ((x >>> (nI b &&& 31)) &&& 1) = 0 ↔ bt x b = false := by
  rw [ss_bv x hb, ss_b_0]
theorem ss_bv1 (x : Int32) {b : Nat} (hb : b < 32) : ((x >>> (nI b &&& 31)) &&& 1) = 1 ↔ bt x b = true := by
  rw [ss_bv x hb, ss_b_1]
theorem ss_btN {j i : Nat} (hi : i < 32) : bt (nI j) i = j.testBit i := by
  show (BitVec.ofNat 32 j).getLsbD i = _
  rw [BitVec.getLsbD_ofNat, decide_eq_true hi, Bool.true_and]
def ss_lo (m : Nat) (x : Int32) : Prop := ∀ i, m ≤ i → bt x i = false
theorem ss_lo_0 (m : Nat) : ss_lo m 0 := fun i _ => b_0 i
theorem ss_lo_xor {m : Nat} {x y : Int32} (hx : ss_lo m x) (hy : ss_lo m y) : ss_lo m (x ^^^ y) := fun i hi => by
  rw [b_xor, hx i hi, hy i hi]; rfl
theorem ss_lo_mono {a b : Nat} {x : Int32} (h : a ≤ b) (hx : ss_lo a x) : ss_lo b x := fun i hi => hx i (by omega)
theorem ss_loN {m j : Nat} (hj : j < 2 ^ m) : ss_lo m (nI j) := fun i hi => by
  by_cases h : i < 32
  · rw [ss_btN h]
    exact Nat.testBit_lt_two_pow (Nat.lt_of_lt_of_le hj (Nat.pow_le_pow_right (by decide) hi))
  · exact b_big (by omega)
theorem ss_lo_of {m : Nat} {x : Int32} (h : ss_lo m x) : ∃ j : Nat, j < 2 ^ m ∧ x = nI j := by
  refine ⟨x.toBitVec.toNat, Nat.lt_pow_two_of_testBit _ (fun i hi => h i hi), ?_⟩
  apply Int32.toBitVec_inj.1
  show x.toBitVec = BitVec.ofNat 32 x.toBitVec.toNat
  simp
theorem ss_btp {b i : Nat} (hb : b < 32) : bt ((1 : Int32) <<< (nI b &&& 31)) i = decide (i = b) := by
  by_cases hi : i < 32
  · rw [b_shl b hb _ hi]
    by_cases h : b ≤ i
    · rw [ss_bt1 (i - b) (by omega), decide_eq_true h, Bool.true_and]
      exact decide_eq_decide.mpr (by omega)
    · rw [decide_eq_false h, decide_eq_false (by omega)]; rfl
  · rw [b_big (by omega), decide_eq_false (by omega)]
theorem ss_lo_p {b m : Nat} (hb : b < 32) (h : b < m) : ss_lo m ((1 : Int32) <<< (nI b &&& 31)) := fun i hi => by
  rw [ss_btp hb, decide_eq_false (by omega)]
theorem ss_pw : ∀ m, m < 31 → (1 : Int32) <<< (nI m &&& 31) = nI (2 ^ m) := by decide +kernel
theorem ss_p8 {m : Nat} (hm : m ≤ 8) : 2 ^ m ≤ 256 := Nat.pow_le_pow_right (by decide) hm
/-! xor over a range -/
def ss_xs (p : Nat → Bool) : Nat → Bool
  | 0 => false
  | n + 1 => ss_xs p n ^^ p n
theorem ss_xs_congr {p q : Nat → Bool} : ∀ {n : Nat}, (∀ i, i < n → p i = q i) → ss_xs p n = ss_xs q n := by
  intro n
  induction n with
  | zero => intro _; rfl
  | succ n ih =>
    intro h
    show (ss_xs p n ^^ p n) = (ss_xs q n ^^ q n)
    rw [ih (fun i hi => h i (by omega)), h n (by omega)]
theorem ss_xs_xor (p q : Nat → Bool) : ∀ n : Nat, ss_xs (fun i => p i ^^ q i) n = (ss_xs p n ^^ ss_xs q n) := by
  intro n
  induction n with
  | zero => rfl
  | succ n ih =>
    show (ss_xs (fun i => p i ^^ q i) n ^^ (p n ^^ q n)) = ((ss_xs p n ^^ p n) ^^ (ss_xs q n ^^ q n))
    rw [ih]
    cases ss_xs p n <;> cases ss_xs q n <;> cases p n <;> cases q n <;> rfl
theorem ss_xs_z {p : Nat → Bool} {a : Nat} : ∀ {d : Nat}, (∀ i, a ≤ i → i < a + d → p i = false) → ss_xs p (a + d) = ss_xs p a := by
  intro d
  induction d with
  | zero => intro _; rfl
  | succ d ih =>
    intro h
    show (ss_xs p (a + d) ^^ p (a + d)) = _
    rw [ih (fun i h1 h2 => h i h1 (by omega)), h (a + d) (by omega) (by omega), Bool.xor_false]
theorem ss_xs_f {p : Nat → Bool} {n : Nat} (h : ∀ i, i < n → p i = false) : ss_xs p n = false := by
  have := ss_xs_z (p := p) (a := 0) (d := n) (fun i _ h2 => h i (by omega))
  rw [Nat.zero_add] at this
  exact this
theorem ss_xs_one {p : Nat → Bool} {k : Nat} : ∀ {n : Nat}, k < n → ss_xs (fun i => decide (i = k) && p i) n = p k := by
  intro n
  induction n with
  | zero => intro h; omega
  | succ n ih =>
    intro h
    show (ss_xs (fun i => decide (i = k) && p i) n ^^ (decide (n = k) && p n)) = p k
    by_cases e : n = k
    · subst e
      rw [ss_xs_f (fun i hi => by rw [decide_eq_false (by omega)]; rfl), decide_eq_true rfl, Bool.true_and, Bool.false_xor]
    · rw [ih (by omega), decide_eq_false e, Bool.false_and, Bool.xor_false]
/-! the parity of f and s -/
def ss_dt (f s : Int32) : Bool := ss_xs (fun i => bt f i && bt s i) 8
theorem ss_dt_c (f s : Int32) : ss_dt f s = ss_dt s f := ss_xs_congr (fun i _ => Bool.and_comm _ _)
theorem ss_dt_x (f g s : Int32) : ss_dt (f ^^^ g) s = (ss_dt f s ^^ ss_dt g s) := by
  unfold ss_dt
  rw [← ss_xs_xor]
  exact ss_xs_congr (fun i _ => by rw [b_xor, Bool.and_xor_distrib_right])
theorem ss_dt_x2 (f s t : Int32) : ss_dt f (s ^^^ t) = (ss_dt f s ^^ ss_dt f t) := by
  rw [ss_dt_c f, ss_dt_x, ss_dt_c s, ss_dt_c t]
theorem ss_dt_0 (s : Int32) : ss_dt 0 s = false := ss_xs_f (fun i _ => by rw [b_0]; rfl)
theorem ss_dt_p {b : Nat} (hb : b < 8) (s : Int32) : ss_dt ((1 : Int32) <<< (nI b &&& 31)) s = bt s b := by
  unfold ss_dt
  rw [ss_xs_congr (q := fun i => decide (i = b) && bt s i) (fun i _ => by rw [ss_btp (by omega)])]
  exact ss_xs_one hb
theorem ss_dt_par (x y : Int32) : ss_xs (bt (x &&& y)) 8 = ss_dt x y := ss_xs_congr (fun i _ => b_and x y i)
theorem ss_dt_lo {m : Nat} (hm : m ≤ 8) {x y : Int32} (h : ss_lo m y) : ss_xs (fun i => bt x i && bt y i) m = ss_dt x y := by
  have e := ss_xs_z (p := fun i => bt x i && bt y i) (a := m) (d := 8 - m) (fun i h1 _ => by rw [h i h1, Bool.and_false])
  rw [show m + (8 - m) = 8 by omega] at e
  exact e.symm
/-! triangular systems -/
def ss_Tri (m : Nat) (eqn rs : Nat → Int32) : Prop := ∀ b, b < m → eqn b = 0 ∨ (ss_lo (b + 1) (eqn b) ∧ bt (eqn b) b = true ∧ ∃ r : Bool, rs b = ss_b r)
def ss_Sol (m : Nat) (eqn rs : Nat → Int32) (s : Int32) : Prop := ∀ b, b < m → eqn b ≠ 0 → ss_b (ss_dt (eqn b) s) = rs b
def ss_cnt (p : Nat → Bool) : Nat → Nat
  | 0 => 0
  | n + 1 => ss_cnt p n + (p n).toNat
theorem ss_cnt_congr {p q : Nat → Bool} : ∀ {n : Nat}, (∀ i, i < n → p i = q i) → ss_cnt p n = ss_cnt q n := by
  intro n
  induction n with
  | zero => intro _; rfl
  | succ n ih =>
    intro h
    show ss_cnt p n + (p n).toNat = ss_cnt q n + (q n).toNat
    rw [ih (fun i hi => h i (by omega)), h n (by omega)]
theorem ss_cnt_add (p : Nat → Bool) (a : Nat) : ∀ b : Nat, ss_cnt p (a + b) = ss_cnt p a + ss_cnt (fun i => p (a + i)) b := by
  intro b
  induction b with
  | zero => rfl
  | succ b ih =>
    show ss_cnt p (a + b) + (p (a + b)).toNat = ss_cnt p a + (ss_cnt (fun i => p (a + i)) b + (p (a + b)).toNat)
    rw [ih]; omega
theorem ss_cnt_sum {p q r : Nat → Bool} : ∀ {n : Nat}, (∀ i, i < n → (p i).toNat + (q i).toNat = (r i).toNat) → ss_cnt p n + ss_cnt q n = ss_cnt r n := by
  intro n
  induction n with
  | zero => intro _; rfl
  | succ n ih =>
    intro h
    have h1 := ih (fun i hi => h i (by omega))
    have h2 := h n (by omega)
    show (ss_cnt p n + (p n).toNat) + (ss_cnt q n + (q n).toNat) = ss_cnt r n + (r n).toNat
    omega
theorem ss_cnt_pos {p : Nat → Bool} : ∀ {n : Nat}, 0 < ss_cnt p n → ∃ i, i < n ∧ p i = true := by
  intro n
  induction n with
  | zero => intro h; exact absurd h (Nat.lt_irrefl 0)
  | succ n ih =>
    intro h
    cases e : p n
    · have h' : 0 < ss_cnt p n := by
        have : ss_cnt p (n + 1) = ss_cnt p n + (p n).toNat := rfl
        rw [this, e] at h
        exact h
      obtain ⟨i, hi, hp⟩ := ih h'
      exact ⟨i, by omega, hp⟩
    · exact ⟨n, by omega, e⟩
theorem ss_cnt_le (p : Nat → Bool) : ∀ n : Nat, ss_cnt p n ≤ n := by
  intro n
  induction n with
  | zero => exact Nat.le_refl 0
  | succ n ih =>
    show ss_cnt p n + (p n).toNat ≤ n + 1
    have : (p n).toNat ≤ 1 := by cases p n <;> decide
    omega
def ss_fre (eqn : Nat → Int32) : Nat → Nat
  | 0 => 0
  | b + 1 => ss_fre eqn b + (if eqn b = 0 then 1 else 0)
theorem ss_fre_le (eqn : Nat → Int32) : ∀ n : Nat, ss_fre eqn n ≤ n := by
  intro n
  induction n with
  | zero => exact Nat.le_refl 0
  | succ n ih =>
    show ss_fre eqn n + (if eqn n = 0 then 1 else 0) ≤ n + 1
    split <;> omega
noncomputable def ss_d (P : Prop) : Bool := @decide P (Classical.propDecidable P)
theorem ss_d_t {P : Prop} : ss_d P = true ↔ P := @decide_eq_true_iff P (Classical.propDecidable P)
theorem ss_d_f {P : Prop} : ss_d P = false ↔ ¬ P := @decide_eq_false_iff_not P (Classical.propDecidable P)
theorem ss_d_c {P Q : Prop} (h : P ↔ Q) : ss_d P = ss_d Q := congrArg ss_d (propext h)
theorem ss_flip : ∀ k, k < 8 → ∀ j, j < 2 ^ k → nI (2 ^ k + j) = nI j ^^^ ((1 : Int32) <<< (nI k &&& 31)) := by decide +kernel
theorem ss_dflip {k j : Nat} (hk : k < 8) (hj : j < 2 ^ k) (f : Int32) : ss_dt f (nI (2 ^ k + j)) = (ss_dt f (nI j) ^^ bt f k) := by
  rw [ss_flip k hk j hj, ss_dt_x2, ss_dt_c f ((1 : Int32) <<< (nI k &&& 31)), ss_dt_p hk]
theorem ss_Sol_s {k : Nat} {eqn rs : Nat → Int32} {s : Int32} : ss_Sol (k + 1) eqn rs s ↔ ss_Sol k eqn rs s ∧ (eqn k ≠ 0 → ss_b (ss_dt (eqn k) s) = rs k) := by
  constructor
  · intro h
    exact ⟨fun b hb => h b (by omega), h k (by omega)⟩
  · intro h b hb
    by_cases e : b = k
    · subst e; exact h.2
    · exact h.1 b (by omega)
theorem ss_Sol_hi {k j : Nat} (hk : k < 8) (hj : j < 2 ^ k) {eqn rs : Nat → Int32} (hT : ss_Tri k eqn rs) : ss_Sol k eqn rs (nI (2 ^ k + j)) ↔ ss_Sol k eqn rs (nI j) := by
  have key : ∀ b, b < k → eqn b ≠ 0 → ss_dt (eqn b) (nI (2 ^ k + j)) = ss_dt (eqn b) (nI j) := by
    intro b hb h0
    rcases hT b hb with z | ⟨z, _⟩
    · exact absurd z h0
    · rw [ss_dflip hk hj, z k (by omega), Bool.xor_false]
  constructor
  · intro h b hb h0
    rw [← key b hb h0]; exact h b hb h0
  · intro h b hb h0
    rw [key b hb h0]; exact h b hb h0
theorem ss_count {eqn rs : Nat → Int32} : ∀ k : Nat, k ≤ 8 → ss_Tri k eqn rs → ss_cnt (fun j => ss_d (ss_Sol k eqn rs (nI j))) (2 ^ k) = 2 ^ ss_fre eqn k := by
  intro k
  induction k with
  | zero =>
    intro _ _
    show 0 + (ss_d (ss_Sol 0 eqn rs (nI 0))).toNat = 1
    have h0 : ss_Sol 0 eqn rs (nI 0) := fun b hb => absurd hb (Nat.not_lt_zero b)
    rw [ss_d_t.mpr h0]
    rfl
  | succ k ih =>
    intro hk hT
    have hT' : ss_Tri k eqn rs := fun b hb => hT b (by omega)
    have ih' := ih (by omega) hT'
    have e2 : 2 ^ (k + 1) = 2 ^ k + 2 ^ k := by rw [Nat.pow_succ]; omega
    rw [e2, ss_cnt_add]
    by_cases h0 : eqn k = 0
    · have ef : ss_fre eqn (k + 1) = ss_fre eqn k + 1 := by
        show ss_fre eqn k + (if eqn k = 0 then 1 else 0) = _
        rw [if_pos h0]
      have a1 : ss_cnt (fun j => ss_d (ss_Sol (k + 1) eqn rs (nI j))) (2 ^ k) = 2 ^ ss_fre eqn k := by
        rw [← ih']
        exact ss_cnt_congr (fun j _ => ss_d_c (ss_Sol_s.trans ⟨fun h => h.1, fun h => ⟨h, fun z => absurd h0 z⟩⟩))
      have a2 : ss_cnt (fun i => ss_d (ss_Sol (k + 1) eqn rs (nI (2 ^ k + i)))) (2 ^ k) = 2 ^ ss_fre eqn k := by
        rw [← ih']
        exact ss_cnt_congr (fun j hj => ss_d_c ((ss_Sol_s.trans ⟨fun h => h.1, fun h => ⟨h, fun z => absurd h0 z⟩⟩).trans (ss_Sol_hi (by omega) hj hT')))
      rw [a1, a2, ef, Nat.pow_succ]
      omega
    · have ef : ss_fre eqn (k + 1) = ss_fre eqn k := by
        show ss_fre eqn k + (if eqn k = 0 then 1 else 0) = _
        rw [if_neg h0]; rfl
      rw [ef, ← ih']
      apply ss_cnt_sum
      intro j hj
      rcases hT k (by omega) with z | ⟨_, zb, r, er⟩
      · exact absurd z h0
      · have fl := ss_dflip (k := k) (j := j) (by omega) hj (eqn k)
        rw [zb, Bool.xor_true] at fl
        by_cases hs : ss_Sol k eqn rs (nI j)
        · rw [ss_d_t.mpr hs]
          have hs2 := (ss_Sol_hi (by omega) hj hT').mpr hs
          by_cases hd : ss_dt (eqn k) (nI j) = r
          · rw [ss_d_t.mpr (ss_Sol_s.mpr ⟨hs, fun _ => by rw [hd, er]⟩), ss_d_f.mpr (fun z => ?_)]
            · rfl
            · have := (ss_Sol_s.mp z).2 h0
              rw [er, fl, hd] at this
              have := ss_b_inj this
              revert this
              cases r <;> decide
          · rw [ss_d_f.mpr (fun z => ?_), ss_d_t.mpr (ss_Sol_s.mpr ⟨hs2, fun _ => ?_⟩)]
            · rfl
            · rw [fl, er]
              revert hd
              cases ss_dt (eqn k) (nI j) <;> cases r <;> decide
            · have := (ss_Sol_s.mp z).2 h0
              rw [er] at this
              exact hd (ss_b_inj this)
        · rw [ss_d_f.mpr hs, ss_d_f.mpr (fun z => hs (ss_Sol_s.mp z).1), ss_d_f.mpr (fun z => hs ((ss_Sol_hi (by omega) hj hT').mp (ss_Sol_s.mp z).1))]
          rfl
theorem ss_ne {m : Nat} (hm : m ≤ 8) {eqn rs : Nat → Int32} (hT : ss_Tri m eqn rs) : ∃ s : Int32, ss_lo m s ∧ ss_Sol m eqn rs s := by
  have h := ss_count m hm hT
  have hp : 0 < ss_cnt (fun j => ss_d (ss_Sol m eqn rs (nI j))) (2 ^ m) := by rw [h]; exact Nat.two_pow_pos _
  obtain ⟨j, hj, e⟩ := ss_cnt_pos hp
  exact ⟨nI j, ss_loN hj, ss_d_t.mp e⟩
theorem ss_top {x : Int32} : ∀ m : Nat, ss_lo m x → x ≠ 0 → ∃ t, t < m ∧ bt x t = true ∧ ss_lo (t + 1) x := by
  intro m
  induction m with
  | zero =>
    intro h h0
    exact absurd (b_ext (fun i _ => by rw [h i (by omega), b_0])) h0
  | succ m ih =>
    intro h h0
    cases e : bt x m
    · have h' : ss_lo m x := by
        intro i hi
        by_cases z : i = m
        · subst z; exact e
        · exact h i (by omega)
      obtain ⟨t, ht, r⟩ := ih h' h0
      exact ⟨t, by omega, r⟩
    · exact ⟨m, by omega, e, h⟩
theorem ss_add {m top : Nat} {eqn rs : Nat → Int32} {rest : Int32} {q : Bool} (hT : ss_Tri m eqn rs) (ht : top < m) (h0 : eqn top = 0) (hl : ss_lo (top + 1) rest) (hb : bt rest top = true) :
    ss_Tri m (upd eqn top rest) (upd rs top (ss_b q)) ∧ ∀ s, ss_Sol m (upd eqn top rest) (upd rs top (ss_b q)) s ↔ (ss_Sol m eqn rs s ∧ ss_dt rest s = q) := by
  have hne : rest ≠ 0 := by
    intro z
    rw [z, b_0] at hb
    exact absurd hb (by decide)
  constructor
  · intro b hbm
    by_cases e : b = top
    · subst e
      rw [pk_us, pk_us]
      exact Or.inr ⟨hl, hb, q, rfl⟩
    · rw [pk_un e, pk_un e]
      exact hT b hbm
  · intro s
    constructor
    · intro h
      refine ⟨fun b hbm hz => ?_, ?_⟩
      · have e : b ≠ top := fun z => hz (by rw [z]; exact h0)
        have := h b hbm
        rw [pk_un e, pk_un e] at this
        exact this hz
      · have := h top ht
        rw [pk_us, pk_us] at this
        exact ss_b_inj (this hne)
    · intro h b hbm
      by_cases e : b = top
      · subst e
        rw [pk_us, pk_us]
        intro _
        rw [h.2]
      · rw [pk_un e, pk_un e]
        exact h.1 b hbm
def ss_Red (m : Nat) (eqn rs : Nat → Int32) (form : Int32) (q : Bool) (rest : Int32) (q' : Bool) : Prop :=
  ss_lo m rest ∧ (∀ b, b < m → eqn b ≠ 0 → bt rest b = false) ∧ ∀ s, ss_Sol m eqn rs s → (ss_dt form s ^^ q) = (ss_dt rest s ^^ q')
theorem ss_both {m : Nat} (hm : m ≤ 8) {eqn rs : Nat → Int32} {form rest : Int32} {q q' : Bool} (hT : ss_Tri m eqn rs) (hR : ss_Red m eqn rs form q rest q') (hne : rest ≠ 0) (v : Bool) :
    ∃ s, ss_lo m s ∧ ss_Sol m eqn rs s ∧ ss_dt form s = v := by
  obtain ⟨h1, h2, h3⟩ := hR
  obtain ⟨t, ht, hb, hl⟩ := ss_top m h1 hne
  have h0 : eqn t = 0 := by
    refine Classical.byContradiction (fun z => ?_)
    rw [h2 t ht z] at hb
    exact absurd hb (by decide)
  obtain ⟨T', S'⟩ := ss_add (q := (v ^^ (q ^^ q'))) hT ht h0 hl hb
  obtain ⟨s, ls, hs⟩ := ss_ne hm T'
  obtain ⟨a, b⟩ := (S' s).mp hs
  refine ⟨s, ls, a, ?_⟩
  have := h3 s a
  rw [b] at this
  revert this
  cases ss_dt form s <;> cases v <;> cases q <;> cases q' <;> decide
end
section
/-! the register, its forms, what fits -/
def ss_st (m : Nat) (tp x : Int32) : Int32 := (x >>> ((1 : Int32) &&& 31)) ||| (ss_b (ss_dt x tp) <<< (nI (m - 1) &&& 31))
def ss_it (m : Nat) (tp s : Int32) : Nat → Int32
  | 0 => s
  | c + 1 => ss_st m tp (ss_it m tp s c)
def ss_V (m : Nat) (tp : Int32) (sh : Nat → Int32) (s : Int32) (c h : Nat) : Bool := ss_dt (ss_it m tp s c) (sh h)
theorem ss_sr1 (x : Int32) {i : Nat} (hi : i < 32) : bt (x >>> ((1 : Int32) &&& 31)) i = if 1 + i < 32 then bt x (1 + i) else bt x 31 := b_sshr 1 (by omega) x hi
theorem ss_bst {m i : Nat} {x tp : Int32} (h1 : 1 ≤ m) (hm : m ≤ 31) (hx : ss_lo m x) (hi : i < 32) :
    bt (ss_st m tp x) i = if i + 1 < m then bt x (i + 1) else if i + 1 = m then ss_dt x tp else false := by
  unfold ss_st
  rw [b_or, ss_sr1 x hi, b_shl (m - 1) (by omega) _ hi]
  by_cases c1 : i + 1 < m
  · rw [if_pos c1, if_pos (by omega), decide_eq_false (by omega), Bool.false_and, Bool.or_false, Nat.add_comm 1 i]
  · rw [if_neg c1]
    have z : (if 1 + i < 32 then bt x (1 + i) else bt x 31) = false := by
      split
      · exact hx _ (by omega)
      · exact hx _ (by omega)
    rw [z, Bool.false_or, ss_btb _ _ (by omega)]
    by_cases c2 : i + 1 = m
    · rw [if_pos c2, decide_eq_true (by omega), decide_eq_true (by omega), Bool.true_and, Bool.and_true]
    · rw [if_neg c2, decide_eq_false (p := i - (m - 1) = 0) (by omega), Bool.and_false, Bool.and_false]
theorem ss_lst {m : Nat} {x tp : Int32} (h1 : 1 ≤ m) (hm : m ≤ 31) (hx : ss_lo m x) : ss_lo m (ss_st m tp x) := by
  intro i hi
  by_cases h : i < 32
  · rw [ss_bst h1 hm hx h, if_neg (by omega), if_neg (by omega)]
  · exact b_big (by omega)
theorem ss_lit {m : Nat} {s tp : Int32} (h1 : 1 ≤ m) (hm : m ≤ 31) (hs : ss_lo m s) : ∀ c : Nat, ss_lo m (ss_it m tp s c) := by
  intro c
  induction c with
  | zero => exact hs
  | succ c ih => exact ss_lst h1 hm ih
def ss_sf (x : Int32) (bf : Nat → Int32) : Nat → Int32
  | 0 => 0
  | b + 1 => if bt x b = true then ss_sf x bf b ^^^ bf b else ss_sf x bf b
theorem ss_sf_lo {m : Nat} {x : Int32} {bf : Nat → Int32} : ∀ k : Nat, (∀ b, b < k → ss_lo m (bf b)) → ss_lo m (ss_sf x bf k) := by
  intro k
  induction k with
  | zero => intro _; exact ss_lo_0 m
  | succ k ih =>
    intro h
    have ih' := ih (fun b hb => h b (by omega))
    show ss_lo m (if bt x k = true then ss_sf x bf k ^^^ bf k else ss_sf x bf k)
    split
    · exact ss_lo_xor ih' (h k (by omega))
    · exact ih'
theorem ss_sf_dt {x s : Int32} {bf : Nat → Int32} : ∀ k : Nat, ss_dt (ss_sf x bf k) s = ss_xs (fun b => bt x b && ss_dt (bf b) s) k := by
  intro k
  induction k with
  | zero => exact ss_dt_0 s
  | succ k ih =>
    show ss_dt (if bt x k = true then ss_sf x bf k ^^^ bf k else ss_sf x bf k) s = (ss_xs (fun b => bt x b && ss_dt (bf b) s) k ^^ (bt x k && ss_dt (bf k) s))
    cases e : bt x k
    · rw [if_neg (by decide), ih, Bool.false_and, Bool.xor_false]
    · rw [if_pos rfl, ss_dt_x, ih, Bool.true_and]
def ss_BF (m : Nat) (tp : Int32) (c : Nat) (bf : Nat → Int32) : Prop := ∀ b, b < m → ss_lo m (bf b) ∧ ∀ s, ss_lo m s → ss_dt (bf b) s = bt (ss_it m tp s c) b
def ss_FR (m : Nat) (tp : Int32) (sh : Nat → Int32) (k : Nat) (fo : Nat → Int32) : Prop := ∀ i, i < k → ss_lo m (fo i) ∧ ∀ s, ss_lo m s → ss_dt (fo i) s = ss_V m tp sh s (i / 4) (i % 4)
theorem ss_BF_sf {m c : Nat} {tp x : Int32} {bf : Nat → Int32} (h1 : 1 ≤ m) (hm : m ≤ 8) (h : ss_BF m tp c bf) :
    ss_lo m (ss_sf x bf m) ∧ ∀ s, ss_lo m s → ss_dt (ss_sf x bf m) s = ss_dt (ss_it m tp s c) x := by
  refine ⟨ss_sf_lo m (fun b hb => (h b hb).1), fun s hs => ?_⟩
  rw [ss_sf_dt, ss_dt_c _ x, ← ss_dt_lo hm (ss_lit h1 (by omega) hs c)]
  exact ss_xs_congr (fun i hi => by rw [(h i hi).2 s hs])
theorem ss_BF_0 {m : Nat} {tp : Int32} {bf : Nat → Int32} (hm : m ≤ 8) (h : ∀ b, b < m → bf b = (1 : Int32) <<< (nI b &&& 31)) : ss_BF m tp 0 bf := by
  intro b hb
  rw [h b hb]
  exact ⟨ss_lo_p (by omega) hb, fun s _ => ss_dt_p (by omega) s⟩
theorem ss_BF_s {m c : Nat} {tp : Int32} {bf bf' : Nat → Int32} (h1 : 1 ≤ m) (hm : m ≤ 8) (h : ss_BF m tp c bf)
    (e1 : ∀ b, b + 1 < m → bf' b = bf (b + 1)) (e2 : bf' (m - 1) = ss_sf tp bf m) : ss_BF m tp (c + 1) bf' := by
  intro b hb
  by_cases z : b + 1 < m
  · rw [e1 b z]
    refine ⟨(h _ z).1, fun s hs => ?_⟩
    rw [(h _ z).2 s hs]
    show _ = bt (ss_st m tp (ss_it m tp s c)) b
    rw [ss_bst h1 (by omega) (ss_lit h1 (by omega) hs c) (by omega), if_pos z]
  · have zb : b = m - 1 := by omega
    have q := ss_BF_sf (x := tp) h1 hm h
    rw [zb, e2]
    refine ⟨q.1, fun s hs => ?_⟩
    rw [q.2 s hs]
    show _ = bt (ss_st m tp (ss_it m tp s c)) (m - 1)
    rw [ss_bst h1 (by omega) (ss_lit h1 (by omega) hs c) (by omega), if_neg (by omega), if_pos (by omega)]
def ss_FitK (m : Nat) (tp : Int32) (sh wt : Nat → Int32) (set k : Nat) (s : Int32) : Prop :=
  ∀ i, i < k → set.testBit (i / 64) = true → wt i ≠ 2 → ss_b (ss_V m tp sh s (i % 64 / 4) (i % 64 % 4)) = wt i
def ss_Fit (m : Nat) (tp : Int32) (sh wt : Nat → Int32) (set : Nat) (s : Int32) : Prop := ss_FitK m tp sh wt set 384 s
theorem ss_FitK_0 {m : Nat} {tp : Int32} {sh wt : Nat → Int32} {set : Nat} {s : Int32} : ss_FitK m tp sh wt set 0 s := fun i hi => absurd hi (Nat.not_lt_zero i)
theorem ss_FitK_s {m : Nat} {tp : Int32} {sh wt : Nat → Int32} {set k : Nat} {s : Int32} : ss_FitK m tp sh wt set (k + 1) s ↔
    ss_FitK m tp sh wt set k s ∧ (set.testBit (k / 64) = true → wt k ≠ 2 → ss_b (ss_V m tp sh s (k % 64 / 4) (k % 64 % 4)) = wt k) := by
  constructor
  · intro h
    exact ⟨fun i hi => h i (by omega), h k (by omega)⟩
  · intro h i hi
    by_cases e : i = k
    · subst e; exact h.2
    · exact h.1 i (by omega)
theorem ss_Fit_K {m : Nat} {tp : Int32} {sh wt : Nat → Int32} {set k : Nat} {s : Int32} (hk : k ≤ 384) (h : ss_Fit m tp sh wt set s) : ss_FitK m tp sh wt set k s := fun i hi => h i (by omega)
/-- what solve leaves -/
def ss_Out (m : Nat) (tp : Int32) (sh wt : Nat → Int32) (set : Nat) (r : Int32) (eqn rs : Nat → Int32) : Prop :=
  (r = 1 ∧ ss_Tri m eqn rs ∧ ∀ s, ss_lo m s → (ss_Sol m eqn rs s ↔ ss_Fit m tp sh wt set s)) ∨ (r = 0 ∧ ∀ s, ss_lo m s → ¬ ss_Fit m tp sh wt set s)
def ss_W (wt : Nat → Int32) : Prop := ∀ i, i < 384 → wt i = 2 ∨ ∃ q : Bool, wt i = ss_b q
/-- one group: some seed fits -/
def ss_G (m : Nat) (tp : Int32) (sh wt : Nat → Int32) (set : Nat) : Prop := ∃ j, j < 2 ^ m ∧ ss_Fit m tp sh wt set (nI j)
theorem ss_Out_G {m : Nat} (hm : m ≤ 8) {tp : Int32} {sh wt : Nat → Int32} {set : Nat} {r : Int32} {eqn rs : Nat → Int32} (h : ss_Out m tp sh wt set r eqn rs) :
    (r = 1 ∧ ss_G m tp sh wt set) ∨ (r = 0 ∧ ¬ ss_G m tp sh wt set) := by
  rcases h with ⟨h1, h2, h3⟩ | ⟨h1, h2⟩
  · obtain ⟨s, ls, hs⟩ := ss_ne hm h2
    obtain ⟨j, hj, rfl⟩ := ss_lo_of ls
    exact Or.inl ⟨h1, j, hj, (h3 _ ls).mp hs⟩
  · exact Or.inr ⟨h1, fun ⟨j, hj, hf⟩ => h2 _ (ss_loN hj) hf⟩
end
section
/-! sets of cubes as numbers below 64, splits into groups -/
def sg_in (g s : Nat) : Prop := ∀ i, g.testBit i = true → s.testBit i = true
theorem sg_in_iff {g s : Nat} : sg_in g s ↔ g &&& s = g := by
  constructor
  · intro h
    apply Nat.eq_of_testBit_eq
    intro i
    rw [Nat.testBit_and]
    have := h i
    revert this
    cases g.testBit i <;> cases s.testBit i <;> simp
  · intro h i hi
    rw [← h, Nat.testBit_and] at hi
    revert hi
    cases g.testBit i <;> cases s.testBit i <;> simp
theorem sg_le {g s : Nat} (h : sg_in g s) : g ≤ s := by
  have e := sg_in_iff.mp h
  have := Nat.and_le_right (n := g) (m := s)
  omega
theorem sg_x {g s : Nat} (h : sg_in g s) (i : Nat) : (s ^^^ g).testBit i = (s.testBit i && !g.testBit i) := by
  rw [Nat.testBit_xor]
  have := h i
  revert this
  cases g.testBit i <;> cases s.testBit i <;> simp
theorem sg_xin {g s : Nat} (h : sg_in g s) : sg_in (s ^^^ g) s := by
  intro i hi
  rw [sg_x h] at hi
  revert hi
  cases s.testBit i <;> simp
theorem sg_xlt {g s : Nat} (h : sg_in g s) (h0 : g ≠ 0) : s ^^^ g < s := by
  have h1 := sg_le (sg_xin h)
  have h2 : s ^^^ g ≠ s := by
    intro e
    apply h0
    apply Nat.eq_of_testBit_eq
    intro i
    have e2 : (s ^^^ g).testBit i = s.testBit i := by rw [e]
    rw [Nat.testBit_xor] at e2
    rw [Nat.zero_testBit]
    revert e2
    cases g.testBit i <;> cases s.testBit i <;> simp
  omega
theorem sg_xc (s a b : Nat) : s ^^^ a ^^^ b = s ^^^ b ^^^ a := by
  rw [Nat.xor_assoc, Nat.xor_assoc, Nat.xor_comm a b]
theorem sg_xx (s a : Nat) : s ^^^ a ^^^ a = s := by
  rw [Nat.xor_assoc, Nat.xor_self, Nat.xor_zero]
/-- two disjoint parts: b lies in s without a, then a lies in s without b -/
theorem sg_sw {s a b : Nat} (ha : sg_in a s) (hb : sg_in b (s ^^^ a)) : sg_in b s ∧ sg_in a (s ^^^ b) := by
  have h1 : sg_in b s := fun i hi => sg_xin ha i (hb i hi)
  refine ⟨h1, fun i hi => ?_⟩
  rw [sg_x h1]
  have q1 := ha i hi
  have q2 := hb i
  rw [sg_x ha] at q2
  revert q1 q2 hi
  cases a.testBit i <;> cases b.testBit i <;> cases s.testBit i <;> simp
theorem sg_bit {g : Nat} (h : g ≠ 0) : ∃ i, g.testBit i = true := by
  refine Classical.byContradiction (fun z => h ?_)
  apply Nat.eq_of_testBit_eq
  intro i
  rw [Nat.zero_testBit]
  cases e : g.testBit i
  · rfl
  · exact absurd ⟨i, e⟩ z
def sg_Pt (G : Nat → Prop) : Nat → Nat → Prop
  | 0, s => s = 0
  | k + 1, s => ∃ g, g ≠ 0 ∧ sg_in g s ∧ G g ∧ sg_Pt G k (s ^^^ g)
theorem sg_Pt_le {G : Nat → Prop} : ∀ k s : Nat, sg_Pt G k s → k ≤ s := by
  intro k
  induction k with
  | zero => intro s _; omega
  | succ k ih =>
    intro s h
    obtain ⟨g, g0, gi, _, hp⟩ := h
    have := ih _ hp
    have := sg_xlt gi g0
    omega
theorem sg_ex {G : Nat → Prop} {j : Nat} : ∀ k s : Nat, s.testBit j = true → sg_Pt G (k + 1) s → ∃ g, g.testBit j = true ∧ sg_in g s ∧ G g ∧ sg_Pt G k (s ^^^ g) := by
  intro k
  induction k with
  | zero =>
    intro s hj h
    obtain ⟨g, g0, gi, gg, hp⟩ := h
    have hz : s ^^^ g = 0 := hp
    have e := sg_x gi j
    rw [hz, Nat.zero_testBit, hj] at e
    refine ⟨g, ?_, gi, gg, hp⟩
    revert e
    cases g.testBit j <;> simp
  | succ k ih =>
    intro s hj h
    obtain ⟨g, g0, gi, gg, hp⟩ := h
    cases e : g.testBit j
    · have hj' : (s ^^^ g).testBit j = true := by rw [sg_x gi, hj, e]; rfl
      obtain ⟨g', bj, gi', gg', hp'⟩ := ih (s ^^^ g) hj' hp
      obtain ⟨q1, q2⟩ := sg_sw gi gi'
      refine ⟨g', bj, q1, gg', g, g0, q2, gg, ?_⟩
      rw [sg_xc]; exact hp'
    · exact ⟨g, e, gi, gg, hp⟩
/-! the reference's way: parts in ascending order -/
def sg_Q (ok : Nat → Prop) : Nat → Nat → Nat → Prop
  | 0, k, s => k = 0 ∧ s = 0
  | p + 1, k, s => sg_Q ok p k s ∨ (ok (p + 1) ∧ sg_in (p + 1) s ∧ ∃ k', k = k' + 1 ∧ sg_Q ok p k' (s ^^^ (p + 1)))
theorem sg_Q_0 {ok : Nat → Prop} : ∀ p : Nat, sg_Q ok p 0 0 := by
  intro p
  induction p with
  | zero => exact ⟨rfl, rfl⟩
  | succ p ih => exact Or.inl ih
theorem sg_Q_Pt {ok G : Nat → Prop} (hG : ∀ g, ok g → G g) : ∀ p k s : Nat, sg_Q ok p k s → sg_Pt G k s := by
  intro p
  induction p with
  | zero =>
    intro k s h
    obtain ⟨rfl, rfl⟩ := h
    exact rfl
  | succ p ih =>
    intro k s h
    rcases h with h | ⟨h1, h2, k', rfl, h3⟩
    · exact ih k s h
    · exact ⟨p + 1, by omega, h2, hG _ h1, ih _ _ h3⟩
theorem sg_Q_ins {ok : Nat → Prop} {g : Nat} (g0 : g ≠ 0) (og : ok g) : ∀ p k s : Nat, g ≤ p → sg_in g s → sg_Q ok p k (s ^^^ g) → sg_Q ok p (k + 1) s := by
  intro p
  induction p with
  | zero => intro k s h; omega
  | succ p ih =>
    intro k s hp gi h
    rcases h with h | ⟨h1, h2, k', rfl, h3⟩
    · by_cases e : g = p + 1
      · subst e
        exact Or.inr ⟨og, gi, k, rfl, h⟩
      · exact Or.inl (ih k s (by omega) gi h)
    · obtain ⟨q1, q2⟩ := sg_sw gi h2
      have e : g ≠ p + 1 := by
        intro z
        obtain ⟨i, hi⟩ := sg_bit g0
        have := q2 i hi
        rw [sg_x q1, ← z, hi] at this
        revert this
        cases s.testBit i <;> simp
      refine Or.inr ⟨h1, q1, k' + 1, rfl, ih k' (s ^^^ (p + 1)) (by omega) q2 ?_⟩
      rw [sg_xc]; exact h3
theorem sg_Pt_Q {ok G : Nat → Prop} : ∀ k s : Nat, s < 64 → (∀ g, sg_in g s → G g → ok g) → sg_Pt G k s → sg_Q ok 63 k s := by
  intro k
  induction k with
  | zero =>
    intro s _ _ h
    have : s = 0 := h
    subst this
    exact sg_Q_0 63
  | succ k ih =>
    intro s hs ho h
    obtain ⟨g, g0, gi, gg, hp⟩ := h
    have hl := sg_le gi
    have hx := sg_xlt gi g0
    exact sg_Q_ins g0 (ho g gi gg) 63 k s (by omega) gi (ih _ (by omega) (fun h hi hg => ho h (fun i z => sg_xin gi i (hi i z)) hg) hp)
/-- v is the least k with R k, 100 for none -/
def sg_L (R : Nat → Prop) (v : Nat) : Prop := v ≤ 100 ∧ (v < 100 → R v) ∧ ∀ j, j < v → ¬ R j
theorem sg_L_iff {R R' : Nat → Prop} {v : Nat} (h : ∀ k, R k ↔ R' k) (hL : sg_L R v) : sg_L R' v :=
  ⟨hL.1, fun z => (h v).mp (hL.2.1 z), fun j hj z => hL.2.2 j hj ((h j).mpr z)⟩
theorem sg_L_no {ok : Nat → Prop} {p t v : Nat} (h : ¬ (ok (p + 1) ∧ sg_in (p + 1) t)) (hL : sg_L (fun k => sg_Q ok p k t) v) : sg_L (fun k => sg_Q ok (p + 1) k t) v :=
  sg_L_iff (fun k => ⟨fun z => Or.inl z, fun z => z.elim id (fun y => absurd ⟨y.1, y.2.1⟩ h)⟩) hL
theorem sg_L_new {ok : Nat → Prop} {p t v w : Nat} (ho : ok (p + 1)) (hi : sg_in (p + 1) t) (hv : sg_L (fun k => sg_Q ok p k t) v) (hw : sg_L (fun k => sg_Q ok p k (t ^^^ (p + 1))) w) (h : w + 1 < v) :
    sg_L (fun k => sg_Q ok (p + 1) k t) (w + 1) := by
  have h1 := hv.1
  refine ⟨by omega, fun _ => Or.inr ⟨ho, hi, w, rfl, hw.2.1 (by omega)⟩, fun j hj z => ?_⟩
  rcases z with z | ⟨_, _, k', e, z⟩
  · exact hv.2.2 j (by omega) z
  · exact hw.2.2 k' (by omega) z
theorem sg_L_old {ok : Nat → Prop} {p t v w : Nat} (hv : sg_L (fun k => sg_Q ok p k t) v) (hw : sg_L (fun k => sg_Q ok p k (t ^^^ (p + 1))) w) (h : v ≤ w + 1) :
    sg_L (fun k => sg_Q ok (p + 1) k t) v := by
  refine ⟨hv.1, fun z => Or.inl (hv.2.1 z), fun j hj z => ?_⟩
  rcases z with z | ⟨_, _, k', e, z⟩
  · exact hv.2.2 j hj z
  · exact hw.2.2 k' (by omega) z
theorem sg_L_0 {ok : Nat → Prop} : sg_L (fun k => sg_Q ok 0 k 0) 0 := ⟨by omega, fun _ => ⟨rfl, rfl⟩, fun j hj => by omega⟩
theorem sg_L_100 {ok : Nat → Prop} {s : Nat} (h : s ≠ 0) : sg_L (fun k => sg_Q ok 0 k s) 100 := ⟨by omega, fun z => by omega, fun j _ z => h z.2⟩
/-- the answer for a set: the least number of groups, or -2 -/
def sg_N (G : Nat → Prop) (s : Nat) (x : Int32) : Prop :=
  (∃ k, k ≤ 63 ∧ x = nI k ∧ sg_Pt G k s ∧ ∀ j, j < k → ¬ sg_Pt G j s) ∨ (x = -2 ∧ ∀ k, ¬ sg_Pt G k s)
theorem sg_N_u {G : Nat → Prop} {s : Nat} {x y : Int32} (hx : sg_N G s x) (hy : sg_N G s y) : x = y := by
  rcases hx with ⟨k, _, rfl, p1, p2⟩ | ⟨rfl, p1⟩
  · rcases hy with ⟨j, _, rfl, q1, q2⟩ | ⟨rfl, q1⟩
    · have : k = j := by
        rcases Nat.lt_trichotomy k j with z | z | z
        · exact absurd p1 (q2 k z)
        · exact z
        · exact absurd q1 (p2 j z)
      rw [this]
    · exact absurd p1 (q1 k)
  · rcases hy with ⟨j, _, rfl, q1, q2⟩ | ⟨rfl, q1⟩
    · exact absurd q1 (p1 j)
    · rfl
theorem sg_L_N {ok G : Nat → Prop} {s v : Nat} (hs : s < 64) (h1 : ∀ g, ok g → G g) (h2 : ∀ g, sg_in g s → G g → ok g) (hL : sg_L (fun k => sg_Q ok 63 k s) v) :
    (v < 100 → sg_N G s (nI v)) ∧ (v = 100 → sg_N G s (-2)) := by
  constructor
  · intro hv
    have hp := sg_Q_Pt h1 _ _ _ (hL.2.1 hv)
    have := sg_Pt_le _ _ hp
    exact Or.inl ⟨v, by omega, rfl, hp, fun j hj z => hL.2.2 j hj (sg_Pt_Q j s hs h2 z)⟩
  · intro hv
    refine Or.inr ⟨rfl, fun k z => hL.2.2 k ?_ (sg_Pt_Q k s hs h2 z)⟩
    have := sg_Pt_le _ _ z
    omega
/-! the other way: the lowest cube's group, subsets in descending order; all above g are done -/
def sg_B (G : Nat → Prop) (set j g : Nat) (x : Int32) : Prop :=
  (x = -2 ∧ ∀ h k, g < h → sg_in h set → h.testBit j = true → G h → ¬ sg_Pt G k (set ^^^ h)) ∨
  (∃ b, b ≤ 63 ∧ x = nI (b + 1) ∧ sg_Pt G (b + 1) set ∧ ∀ h k, g < h → sg_in h set → h.testBit j = true → G h → sg_Pt G k (set ^^^ h) → b ≤ k)
def sg_ck (s g : Nat) : Bool := g == 0 || (g &&& s) != g || (List.range g).all (fun h => !(decide ((g - 1) &&& s < h)) || ((h &&& s) != h))
theorem sg_ck_all : ∀ s, s < 64 → ∀ g, g < 64 → sg_ck s g = true := by decide +kernel
theorem sg_bw {s g h : Nat} (hs : s < 64) (hg : g < 64) (g0 : g ≠ 0) (e : g &&& s = g) (hh : h < g) (hb : (g - 1) &&& s < h) : h &&& s ≠ h := by
  have k := sg_ck_all s hs g hg
  unfold sg_ck at k
  rw [Bool.or_eq_true, Bool.or_eq_true] at k
  rcases k with (k | k) | k
  · exact absurd (beq_iff_eq.mp k) g0
  · exact absurd e (bne_iff_ne.mp k)
  · have k2 := List.all_eq_true.mp k h (List.mem_range.mpr hh)
    rw [decide_eq_true hb] at k2
    exact bne_iff_ne.mp k2
theorem sg_nx {s g h : Nat} (hs : s < 64) (gi : sg_in g s) (g0 : g ≠ 0) (hi : sg_in h s) (hh : (g - 1) &&& s < h) : g < h ∨ h = g := by
  have hl := sg_le gi
  rcases Nat.lt_trichotomy g h with z | z | z
  · exact Or.inl z
  · exact Or.inr z.symm
  · exact absurd (sg_in_iff.mp hi) (sg_bw hs (by omega) g0 (sg_in_iff.mp gi) z hh)
theorem sg_B_0 {G : Nat → Prop} {set j : Nat} : sg_B G set j set (-2) :=
  Or.inl ⟨rfl, fun h k hh hi => absurd (sg_le hi) (by omega)⟩
/-- g gives nothing -/
theorem sg_B_skip {G : Nat → Prop} {set j g : Nat} {x : Int32} (hs : set < 64) (gi : sg_in g set) (g0 : g ≠ 0) (hB : sg_B G set j g x)
    (hn : g.testBit j = true → G g → ∀ k, ¬ sg_Pt G k (set ^^^ g)) : sg_B G set j ((g - 1) &&& set) x := by
  rcases hB with ⟨e, hB⟩ | ⟨b, hb, e, hp, hB⟩
  · refine Or.inl ⟨e, fun h k hh hi hj hg => ?_⟩
    rcases sg_nx hs gi g0 hi hh with z | z
    · exact hB h k z hi hj hg
    · subst z; exact hn hj hg k
  · refine Or.inr ⟨b, hb, e, hp, fun h k hh hi hj hg hk => ?_⟩
    rcases sg_nx hs gi g0 hi hh with z | z
    · exact hB h k z hi hj hg hk
    · subst z; exact absurd hk (hn hj hg k)
/-- g gives r, no better than b -/
theorem sg_B_keep {G : Nat → Prop} {set j g b r : Nat} (hs : set < 64) (gi : sg_in g set) (g0 : g ≠ 0) (hb63 : b < 2 ^ 31 - 1) (hB : sg_B G set j g (nI (b + 1)))
    (hr : ∀ k, k < r → ¬ sg_Pt G k (set ^^^ g)) (hbr : b ≤ r) : sg_B G set j ((g - 1) &&& set) (nI (b + 1)) := by
  rcases hB with ⟨e, _⟩ | ⟨b', hb, e, hp, hB⟩
  · exfalso
    have h1 : (nI (b + 1)).toInt = ((b + 1 : Nat) : Int) := nI_toInt (by omega)
    rw [e] at h1
    have h2 : (-2 : Int32).toInt = -2 := by decide
    rw [h2] at h1
    omega
  · have : b + 1 = b' + 1 := (nI_eq (by omega) (by omega)).mp e
    refine Or.inr ⟨b', hb, e, hp, fun h k hh hi hj hg hk => ?_⟩
    rcases sg_nx hs gi g0 hi hh with z | z
    · exact hB h k z hi hj hg hk
    · subst z
      rcases Nat.lt_or_ge k r with y | y
      · exact absurd hk (hr k y)
      · omega
/-- g gives r, the best so far -/
theorem sg_B_new {G : Nat → Prop} {set j g r : Nat} {x : Int32} (hs : set < 64) (gi : sg_in g set) (g0 : g ≠ 0) (hG : G g) (hr63 : r ≤ 63) (hB : sg_B G set j g x)
    (hp : sg_Pt G r (set ^^^ g)) (hr : ∀ k, k < r → ¬ sg_Pt G k (set ^^^ g)) (hbr : ∀ b, b ≤ 63 → x = nI (b + 1) → r ≤ b) : sg_B G set j ((g - 1) &&& set) (nI (r + 1)) := by
  refine Or.inr ⟨r, hr63, rfl, ⟨g, g0, gi, hG, hp⟩, fun h k hh hi hj hg hk => ?_⟩
  rcases sg_nx hs gi g0 hi hh with z | z
  · rcases hB with ⟨_, hB⟩ | ⟨b, hb, e, _, hB⟩
    · exact absurd hk (hB h k z hi hj hg)
    · have := hbr b hb e
      have := hB h k z hi hj hg hk
      omega
  · subst z
    rcases Nat.lt_or_ge k r with y | y
    · exact absurd hk (hr k y)
    · exact y
theorem sg_B_end {G : Nat → Prop} {set j : Nat} {x : Int32} (hs : set < 64) (hj : set.testBit j = true) (hB : sg_B G set j 0 x) : sg_N G set x := by
  have h0 : ∀ h : Nat, h.testBit j = true → 0 < h := by
    intro h hh
    rcases Nat.eq_zero_or_pos h with z | z
    · rw [z, Nat.zero_testBit] at hh
      exact absurd hh (by decide)
    · exact z
  have hset := h0 set hj
  have hz : ¬ sg_Pt G 0 set := fun z => by
    have : set = 0 := z
    omega
  rcases hB with ⟨e, hB⟩ | ⟨b, hb, e, hp, hB⟩
  · refine Or.inr ⟨e, fun k => ?_⟩
    cases k with
    | zero => exact hz
    | succ k =>
      intro z
      obtain ⟨h, bj, hi, hg, hk⟩ := sg_ex k set hj z
      exact hB h k (h0 h bj) hi bj hg hk
  · have := sg_Pt_le _ _ hp
    refine Or.inl ⟨b + 1, by omega, e, hp, fun k hk => ?_⟩
    cases k with
    | zero => exact hz
    | succ k =>
      intro z
      obtain ⟨h, bj, hi, hg, hk'⟩ := sg_ex k set hj z
      have := hB h k (h0 h bj) hi bj hg hk'
      omega
/-! the same in ints -/
theorem sg_low : ∀ s, s < 64 → s ≠ 0 → ∃ j, j < 6 ∧ nI s &&& (-(nI s)) = nI (2 ^ j) ∧ s.testBit j = true := by decide +kernel
theorem sg_land {g j : Nat} (hj : j < 6) : (nI g &&& nI (2 ^ j)) = 0 ↔ g.testBit j = false := by
  constructor
  · intro h
    have e : bt (nI g &&& nI (2 ^ j)) j = false := by rw [h, b_0]
    rw [b_and, ss_btN (by omega), ss_btN (by omega), Nat.testBit_two_pow_self, Bool.and_true] at e
    exact e
  · intro h
    apply b_ext
    intro i hi
    rw [b_and, ss_btN hi, ss_btN hi, b_0]
    by_cases z : j = i
    · rw [← z, h]; rfl
    · rw [Nat.testBit_two_pow_of_ne z, Bool.and_false]
theorem sg_cmp {g s : Nat} (hi : sg_in g s) : nI s &&& (nI g ^^^ (-1)) = nI (s ^^^ g) := by
  apply b_ext
  intro i h
  rw [b_and, b_xor, b_m1 i h, ss_btN h, ss_btN h, ss_btN h, sg_x hi, Bool.xor_true]
theorem sg_sub {g s : Nat} (hg : g < 64) : (nI g &&& (nI s ^^^ (-1))) = 0 ↔ sg_in g s := by
  constructor
  · intro h i hi
    have hi32 : i < 32 := by
      rcases Nat.lt_or_ge i 32 with z | z
      · exact z
      · have := Nat.ge_two_pow_of_testBit hi
        have : 2 ^ 32 ≤ 2 ^ i := Nat.pow_le_pow_right (by decide) z
        omega
    have e : bt (nI g &&& (nI s ^^^ (-1))) i = false := by rw [h, b_0]
    rw [b_and, b_xor, b_m1 i hi32, ss_btN hi32, ss_btN hi32, hi, Bool.xor_true] at e
    revert e
    cases s.testBit i <;> simp
  · intro h
    apply b_ext
    intro i hi
    rw [b_and, b_xor, b_m1 i hi, ss_btN hi, ss_btN hi, b_0, Bool.xor_true]
    have := h i
    revert this
    cases g.testBit i <;> cases s.testBit i <;> simp
theorem sg_or (a b : Nat) : nI a ||| nI b = nI (a ||| b) := by
  apply b_ext
  intro i h
  rw [b_or, ss_btN h, ss_btN h, ss_btN h, Nat.testBit_or]
theorem sg_and0 {a b : Nat} (ha : a < 64) : (nI a &&& nI b) = 0 ↔ a &&& b = 0 := by
  have := Nat.and_le_left (n := a) (m := b)
  rw [nx_and, ← nI_0, nI_eq (by omega) (by omega)]
theorem sg_dis {a b : Nat} (h : a &&& b = 0) (i : Nat) : (a.testBit i && b.testBit i) = false := by
  rw [← Nat.testBit_and, h, Nat.zero_testBit]
theorem sg_ox {a b : Nat} (h : a &&& b = 0) : (a ||| b) ^^^ b = a := by
  apply Nat.eq_of_testBit_eq
  intro i
  rw [Nat.testBit_xor, Nat.testBit_or]
  have := sg_dis h i
  revert this
  cases a.testBit i <;> cases b.testBit i <;> simp
theorem sg_oi (a b : Nat) : sg_in b (a ||| b) := by
  intro i hi
  rw [Nat.testBit_or, hi, Bool.or_true]
theorem sg_o64 {a b : Nat} (ha : a < 64) (hb : b < 64) : a ||| b < 64 := Nat.or_lt_two_pow (n := 6) ha hb
theorem sg_xd {t b : Nat} (h : sg_in b t) : (t ^^^ b) &&& b = 0 := by
  apply Nat.eq_of_testBit_eq
  intro i
  rw [Nat.testBit_and, sg_x h, Nat.zero_testBit]
  cases b.testBit i <;> simp
theorem sg_xo {t b : Nat} (h : sg_in b t) : (t ^^^ b) ||| b = t := by
  apply Nat.eq_of_testBit_eq
  intro i
  rw [Nat.testBit_or, sg_x h]
  have := h i
  revert this
  cases b.testBit i <;> cases t.testBit i <;> simp
end
section
/-! the component's forms -/
theorem ss_ix (c h : Nat) : (4 * nI c) + nI h = nI (4 * c + h) := by
  show nI 4 * nI c + nI h = _
  rw [pk_mul, nI_add]
section
variable {m : Nat} {tp fr rv gr : Int32} {sh wt fo bf eqn rs gd nd : Nat → Int32}
theorem xf_sof4 (post : Int32 → Prop) (x : Int32) (hm : m ≤ 8) (h : post (ss_sf x bf m)) :
    ∀ d b : Nat, b + d = m → wX_sumOfForms_4 post x (nI m) tp fr rv gr sh wt fo bf eqn rs gd nd (d + 1) (ss_sf x bf b) (nI b) := by
  intro d
  induction d with
  | zero =>
    intro b hb
    have e : b = m := by omega
    rw [e]
    exact br_t (nI_le (Nat.le_refl m) (by omega)) h
  | succ d ih =>
    intro b hb
    have ih' := ih (b + 1) (by omega)
    refine br_f (nI_ge (by omega) (by omega)) ?_
    cases e : bt x b
    · refine br_t ((ss_bv0 x (by omega)).mpr e) (nm_r (nI_1 b) ?_)
      have es : ss_sf x bf (b + 1) = ss_sf x bf b := by
        show (if bt x b = true then ss_sf x bf b ^^^ bf b else ss_sf x bf b) = _
        rw [e, if_neg (by decide)]
      rw [es] at ih'
      exact ih'
    · have z : ¬ ((x >>> (nI b &&& 31)) &&& 1) = 0 := by
        rw [ss_bv0 x (by omega), e]; decide
      have es : ss_sf x bf b ^^^ (bf (nI b).toNatClampNeg) = ss_sf x bf (b + 1) := by
        show _ = (if bt x b = true then ss_sf x bf b ^^^ bf b else ss_sf x bf b)
        rw [e, if_pos rfl, nI_clamp (by omega)]
      exact br_f z ⟨vp_in_nI (by omega) (by omega), nm_r es (nm_r (nI_1 b) ih')⟩
theorem xf_sof {post : Int32 → Prop} {x : Int32} (hm : m ≤ 8) (h : post (ss_sf x bf m)) : wpX_sumOfForms post ((nI m), tp, fr, rv, gr, sh, wt, fo, bf, eqn, rs, gd, nd) x :=
  ⟨m + 1, xf_sof4 post x hm h m 0 (Nat.zero_add m)⟩
theorem xf_93 (post : SX → Prop) (J35 : Int32 → (Nat → Int32) → (Nat → Int32) → (Nat → Int32) → (Nat → Int32) → (Nat → Int32) → (Nat → Int32) → (Nat → Int32) → (Nat → Int32) → Prop) (x1 : Int32) (hm : m ≤ 8) (bf0 : Nat → Int32)
    (h : ∀ bf', (∀ i, i < m → bf' i = bf0 (i + 1)) → J35 (x1 + 1) sh wt fo bf' eqn rs gd nd) :
    ∀ d b : Nat, b + d = m → ∀ bf, (∀ i, i < b → bf i = bf0 (i + 1)) → (∀ i, b ≤ i → bf i = bf0 i) → wX_makeForms_93 post J35 x1 (nI m) tp fr rv gr (d + 1) (nI b) sh wt fo bf eqn rs gd nd := by
  intro d
  induction d with
  | zero =>
    intro b hb bf h1 h2
    have e : b = m := by omega
    rw [e] at h1 ⊢
    exact br_t (nI_le (Nat.le_refl m) (by omega)) (nm_e (h bf h1))
  | succ d ih =>
    intro b hb bf h1 h2
    have q : vp_in (nI b + 1) 9 := by rw [nI_1]; exact vp_in_nI (by omega) (by omega)
    have e : upd bf (nI b).toNatClampNeg (bf (nI b + 1).toNatClampNeg) = upd bf b (bf (b + 1)) := by
      rw [nI_1, nI_clamp (by omega), nI_clamp (by omega)]
    refine br_f (nI_ge (by omega) (by omega)) ⟨q, vp_in_nI (by omega) (by omega), nm_r e (nm_r (nI_1 b) (ih (b + 1) (by omega) _ ?_ ?_))⟩
    · intro i hi
      by_cases z : i = b
      · subst z
        rw [pk_us]
        exact h2 _ (by omega)
      · rw [pk_un z]
        exact h1 i (by omega)
    · intro i hi
      rw [pk_un (by omega)]
      exact h2 i (by omega)
theorem xf_43 (post : SX → Prop) (J35 : Int32 → (Nat → Int32) → (Nat → Int32) → (Nat → Int32) → (Nat → Int32) → (Nat → Int32) → (Nat → Int32) → (Nat → Int32) → (Nat → Int32) → Prop) (h1 : 1 ≤ m) (hm : m ≤ 8) {c : Nat} (hc : c < 16) (hbf : ss_BF m tp c bf)
    (h : ∀ fo' bf', ss_FR m tp sh (4 * (c + 1)) fo' → ss_BF m tp (c + 1) bf' → J35 (nI (c + 1)) sh wt fo' bf' eqn rs gd nd) :
    ∀ d a : Nat, a + d = 4 → ∀ fo, ss_FR m tp sh (4 * c + a) fo → wX_makeForms_43 post J35 (nI c) (nI m) tp fr rv gr (d + 1) (nI a) sh wt fo bf eqn rs gd nd := by
  intro d
  induction d with
  | zero =>
    intro a ha fo hfo
    have e : a = 4 := by omega
    rw [e] at hfo ⊢
    have e2 : upd bf (nI m).toNatClampNeg (ss_sf tp bf m) = upd bf m (ss_sf tp bf m) := by rw [nI_clamp (by omega)]
    refine br_t (nI_le (a := 4) (b := 4) (by omega) (by omega)) (xf_sof hm ⟨vp_in_nI (by omega) (by omega), nm_r e2 ⟨m + 1, xf_93 post J35 (nI c) hm (upd bf m (ss_sf tp bf m)) ?_ m 0 (by omega) _ (fun i hi => absurd hi (Nat.not_lt_zero i)) (fun i _ => rfl)⟩⟩)
    intro bf' hb'
    rw [nI_1]
    refine h fo bf' hfo (ss_BF_s h1 hm hbf (fun b hb => ?_) ?_)
    · rw [hb' b (by omega), pk_un (by omega)]
    · rw [hb' (m - 1) (by omega), show m - 1 + 1 = m by omega, pk_us]
  | succ d ih =>
    intro a ha fo hfo
    have ei : ((4 * nI c) + nI a).toNatClampNeg = 4 * c + a := by rw [ss_ix, nI_clamp (by omega)]
    have q : vp_in ((4 * nI c) + nI a) 64 := by rw [ss_ix]; exact vp_in_nI (by omega) (by omega)
    have e2 : upd fo ((4 * nI c) + nI a).toNatClampNeg (ss_sf (sh (nI a).toNatClampNeg) bf m) = upd fo (4 * c + a) (ss_sf (sh a) bf m) := by
      rw [ei, nI_clamp (by omega)]
    refine br_f (nI_ge (b := 4) (by omega) (by omega)) ⟨vp_in_nI (by omega) (by omega), xf_sof hm ⟨q, nm_r e2 (nm_r (nI_1 a) (ih (a + 1) (by omega) _ ?_))⟩⟩
    intro i hi
    by_cases z : i = 4 * c + a
    · subst z
      rw [pk_us]
      have w := ss_BF_sf (x := sh a) h1 hm hbf
      refine ⟨w.1, fun s hs => ?_⟩
      rw [w.2 s hs, show (4 * c + a) / 4 = c by omega, show (4 * c + a) % 4 = a by omega]
      rfl
    · rw [pk_un z]
      exact hfo i (by omega)
theorem xf_35 (post : SX → Prop) (h1 : 1 ≤ m) (hm : m ≤ 8) (h : ∀ fo' bf', ss_FR m tp sh 64 fo' → post ((nI m), tp, 1, rv, gr, sh, wt, fo', bf', eqn, rs, gd, nd)) :
    ∀ d c : Nat, c + d = 16 → ∀ fo bf, ss_FR m tp sh (4 * c) fo → ss_BF m tp c bf → wX_makeForms_35 post (nI m) tp fr rv gr (d + 1) (nI c) sh wt fo bf eqn rs gd nd := by
  intro d
  induction d with
  | zero =>
    intro c hc fo bf hfo hbf
    have e : c = 16 := by omega
    rw [e] at hfo ⊢
    exact br_t (nI_le (a := 16) (b := 16) (by omega) (by omega)) (h fo bf hfo)
  | succ d ih =>
    intro c hc fo bf hfo hbf
    exact br_f (nI_ge (b := 16) (by omega) (by omega)) ⟨5, xf_43 post (wX_makeForms_35 post (nI m) tp fr rv gr (d + 1)) h1 hm (by omega) hbf (fun fo' bf' a b => ih (c + 1) (by omega) fo' bf' a b) 4 0 rfl fo hfo⟩
theorem xf_10 (post : SX → Prop) (h1 : 1 ≤ m) (hm : m ≤ 8) (h : ∀ fo' bf', ss_FR m tp sh 64 fo' → post ((nI m), tp, 1, rv, gr, sh, wt, fo', bf', eqn, rs, gd, nd)) :
    ∀ d b : Nat, b + d = m → ∀ bf, (∀ i, i < b → bf i = (1 : Int32) <<< (nI i &&& 31)) → wX_makeForms_10 post (nI m) tp fr rv gr (d + 1) (nI b) sh wt fo bf eqn rs gd nd := by
  intro d
  induction d with
  | zero =>
    intro b hb bf hbf
    have e : b = m := by omega
    rw [e] at hbf ⊢
    exact br_t (nI_le (Nat.le_refl m) (by omega)) ⟨17, xf_35 post h1 hm h 16 0 rfl fo bf (fun i hi => by omega) (ss_BF_0 hm hbf)⟩
  | succ d ih =>
    intro b hb bf hbf
    have e : upd bf (nI b).toNatClampNeg ((1 : Int32) <<< (nI b &&& 31)) = upd bf b ((1 : Int32) <<< (nI b &&& 31)) := by rw [nI_clamp (by omega)]
    refine br_f (nI_ge (by omega) (by omega)) ⟨vp_in_nI (by omega) (by omega), nm_r e (nm_r (nI_1 b) (ih (b + 1) (by omega) _ ?_))⟩
    intro i hi
    by_cases z : i = b
    · subst z
      rw [pk_us]
    · rw [pk_un z]
      exact hbf i (by omega)
theorem xf_make {post : SX → Prop} (h1 : 1 ≤ m) (hm : m ≤ 8) (hf : fr ≠ 0 → ss_FR m tp sh 64 fo)
    (h : ∀ fr' fo' bf', fr' ≠ 0 → ss_FR m tp sh 64 fo' → post ((nI m), tp, fr', rv, gr, sh, wt, fo', bf', eqn, rs, gd, nd)) : wpX_makeForms post ((nI m), tp, fr, rv, gr, sh, wt, fo, bf, eqn, rs, gd, nd) :=
  br_c (fun _ => ⟨m + 1, xf_10 post h1 hm (fun fo' bf' z => h 1 fo' bf' (by decide) z) m 0 (Nat.zero_add m) bf (fun i hi => absurd hi (Nat.not_lt_zero i))⟩) (fun z => h fr fo bf z (hf z))
theorem xf_par4 (post : Int32 → Prop) (x : Int32) (h : post (ss_b (ss_xs (bt x) 8))) :
    ∀ d b : Nat, b + d = 8 → wX_parity_4 post x (nI m) tp fr rv gr sh wt fo bf eqn rs gd nd (d + 1) (ss_b (ss_xs (bt x) b)) (nI b) := by
  intro d
  induction d with
  | zero =>
    intro b hb
    have e : b = 8 := by omega
    rw [e]
    exact br_t (nI_le (a := 8) (b := 8) (by omega) (by omega)) h
  | succ d ih =>
    intro b hb
    have e : ss_b (ss_xs (bt x) b) ^^^ ((x >>> (nI b &&& 31)) &&& 1) = ss_b (ss_xs (bt x) (b + 1)) := by
      rw [ss_bv x (by omega), ss_b_xor]; rfl
    exact br_f (nI_ge (b := 8) (by omega) (by omega)) (nm_r e (nm_r (nI_1 b) (ih (b + 1) (by omega))))
theorem xf_par {post : Int32 → Prop} {x : Int32} (h : post (ss_b (ss_xs (bt x) 8))) : wpX_parity post ((nI m), tp, fr, rv, gr, sh, wt, fo, bf, eqn, rs, gd, nd) x :=
  ⟨9, xf_par4 post x h 8 0 rfl⟩
end
end
section
/-! the component's equations -/
theorem ss_sm1 (m : Nat) : nI m - 1 = nI m + (-1) := Int32.sub_eq_add_neg _ _
def ss_Dem (m : Nat) (eqn rs : Nat → Int32) (form : Int32) (q : Bool) (r : Int32) (eqn' rs' : Nat → Int32) : Prop :=
  (r = 1 ∧ ss_Tri m eqn' rs' ∧ ∀ s, ss_Sol m eqn' rs' s ↔ (ss_Sol m eqn rs s ∧ ss_dt form s = q)) ∨ (r = 0 ∧ ∀ s, ss_Sol m eqn rs s → ¬ ss_dt form s = q)
theorem ss_cb {set i : Nat} (hi : i < 384) : ((nI set >>> ((nI i >>> ((6 : Int32) &&& 31)) &&& 31)) &&& 1) = 0 ↔ set.testBit (i / 64) = false := by
  have e : nI i >>> ((6 : Int32) &&& 31) = nI (i / 64) := pk_shrN (by omega) _ 6 (by decide)
  rw [e, ss_bv0 _ (by omega), ss_btN (by omega)]
theorem ss_63 {i : Nat} (hi : i < 384) : nI i &&& 63 = nI (i % 64) := pk_andN (by omega) 6 (by decide)
section
variable {m : Nat} {tp fr rv gr : Int32} {sh wt fo bf eqn rs gd nd : Nat → Int32}
theorem xe_15 (post : Int32 → SX → Prop) (hm : m ≤ 8) (hT : ss_Tri m eqn rs) (form : Int32) (q0 : Bool)
    (h : ∀ rest q', ss_Red m eqn rs form q0 rest q' → post rest ((nI m), tp, fr, ss_b q', gr, sh, wt, fo, bf, eqn, rs, gd, nd)) :
    ∀ d : Nat, d ≤ m → ∀ (rest : Int32) (q : Bool), ss_lo m rest → (∀ c, d ≤ c → c < m → eqn c ≠ 0 → bt rest c = false) →
      (∀ s, ss_Sol m eqn rs s → (ss_dt form s ^^ q0) = (ss_dt rest s ^^ q)) → wX_reduce_15 post (nI m) tp fr gr sh wt fo bf eqn rs gd nd (d + 1) rest (nI d + (-1)) (ss_b q) := by
  intro d
  induction d with
  | zero =>
    intro _ rest q h1 h2 h3
    exact br_t (by decide) (h rest q ⟨h1, fun b hb => h2 b (Nat.zero_le b) hb, h3⟩)
  | succ d ih =>
    intro hd rest q h1 h2 h3
    rw [pk_m1]
    refine br_f (nI_pos (by omega)) ?_
    cases e : bt rest d
    · refine br_t ((ss_bv0 rest (by omega)).mpr e) (nm_e (ih (by omega) rest q h1 (fun c hc hcm hz => ?_) h3))
      by_cases z : c = d
      · rw [z]; exact e
      · exact h2 c (by omega) hcm hz
    · have z : ¬ ((rest >>> (nI d &&& 31)) &&& 1) = 0 := by
        rw [ss_bv0 rest (by omega), e]; decide
      have hin : vp_in (nI d) 8 := vp_in_nI (by omega) (by omega)
      have ec : (nI d).toNatClampNeg = d := nI_clamp (by omega)
      refine br_f z ⟨hin, ?_⟩
      rw [ec]
      by_cases y : eqn d = 0
      · refine br_t y (nm_e (ih (by omega) rest q h1 (fun c hc hcm hz => ?_) h3))
        by_cases z : c = d
        · rw [z] at hz; exact absurd y hz
        · exact h2 c (by omega) hcm hz
      · rcases hT d (by omega) with w | ⟨w1, w2, r, w3⟩
        · exact absurd w y
        · have er : ss_b q ^^^ rs d = ss_b (q ^^ r) := by rw [w3, ss_b_xor]
          refine br_f y ⟨hin, nm_e ⟨hin, nm_r er (nm_e (ih (by omega) _ _ (ss_lo_xor h1 (ss_lo_mono (by omega) w1)) (fun c hc hcm hz => ?_) (fun s hs => ?_)))⟩⟩
          · rw [b_xor]
            by_cases z : c = d
            · rw [z, e, w2]; rfl
            · rw [h2 c (by omega) hcm hz, w1 c (by omega)]; rfl
          · have a := hs d (by omega) y
            rw [w3] at a
            rw [h3 s hs, ss_dt_x, ss_b_inj a]
            cases ss_dt rest s <;> cases q <;> cases r <;> rfl
theorem xe_red {post : Int32 → SX → Prop} (hm : m ≤ 8) (hT : ss_Tri m eqn rs) {form : Int32} {q : Bool} (hl : ss_lo m form)
    (h : ∀ rest q', ss_Red m eqn rs form q rest q' → post rest ((nI m), tp, fr, ss_b q', gr, sh, wt, fo, bf, eqn, rs, gd, nd)) : wpX_reduce post ((nI m), tp, fr, rv, gr, sh, wt, fo, bf, eqn, rs, gd, nd) form (ss_b q) :=
  nm_r (ss_sm1 m) ⟨m + 1, xe_15 post hm hT form q h m (Nat.le_refl m) form q hl (fun c h1 h2 => absurd h1 (by omega)) (fun s _ => rfl)⟩
theorem xe_32 (post : Int32 → SX → Prop) (hm : m ≤ 8) {rest : Int32} {t : Nat} (hb : bt rest t = true) (hl : ss_lo (t + 1) rest)
    (h : post 1 ((nI m), tp, fr, rv, gr, sh, wt, fo, bf, upd eqn t rest, upd rs t rv, gd, nd)) : ∀ d : Nat, t + d < m → wX_demand_32 post rest (nI m) tp fr rv gr sh wt fo bf eqn rs gd nd (d + 1) (nI (t + d)) := by
  intro d
  induction d with
  | zero =>
    intro hd
    have z : ¬ ((rest >>> (nI t &&& 31)) &&& 1) = 0 := by
      rw [ss_bv0 rest (by omega), hb]; decide
    have hin : vp_in (nI t) 8 := vp_in_nI (by omega) (by omega)
    have e1 : upd eqn (nI t).toNatClampNeg rest = upd eqn t rest := by rw [nI_clamp (by omega)]
    have e2 : upd rs (nI t).toNatClampNeg rv = upd rs t rv := by rw [nI_clamp (by omega)]
    exact br_f z ⟨hin, nm_r e1 ⟨hin, nm_r e2 h⟩⟩
  | succ d ih =>
    intro hd
    exact br_t ((ss_bv0 rest (by omega)).mpr (hl _ (by omega))) (nm_r (pk_m1 (t + d)) (ih (by omega)))
theorem xe_dem {post : Int32 → SX → Prop} (hm : m ≤ 8) (hT : ss_Tri m eqn rs) {form : Int32} {q : Bool} (hl : ss_lo m form)
    (h : ∀ r rv' eqn' rs', ss_Dem m eqn rs form q r eqn' rs' → post r ((nI m), tp, fr, rv', gr, sh, wt, fo, bf, eqn', rs', gd, nd)) : wpX_demand post ((nI m), tp, fr, rv, gr, sh, wt, fo, bf, eqn, rs, gd, nd) form (ss_b q) := by
  unfold wpX_demand
  refine xe_red hm hT hl ?_
  intro rest q' hR
  obtain ⟨r1, r2, r3⟩ := hR
  by_cases z : rest = 0
  · refine br_t z ?_
    cases q'
    · refine br_t rfl (h 1 _ eqn rs (Or.inl ⟨rfl, hT, fun s => ⟨fun hs => ⟨hs, ?_⟩, fun hs => hs.1⟩⟩))
      have := r3 s hs
      rw [z, ss_dt_0] at this
      revert this
      cases ss_dt form s <;> cases q <;> decide
    · refine br_f (by decide) (h 0 _ eqn rs (Or.inr ⟨rfl, fun s hs => ?_⟩))
      have := r3 s hs
      rw [z, ss_dt_0] at this
      revert this
      cases ss_dt form s <;> cases q <;> decide
  · obtain ⟨t, ht, hb, hlt⟩ := ss_top m r1 z
    have h0 : eqn t = 0 := by
      refine Classical.byContradiction (fun y => ?_)
      rw [r2 t ht y] at hb
      exact absurd hb (by decide)
    obtain ⟨T', S'⟩ := ss_add (q := q') hT ht h0 hlt hb
    have em : nI m - 1 = nI (t + (m - 1 - t)) := by
      rw [show t + (m - 1 - t) = m - 1 by omega]
      exact pk_sub (b := 1) (by omega)
    refine br_f z (nm_r em ⟨m - 1 - t + 1, xe_32 post hm hb hlt (h 1 _ _ _ (Or.inl ⟨rfl, T', fun s => ?_⟩)) (m - 1 - t) (by omega)⟩)
    rw [S' s]
    constructor
    · intro hs
      refine ⟨hs.1, ?_⟩
      have := r3 s hs.1
      rw [hs.2] at this
      revert this
      cases ss_dt form s <;> cases q <;> cases q' <;> decide
    · intro hs
      refine ⟨hs.1, ?_⟩
      have := r3 s hs.1
      rw [hs.2] at this
      revert this
      cases ss_dt rest s <;> cases q <;> cases q' <;> decide
theorem xe_27 (post : Int32 → SX → Prop) {set : Nat} (hm : m ≤ 8) (hfo : ss_FR m tp sh 64 fo) (hw : ss_W wt)
    (h : ∀ r rv' eqn' rs', ss_Out m tp sh wt set r eqn' rs' → post r ((nI m), tp, fr, rv', gr, sh, wt, fo, bf, eqn', rs', gd, nd)) :
    ∀ d i : Nat, i + d = 384 → ∀ (rv : Int32) (eqn rs : Nat → Int32), ss_Tri m eqn rs → (∀ s, ss_lo m s → (ss_Sol m eqn rs s ↔ ss_FitK m tp sh wt set i s)) →
      wX_solve_27 post (nI set) (d + 1) (nI i) (nI m) tp fr rv gr sh wt fo bf eqn rs gd nd := by
  intro d
  induction d with
  | zero =>
    intro i hi rv eqn rs hT hS
    have e : i = 384 := by omega
    rw [e] at hS ⊢
    exact br_t (nI_le (a := 384) (b := 384) (by omega) (by omega)) (h 1 rv eqn rs (Or.inl ⟨rfl, hT, hS⟩))
  | succ d ih =>
    intro i hi rv eqn rs hT hS
    refine br_f (nI_ge (b := 384) (by omega) (by omega)) ?_
    have ec : (nI i).toNatClampNeg = i := nI_clamp (by omega)
    have hin : vp_in (nI i) 384 := vp_in_nI (by omega) (by omega)
    cases e : set.testBit (i / 64)
    · refine br_t ((ss_cb (by omega)).mpr e) (nm_r (nI_1 i) (ih (i + 1) (by omega) rv eqn rs hT (fun s hs => ?_)))
      rw [hS s hs, ss_FitK_s, e]
      exact ⟨fun z => ⟨z, fun y => absurd y (by decide)⟩, fun z => z.1⟩
    · have z : ¬ ((nI set >>> ((nI i >>> ((6 : Int32) &&& 31)) &&& 31)) &&& 1) = 0 := by
        rw [ss_cb (by omega), e]; decide
      refine br_f z ⟨hin, ?_⟩
      by_cases w : wt i = 2
      · have w' : wt (nI i).toNatClampNeg = 2 := by rw [ec]; exact w
        refine br_t w' (nm_r (nI_1 i) (ih (i + 1) (by omega) rv eqn rs hT (fun s hs => ?_)))
        rw [hS s hs, ss_FitK_s]
        exact ⟨fun z => ⟨z, fun _ y => absurd w y⟩, fun z => z.1⟩
      · have w' : ¬ wt (nI i).toNatClampNeg = 2 := by rw [ec]; exact w
        have h63 : vp_in (nI i &&& 63) 64 := by rw [ss_63 (by omega)]; exact vp_in_nI (by omega) (by omega)
        refine br_f w' ⟨h63, hin, ?_⟩
        rcases hw i (by omega) with y | ⟨q, y⟩
        · exact absurd y w
        · have e1 : (nI i &&& 63).toNatClampNeg = i % 64 := by rw [ss_63 (by omega), nI_clamp (by omega)]
          have f1 := hfo (i % 64) (by omega)
          rw [e1, ec, y]
          refine xe_dem hm hT f1.1 ?_
          intro r rv' eqn' rs' hD
          rcases hD with ⟨d1, d2, d3⟩ | ⟨d1, d2⟩
          · refine br_f (by rw [d1]; decide) (nm_r (nI_1 i) (ih (i + 1) (by omega) rv' eqn' rs' d2 (fun s hs => ?_)))
            rw [d3 s, hS s hs, ss_FitK_s, f1.2 s hs, y]
            exact ⟨fun z => ⟨z.1, fun _ _ => by rw [z.2]⟩, fun z => ⟨z.1, ss_b_inj (z.2 e (ss_b_ne2 q))⟩⟩
          · refine br_t d1 (h 0 rv' eqn' rs' (Or.inr ⟨rfl, fun s hs hF => ?_⟩))
            have k1 := (hS s hs).mpr (ss_Fit_K (by omega) hF)
            have k2 := hF i (by omega) e w
            rw [y] at k2
            apply d2 s k1
            rw [f1.2 s hs]
            exact ss_b_inj k2
theorem xe_6 (post : Int32 → SX → Prop) {set : Nat} (hm : m ≤ 8) (hfo : ss_FR m tp sh 64 fo) (hw : ss_W wt)
    (h : ∀ r rv' eqn' rs', ss_Out m tp sh wt set r eqn' rs' → post r ((nI m), tp, fr, rv', gr, sh, wt, fo, bf, eqn', rs', gd, nd)) :
    ∀ d b : Nat, b + d = 8 → ∀ eqn, (∀ i, i < b → eqn i = 0) → wX_solve_6 post (nI set) (nI m) tp fr rv gr (d + 1) (nI b) sh wt fo bf eqn rs gd nd := by
  intro d
  induction d with
  | zero =>
    intro b hb eqn he
    have e : b = 8 := by omega
    rw [e] at he ⊢
    refine br_t (nI_le (a := 8) (b := 8) (by omega) (by omega)) ⟨385, xe_27 post hm hfo hw h 384 0 rfl rv eqn rs (fun b hb => Or.inl (he b (by omega))) (fun s _ => ⟨fun _ => ss_FitK_0, fun _ b hb z => absurd (he b (by omega)) z⟩)⟩
  | succ d ih =>
    intro b hb eqn he
    have e : upd eqn (nI b).toNatClampNeg 0 = upd eqn b 0 := by rw [nI_clamp (by omega)]
    refine br_f (nI_ge (b := 8) (by omega) (by omega)) ⟨vp_in_nI (by omega) (by omega), nm_r e (nm_r (nI_1 b) (ih (b + 1) (by omega) _ ?_))⟩
    intro i hi
    by_cases z : i = b
    · rw [z, pk_us]
    · rw [pk_un z]; exact he i (by omega)
theorem xe_solve {post : Int32 → SX → Prop} {set : Nat} (h1 : 1 ≤ m) (hm : m ≤ 8) (hf : fr ≠ 0 → ss_FR m tp sh 64 fo) (hw : ss_W wt)
    (h : ∀ r fr' rv' fo' bf' eqn' rs', fr' ≠ 0 → ss_FR m tp sh 64 fo' → ss_Out m tp sh wt set r eqn' rs' → post r ((nI m), tp, fr', rv', gr, sh, wt, fo', bf', eqn', rs', gd, nd)) : wpX_solve post ((nI m), tp, fr, rv, gr, sh, wt, fo, bf, eqn, rs, gd, nd) (nI set) := by
  unfold wpX_solve
  refine xf_make h1 hm hf ?_
  intro fr' fo' bf' hfr hfo
  exact ⟨9, xe_6 post hm hfo hw (fun r rv' eqn' rs' hO => h r fr' rv' fo' bf' eqn' rs' hfr hfo hO) 8 0 rfl eqn (fun i hi => absurd hi (Nat.not_lt_zero i))⟩
theorem xe_24 (post : Int32 → SX → Prop) (hm : m ≤ 8) (h : post (nI (2 ^ ss_fre eqn m)) ((nI m), tp, fr, rv, gr, sh, wt, fo, bf, eqn, rs, gd, nd)) :
    ∀ d b : Nat, b + d = m → wX_seeds_24 post (nI m) tp fr rv gr sh wt fo bf eqn rs gd nd (d + 1) (nI (ss_fre eqn b)) (nI b) := by
  intro d
  induction d with
  | zero =>
    intro b hb
    have e : b = m := by omega
    rw [e]
    have hle := ss_fre_le eqn m
    rw [← ss_pw _ (by omega)] at h
    exact br_t (nI_le (Nat.le_refl m) (by omega)) h
  | succ d ih =>
    intro b hb
    have ih' := ih (b + 1) (by omega)
    have ec : (nI b).toNatClampNeg = b := nI_clamp (by omega)
    refine br_f (nI_ge (by omega) (by omega)) ⟨vp_in_nI (by omega) (by omega), ?_⟩
    by_cases z : eqn b = 0
    · have z' : eqn (nI b).toNatClampNeg = 0 := by rw [ec]; exact z
      have e : nI (ss_fre eqn b) + 1 = nI (ss_fre eqn (b + 1)) := by
        rw [nI_1]
        show _ = nI (ss_fre eqn b + (if eqn b = 0 then 1 else 0))
        rw [if_pos z]
      exact br_t z' (nm_r e (nm_r (nI_1 b) ih'))
    · have z' : ¬ eqn (nI b).toNatClampNeg = 0 := by rw [ec]; exact z
      have e : ss_fre eqn (b + 1) = ss_fre eqn b := by
        show ss_fre eqn b + (if eqn b = 0 then 1 else 0) = _
        rw [if_neg z]; rfl
      rw [e] at ih'
      exact br_f z' (nm_r (nI_1 b) ih')
end
end
section
/-! the component's completion of a seed -/
def ss_Pre (m d : Nat) (seed s : Int32) : Prop := ∀ c, d ≤ c → c < m → bt s c = bt seed c
def ss_Gr (m d : Nat) (lk : Bool) (seed s : Int32) : Prop := ∃ c, d ≤ c ∧ c < m ∧ bt seed c = lk ∧ bt s c = (!lk) ∧ ∀ c', c < c' → c' < m → bt s c' = bt seed c'
theorem ss_bor {b : Nat} (hb : b < 32) (seed : Int32) (q : Bool) (i : Nat) : bt (seed ||| (ss_b q <<< (nI b &&& 31))) i = (bt seed i || (q && decide (i = b))) := by
  rw [b_or]
  by_cases hi : i < 32
  · rw [b_shl b hb _ hi]
    by_cases h : b ≤ i
    · rw [decide_eq_true h, Bool.true_and, ss_btb _ _ (by omega)]
      congr 2
      exact decide_eq_decide.mpr (by omega)
    · rw [decide_eq_false h, decide_eq_false (p := i = b) (by omega), Bool.false_and, Bool.and_false]
  · rw [b_big (x := ss_b q <<< (nI b &&& 31)) (by omega), decide_eq_false (p := i = b) (by omega), Bool.and_false]
def ss_CI (m : Nat) (S0 : Int32 → Prop) (lk : Bool) (d : Nat) (seed : Int32) (eqn rs : Nat → Int32) : Prop :=
  ss_lo m seed ∧ (∀ c, c < d → bt seed c = false) ∧ ss_Tri m eqn rs ∧ (∀ s, ss_lo m s → (ss_Sol m eqn rs s ↔ (S0 s ∧ ss_Pre m d seed s))) ∧
  ∀ s, ss_lo m s → S0 s → ss_Pre m d seed s ∨ ss_Gr m d lk seed s
theorem ss_CI_s {m : Nat} {S0 : Int32 → Prop} {lk v : Bool} {d : Nat} {seed : Int32} {eqn rs eqn' rs' : Nat → Int32} (hm : m ≤ 8) (hd : d < m) (h : ss_CI m S0 lk (d + 1) seed eqn rs)
    (hT : ss_Tri m eqn' rs') (hS : ∀ s, ss_lo m s → (ss_Sol m eqn' rs' s ↔ (ss_Sol m eqn rs s ∧ bt s d = v))) (hv : ∀ s, ss_lo m s → ss_Sol m eqn rs s → bt s d = v ∨ v = lk) :
    ss_CI m S0 lk d (seed ||| (ss_b v <<< (nI d &&& 31))) eqn' rs' := by
  obtain ⟨c1, c2, c3, c4, c5⟩ := h
  have bn : ∀ i, i ≠ d → bt (seed ||| (ss_b v <<< (nI d &&& 31))) i = bt seed i := by
    intro i hi
    rw [ss_bor (by omega), decide_eq_false hi, Bool.and_false, Bool.or_false]
  have bd : bt (seed ||| (ss_b v <<< (nI d &&& 31))) d = v := by
    rw [ss_bor (by omega), decide_eq_true rfl, Bool.and_true, c2 d (by omega), Bool.false_or]
  generalize seed ||| (ss_b v <<< (nI d &&& 31)) = sd at bn bd ⊢
  have hP : ∀ s, ss_Pre m d sd s ↔ (ss_Pre m (d + 1) seed s ∧ bt s d = v) := by
    intro s
    constructor
    · intro h
      refine ⟨fun c hc hcm => ?_, ?_⟩
      · rw [h c (by omega) hcm, bn c (by omega)]
      · rw [h d (by omega) hd, bd]
    · intro h c hc hcm
      by_cases z : c = d
      · rw [z, bd]; exact h.2
      · rw [bn c z]; exact h.1 c (by omega) hcm
  refine ⟨fun i hi => ?_, fun c hc => ?_, hT, fun s hs => ?_, fun s hs h0 => ?_⟩
  · rw [bn i (by omega)]; exact c1 i hi
  · rw [bn c (by omega)]; exact c2 c (by omega)
  · rw [hS s hs, c4 s hs, hP s]
    exact ⟨fun z => ⟨z.1.1, z.1.2, z.2⟩, fun z => ⟨⟨z.1, z.2.1⟩, z.2.2⟩⟩
  · rcases c5 s hs h0 with p | ⟨c, g1, g2, g3, g4, g5⟩
    · by_cases y : bt s d = v
      · exact Or.inl ((hP s).mpr ⟨p, y⟩)
      · rcases hv s hs ((c4 s hs).mpr ⟨h0, p⟩) with z | z
        · exact absurd z y
        · refine Or.inr ⟨d, Nat.le_refl d, hd, by rw [bd, z], ?_, fun c' hc hcm => ?_⟩
          · rw [z] at y
            revert y
            cases bt s d <;> cases lk <;> decide
          · rw [bn c' (by omega)]; exact p c' (by omega) hcm
    · refine Or.inr ⟨c, by omega, g2, ?_, g4, fun c' hc hcm => ?_⟩
      · rw [bn c (by omega)]; exact g3
      · rw [bn c' (by omega)]; exact g5 c' hc hcm
theorem ss_CI_e {m : Nat} {S0 : Int32 → Prop} {lk : Bool} {seed : Int32} {eqn rs : Nat → Int32} (hm : m ≤ 8) (h : ss_CI m S0 lk 0 seed eqn rs) :
    ss_lo m seed ∧ S0 seed ∧ ∀ s, ss_lo m s → S0 s → s = seed ∨ ss_Gr m 0 lk seed s := by
  obtain ⟨c1, c2, c3, c4, c5⟩ := h
  have he : ∀ s, ss_lo m s → ss_Pre m 0 seed s → s = seed := by
    intro s hs hp
    apply b_ext
    intro i _
    rcases Nat.lt_or_ge i m with z | z
    · exact hp i (Nat.zero_le i) z
    · rw [hs i z, c1 i z]
  obtain ⟨s, ls, hs⟩ := ss_ne hm c3
  have k := (c4 s ls).mp hs
  have e := he s ls k.2
  refine ⟨c1, by rw [← e]; exact k.1, fun t ht h0 => ?_⟩
  rcases c5 t ht h0 with p | p
  · exact Or.inl (he t ht p)
  · exact Or.inr p
theorem ss_ltb {a b c : Nat} (h1 : a.testBit c = false) (h2 : b.testBit c = true) (h3 : ∀ j, c < j → a.testBit j = b.testBit j) : a < b := by
  have e : a >>> (c + 1) = b >>> (c + 1) := by
    apply Nat.eq_of_testBit_eq
    intro j
    rw [Nat.testBit_shiftRight, Nat.testBit_shiftRight]
    exact h3 _ (by omega)
  rw [Nat.shiftRight_eq_div_pow, Nat.shiftRight_eq_div_pow, Nat.pow_succ, ← Nat.div_div_eq_div_mul, ← Nat.div_div_eq_div_mul] at e
  rw [Nat.testBit_eq_decide_div_mod_eq, decide_eq_false_iff_not] at h1
  rw [Nat.testBit_eq_decide_div_mod_eq, decide_eq_true_eq] at h2
  refine Nat.lt_of_not_le (fun z => ?_)
  have := Nat.div_le_div_right (c := 2 ^ c) z
  omega
theorem ss_gr_lt {m a b c : Nat} (hm : m ≤ 8) (ha : a < 2 ^ m) (hb : b < 2 ^ m) (hc : c < m) (h1 : bt (nI a) c = false) (h2 : bt (nI b) c = true)
    (h3 : ∀ c', c < c' → c' < m → bt (nI a) c' = bt (nI b) c') : a < b := by
  rw [ss_btN (by omega)] at h1 h2
  refine ss_ltb (c := c) h1 h2 (fun j hj => ?_)
  rcases Nat.lt_or_ge j m with z | z
  · have := h3 j hj z
    rw [ss_btN (by omega), ss_btN (by omega)] at this
    exact this
  · have hp : 2 ^ m ≤ 2 ^ j := Nat.pow_le_pow_right (by decide) z
    rw [Nat.testBit_lt_two_pow (by omega), Nat.testBit_lt_two_pow (by omega)]
section
variable {m : Nat} {tp fr rv gr : Int32} {sh wt fo bf eqn rs gd nd : Nat → Int32}
theorem xc_9 (post : Int32 → SX → Prop) (hm : m ≤ 8) (S0 : Int32 → Prop) (lk : Bool)
    (h : ∀ seed rv' eqn' rs', ss_CI m S0 lk 0 seed eqn' rs' → post seed ((nI m), tp, fr, rv', gr, sh, wt, fo, bf, eqn', rs', gd, nd)) :
    ∀ d : Nat, d ≤ m → ∀ (seed rv : Int32) (eqn rs : Nat → Int32), ss_CI m S0 lk d seed eqn rs → wX_complete_9 post (ss_b lk) (d + 1) seed (nI d + (-1)) (nI m) tp fr rv gr sh wt fo bf eqn rs gd nd := by
  intro d
  induction d with
  | zero =>
    intro _ seed rv eqn rs hC
    exact br_t (by decide) (h seed rv eqn rs hC)
  | succ d ih =>
    intro hd seed rv eqn rs hC
    rw [pk_m1]
    have hT := hC.2.2.1
    have hl : ss_lo m ((1 : Int32) <<< (nI d &&& 31)) := ss_lo_p (by omega) (by omega)
    refine br_f (nI_pos (by omega)) (xe_red (q := false) hm hT hl ?_)
    intro rest q' hR
    by_cases z : rest = 0
    · refine br_t z (br_t z (nm_e (nm_e (ih (by omega) _ _ _ _ ?_))))
      have hq : ∀ s, ss_Sol m eqn rs s → bt s d = q' := by
        intro s hs
        have := hR.2.2 s hs
        rw [z, ss_dt_0, ss_dt_p (by omega), Bool.xor_false, Bool.false_xor] at this
        exact this
      exact ss_CI_s hm (by omega) hC hT (fun s _ => ⟨fun a => ⟨a, hq s a⟩, fun a => a.1⟩) (fun s _ a => Or.inl (hq s a))
    · refine br_f z (br_f z (xe_dem (q := lk) hm hT hl ?_))
      intro r rv' eqn' rs' hD
      refine nm_e (nm_e (ih (by omega) _ _ _ _ ?_))
      rcases hD with ⟨d1, d2, d3⟩ | ⟨d1, d2⟩
      · exact ss_CI_s hm (by omega) hC d2 (fun s _ => by rw [d3 s, ss_dt_p (by omega)]) (fun s _ _ => Or.inr rfl)
      · obtain ⟨s, _, hs, e⟩ := ss_both hm hT hR z lk
        exact absurd e (d2 s hs)
theorem xc_comp {post : Int32 → SX → Prop} (hm : m ≤ 8) (S0 : Int32 → Prop) (lk : Bool) (hT : ss_Tri m eqn rs) (hS : ∀ s, ss_lo m s → (ss_Sol m eqn rs s ↔ S0 s))
    (h : ∀ seed rv' eqn' rs', (ss_lo m seed ∧ S0 seed ∧ ∀ s, ss_lo m s → S0 s → s = seed ∨ ss_Gr m 0 lk seed s) → post seed ((nI m), tp, fr, rv', gr, sh, wt, fo, bf, eqn', rs', gd, nd)) : wpX_complete post ((nI m), tp, fr, rv, gr, sh, wt, fo, bf, eqn, rs, gd, nd) (ss_b lk) := by
  refine nm_r (ss_sm1 m) ⟨m + 1, xc_9 post hm S0 lk (fun seed rv' eqn' rs' hC => h seed rv' eqn' rs' (ss_CI_e hm hC)) m (Nat.le_refl m) 0 rv eqn rs ?_⟩
  exact ⟨ss_lo_0 m, fun c _ => b_0 c, hT, fun s hs => (hS s hs).trans ⟨fun z => ⟨z, fun c h1 h2 => absurd h1 (by omega)⟩, fun z => z.1⟩, fun s _ _ => Or.inl (fun c h1 h2 => absurd h1 (by omega))⟩
end
end
section
/-! the component's groups -/
theorem sg_i8 : ∀ k, k < 64 → (nI k).toInt8.toInt32 = nI k := by decide +kernel
theorem sg_nar {G : Nat → Prop} {s : Nat} {x : Int32} (h : sg_N G s x) : vp_nar .byte x.toInt8.toInt32 = x := by
  rw [pk_vb]
  rcases h with ⟨k, hk, rfl, _⟩ | ⟨rfl, _⟩
  · exact sg_i8 k (by omega)
  · decide
section
variable {m : Nat} {tp fr rv gr : Int32} {sh wt fo bf eqn rs gd nd : Nat → Int32}
theorem xg_44 (post : SX → Prop) (J16 : Int32 → Int32 → Int32 → Int32 → Int32 → Int32 → (Nat → Int32) → (Nat → Int32) → (Nat → Int32) → (Nat → Int32) → (Nat → Int32) → (Nat → Int32) → (Nat → Int32) → (Nat → Int32) → Prop)
    {G : Nat → Prop} {set j : Nat} (hset : set < 64) (hj : j < 6) (hsj : set.testBit j = true) (hgd : ∀ h, h ≠ 0 → h ≤ set → (gd h = 0 ↔ ¬ G h)) (hnd : ∀ t, t < set → sg_N G t (nd t))
    (h : ∀ x, sg_N G set x → J16 (nI (set + 1)) (nI m) tp fr rv gr sh wt fo bf eqn rs gd (upd nd set x)) :
    ∀ (n g : Nat) (x3 : Int32), g < n → sg_in g set → sg_B G set j g x3 → wX_groupCubes_44 post J16 (nI set) (nI (2 ^ j)) (nI m) tp fr rv gr sh wt fo bf eqn rs gd nd n x3 (nI g) := by
  intro n
  induction n with
  | zero => intro g x3 hg; omega
  | succ n ih =>
    intro g x3 hg gi hB
    by_cases g0 : g = 0
    · subst g0
      have hN := sg_B_end hset hsj hB
      have e : upd nd (nI set).toNatClampNeg (vp_nar .byte x3.toInt8.toInt32) = upd nd set x3 := by rw [nI_clamp (by omega), sg_nar hN]
      exact br_t (by decide) ⟨vp_in_nI (by omega) (by omega), nm_r e (nm_r (nI_1 set) (h x3 hN))⟩
    · have hl := sg_le gi
      have eN : (nI g - 1) &&& nI set = nI ((g - 1) &&& set) := by
        rw [← nx_and]
        exact congrArg (fun z => z &&& nI set) (pk_sub (b := 1) (by omega))
      have gi' : sg_in ((g - 1) &&& set) set := by
        intro i hi
        rw [Nat.testBit_and] at hi
        revert hi
        cases (g - 1).testBit i <;> simp
      have lt' : (g - 1) &&& set < n := by
        have := Nat.and_le_left (n := g - 1) (m := set)
        omega
      have ec : (nI g).toNatClampNeg = g := nI_clamp (by omega)
      refine br_f (nI_nle (by omega) (by omega)) ?_
      cases e : g.testBit j
      · exact br_t ((sg_land hj).mpr e) (nm_r eN (ih _ x3 lt' gi' (sg_B_skip hset gi g0 hB (fun z => by rw [e] at z; exact absurd z (by decide)))))
      · have e' : ¬ (nI g &&& nI (2 ^ j)) = 0 := by rw [sg_land hj, e]; decide
        refine br_f e' ⟨vp_in_nI (by omega) (by omega), ?_⟩
        by_cases z : gd g = 0
        · have z' : gd (nI g).toNatClampNeg = 0 := by rw [ec]; exact z
          exact br_t z' (nm_r eN (ih _ x3 lt' gi' (sg_B_skip hset gi g0 hB (fun _ hG => absurd hG ((hgd g g0 hl).mp z)))))
        · have z' : ¬ gd (nI g).toNatClampNeg = 0 := by rw [ec]; exact z
          have hG : G g := Classical.byContradiction (fun y => z ((hgd g g0 hl).mpr y))
          have hlt := sg_xlt gi g0
          have ex : nI set &&& (nI g ^^^ (-1)) = nI (set ^^^ g) := sg_cmp gi
          have hin : vp_in (nI set &&& (nI g ^^^ (-1))) 64 := by rw [ex]; exact vp_in_nI (by omega) (by omega)
          have e5 : nd (nI set &&& (nI g ^^^ (-1))).toNatClampNeg = nd (set ^^^ g) := by rw [ex, nI_clamp (by omega)]
          refine br_f z' ⟨hin, nm_r e5 ?_⟩
          rcases hnd _ hlt with ⟨r, hr, er, hp, hmin⟩ | ⟨er, hno⟩
          · rw [er]
            refine br_f (nI_pos (by omega)) ?_
            by_cases y : x3 < 0
            · refine br_t y (nm_r (nI_1 r) (nm_r eN (ih _ _ lt' gi' (sg_B_new hset gi g0 hG hr hB hp hmin (fun b hb eb => ?_)))))
              rw [eb] at y
              exact absurd y (nI_pos (by omega))
            · refine br_f y ?_
              have hB' := hB
              rcases hB' with ⟨e2, _⟩ | ⟨b, hb, e2, _⟩
              · rw [e2] at y
                exact absurd (by decide) y
              · rw [e2] at hB ⊢
                refine pk_le (b + 1) (r + 1) (fun w => ?_) (fun w => ?_) rfl (nI_1 r)
                · exact nm_r eN (ih _ _ lt' gi' (sg_B_keep hset gi g0 (by omega) hB hmin (by omega)))
                · refine nm_r (nI_1 r) (nm_r eN (ih _ _ lt' gi' (sg_B_new hset gi g0 hG hr hB hp hmin (fun b' hb' eb => ?_))))
                  have := (nI_eq (by omega) (by omega)).mp eb
                  omega
          · rw [er]
            exact br_t (by decide) (nm_r eN (ih _ x3 lt' gi' (sg_B_skip hset gi g0 hB (fun _ _ k => hno k))))
theorem xg_16 (post : SX → Prop) (h1 : 1 ≤ m) (hm : m ≤ 8) (hw : ss_W wt)
    (h : ∀ fr' rv' fo' bf' eqn' rs' gd' nd', (fr' ≠ 0 → ss_FR m tp sh 64 fo') → (∀ t, t < 64 → sg_N (ss_G m tp sh wt) t (nd' t)) → post ((nI m), tp, fr', rv', 1, sh, wt, fo', bf', eqn', rs', gd', nd')) :
    ∀ d set : Nat, set + d = 64 → 1 ≤ set → ∀ (fr rv : Int32) (fo bf eqn rs gd nd : Nat → Int32), (fr ≠ 0 → ss_FR m tp sh 64 fo) →
      (∀ h, h ≠ 0 → h < set → (gd h = 0 ↔ ¬ ss_G m tp sh wt h)) → (∀ t, t < set → sg_N (ss_G m tp sh wt) t (nd t)) → wX_groupCubes_16 post (d + 1) (nI set) (nI m) tp fr rv gr sh wt fo bf eqn rs gd nd := by
  intro d
  induction d with
  | zero =>
    intro set hs _ fr rv fo bf eqn rs gd nd hf hgd hnd
    have e : set = 64 := by omega
    rw [e] at hnd ⊢
    exact br_t (nI_le (a := 64) (b := 64) (by omega) (by omega)) (h fr rv fo bf eqn rs gd nd hf hnd)
  | succ d ih =>
    intro set hs h1s fr rv fo bf eqn rs gd nd hf hgd hnd
    refine br_f (nI_ge (b := 64) (by omega) (by omega)) (xe_solve h1 hm hf hw ?_)
    intro r fr' rv' fo' bf' eqn' rs' hfr hfo hO
    obtain ⟨j, hj, ej, bj⟩ := sg_low set (by omega) (by omega)
    have hr := ss_Out_G hm hO
    have e1 : upd gd (nI set).toNatClampNeg (vp_nar .boolean r) = upd gd set r := by
      rw [nI_clamp (by omega)]
      rcases hr with ⟨a, _⟩ | ⟨a, _⟩
      · rw [a]; rfl
      · rw [a]; rfl
    refine ⟨vp_in_nI (by omega) (by omega), nm_r e1 (nm_r ej ⟨set + 1, xg_44 post (wX_groupCubes_16 post (d + 1)) (G := ss_G m tp sh wt) (by omega) hj bj ?_ hnd ?_ (set + 1) set (-2) (by omega) (fun i hi => hi) sg_B_0⟩)⟩
    · intro g g0 hg
      by_cases z : g = set
      · rw [z, pk_us]
        rcases hr with ⟨a, b⟩ | ⟨a, b⟩
        · rw [a]
          exact ⟨fun y => absurd y (by decide), fun y => absurd b y⟩
        · rw [a]
          exact ⟨fun _ => b, fun _ => rfl⟩
      · rw [pk_un z]
        exact hgd g g0 (by omega)
    · intro x hx
      refine ih (set + 1) (by omega) (by omega) fr' rv' fo' bf' eqn' rs' _ _ (fun _ => hfo) (fun g g0 hg => ?_) (fun t ht => ?_)
      · by_cases z : g = set
        · rw [z, pk_us]
          rcases hr with ⟨a, b⟩ | ⟨a, b⟩
          · rw [a]
            exact ⟨fun y => absurd y (by decide), fun y => absurd b y⟩
          · rw [a]
            exact ⟨fun _ => b, fun _ => rfl⟩
        · rw [pk_un z]
          exact hgd g g0 (by omega)
      · by_cases z : t = set
        · rw [z, pk_us]; exact hx
        · rw [pk_un z]; exact hnd t (by omega)
theorem xg_group {post : SX → Prop} (h1 : 1 ≤ m) (hm : m ≤ 8) (hw : ss_W wt) (hf : fr ≠ 0 → ss_FR m tp sh 64 fo)
    (h : ∀ fr' rv' fo' bf' eqn' rs' gd' nd', (fr' ≠ 0 → ss_FR m tp sh 64 fo') → (∀ t, t < 64 → sg_N (ss_G m tp sh wt) t (nd' t)) → post ((nI m), tp, fr', rv', 1, sh, wt, fo', bf', eqn', rs', gd', nd')) : wpX_groupCubes post ((nI m), tp, fr, rv, gr, sh, wt, fo, bf, eqn, rs, gd, nd) := by
  refine nm_e (nm_e ⟨64, xg_16 post h1 hm hw h 63 1 rfl (Nat.le_refl 1) fr rv fo bf eqn rs _ _ hf (fun g g0 hg => absurd hg (by omega)) (fun t ht => ?_)⟩)
  have e : t = 0 := by omega
  rw [e, pk_us, vp_nar_byte]
  exact Or.inl ⟨0, by omega, by decide, rfl, fun j hj => absurd hj (Nat.not_lt_zero j)⟩
end
end
section
/-! the reference -/
def ss_FS (m : Nat) (P : Nat → Prop) (V : Nat → Bool) (j : Nat) (x : Int32) : Prop :=
  (x = -2 ∧ ∀ i, i < j → ¬ P i) ∨ (∃ v : Bool, x = ss_b v ∧ (∃ i, i < j ∧ P i) ∧ ∀ i, i < j → P i → V i = v) ∨
  (x = 2 ∧ (∃ i, i < j ∧ P i ∧ V i = false) ∧ ∃ i, i < j ∧ P i ∧ V i = true)
theorem ss_FS_u {m : Nat} {P : Nat → Prop} {V : Nat → Bool} {j : Nat} {x y : Int32} (hx : ss_FS m P V j x) (hy : ss_FS m P V j y) : x = y := by
  rcases hx with ⟨e, a⟩ | ⟨v, e, ⟨i, hi, a⟩, b⟩ | ⟨e, ⟨i, hi, a, b⟩, k, hk, c, d⟩
  · rcases hy with ⟨f, _⟩ | ⟨_, _, ⟨i, hi, p⟩, _⟩ | ⟨_, ⟨i, hi, p, _⟩, _⟩
    · rw [e, f]
    · exact absurd p (a i hi)
    · exact absurd p (a i hi)
  · rcases hy with ⟨_, p⟩ | ⟨w, f, _, p⟩ | ⟨_, ⟨i1, h1, p1, q1⟩, i2, h2, p2, q2⟩
    · exact absurd a (p i hi)
    · have h1 := b i hi a
      have h2 := p i hi a
      rw [e, f, ← h1, ← h2]
    · have h1 := b i1 h1 p1
      have h2 := b i2 h2 p2
      rw [q1] at h1
      rw [q2, ← h1] at h2
      exact absurd h2 (by decide)
  · rcases hy with ⟨_, p⟩ | ⟨w, _, _, p⟩ | ⟨f, _⟩
    · exact absurd a (p i hi)
    · have h1 := p i hi a
      have h2 := p k hk c
      rw [b] at h1
      rw [d, ← h1] at h2
      exact absurd h2 (by decide)
    · rw [e, f]
theorem ss_FS_s {m : Nat} {P : Nat → Prop} {V : Nat → Bool} {j : Nat} {x : Int32} (h : ss_FS m P V j x) :
    (¬ P j → ss_FS m P V (j + 1) x) ∧ (P j → x = -2 → ss_FS m P V (j + 1) (ss_b (V j))) ∧ (P j → x = ss_b (V j) → ss_FS m P V (j + 1) x) ∧ (P j → ¬ x = -2 → ¬ x = ss_b (V j) → ss_FS m P V (j + 1) 2) := by
  have up : ∀ {Q : Nat → Prop}, (∃ i, i < j ∧ Q i) → ∃ i, i < j + 1 ∧ Q i := fun ⟨i, hi, q⟩ => ⟨i, by omega, q⟩
  have ns : ∀ {Q : Nat → Prop}, (∀ i, i < j → Q i) → Q j → ∀ i, i < j + 1 → Q i := by
    intro Q h1 h2 i hi
    by_cases z : i = j
    · rw [z]; exact h2
    · exact h1 i (by omega)
  refine ⟨fun hp => ?_, fun hp hx => ?_, fun hp hx => ?_, fun hp hx hy => ?_⟩
  · rcases h with ⟨e, a⟩ | ⟨v, e, a, b⟩ | ⟨e, a, b⟩
    · exact Or.inl ⟨e, ns a hp⟩
    · exact Or.inr (Or.inl ⟨v, e, up a, ns b (fun z => absurd z hp)⟩)
    · exact Or.inr (Or.inr ⟨e, up a, up b⟩)
  · rcases h with ⟨e, a⟩ | ⟨v, e, a, b⟩ | ⟨e, a, b⟩
    · exact Or.inr (Or.inl ⟨V j, rfl, ⟨j, by omega, hp⟩, ns (fun i hi z => absurd z (a i hi)) (fun _ => rfl)⟩)
    · rw [e] at hx; exact absurd hx (ss_b_nm2 v)
    · rw [e] at hx; exact absurd hx (by decide)
  · rcases h with ⟨e, a⟩ | ⟨v, e, a, b⟩ | ⟨e, a, b⟩
    · rw [e] at hx; exact absurd hx.symm (ss_b_nm2 _)
    · have ev : v = V j := ss_b_inj (e.symm.trans hx)
      exact Or.inr (Or.inl ⟨v, e, up a, ns b (fun _ => ev.symm)⟩)
    · rw [e] at hx; exact absurd hx.symm (ss_b_ne2 _)
  · rcases h with ⟨e, a⟩ | ⟨v, e, ⟨i, hi, a⟩, b⟩ | ⟨e, a, b⟩
    · exact absurd e hx
    · have hv : v ≠ V j := fun z => hy (by rw [e, z])
      have hb := b i hi a
      refine Or.inr (Or.inr ⟨rfl, ?_, ?_⟩)
      · cases ev : V j
        · exact ⟨j, by omega, hp, ev⟩
        · refine ⟨i, by omega, a, ?_⟩
          rw [hb]
          rw [ev] at hv
          revert hv
          cases v <;> decide
      · cases ev : V j
        · refine ⟨i, by omega, a, ?_⟩
          rw [hb]
          rw [ev] at hv
          revert hv
          cases v <;> decide
        · exact ⟨j, by omega, hp, ev⟩
    · exact Or.inr (Or.inr ⟨rfl, up a, up b⟩)
section
variable {m : Nat} {tp : Int32} {sh wt ls : Nat → Int32}
theorem yp_4 (post : Int32 → Prop) (x : Int32) (h : post (ss_b (ss_xs (bt x) 8))) :
    ∀ d b : Nat, b + d = 8 → ∀ c : Nat, c ≤ b → c % 2 = (ss_xs (bt x) b).toNat → wY_parity_4 post x (nI m) tp sh wt ls (d + 1) (nI c) (nI b) := by
  intro d
  induction d with
  | zero =>
    intro b hb c hc e2
    have e : b = 8 := by omega
    rw [e] at e2 hc ⊢
    have er : nI c - nI c / 2 * 2 = ss_b (ss_xs (bt x) 8) := by
      rw [ss_b_nI, ← e2]
      exact pk_rem (d := 2) (by omega) (by omega) (by omega)
    refine br_t (nI_le (a := 8) (b := 8) (by omega) (by omega)) ⟨by decide, ?_⟩
    rw [er]
    exact h
  | succ d ih =>
    intro b hb c hc e2
    have e : nI c + ((x >>> (nI b &&& 31)) &&& 1) = nI (c + (bt x b).toNat) := by
      rw [ss_bv x (by omega), ss_b_nI, nI_add]
    have hl : (bt x b).toNat ≤ 1 := by cases bt x b <;> decide
    refine br_f (nI_ge (b := 8) (by omega) (by omega)) (nm_r e (nm_r (nI_1 b) (ih (b + 1) (by omega) _ (by omega) ?_)))
    show _ = (ss_xs (bt x) b ^^ bt x b).toNat
    revert e2
    cases ss_xs (bt x) b <;> cases bt x b <;> simp only [Bool.toNat_true, Bool.toNat_false, Bool.xor_true, Bool.xor_false, Bool.not_true, Bool.not_false] <;> omega
theorem yp_par {post : Int32 → Prop} {x : Int32} (h : post (ss_b (ss_xs (bt x) 8))) : wpY_parity post ((nI m), tp, sh, wt, ls) x :=
  ⟨9, yp_4 post x h 8 0 rfl 0 (Nat.le_refl 0) rfl⟩
theorem yv_6 (post : Int32 → Prop) (h1 : 1 ≤ m) (hm : m ≤ 8) {c a : Nat} {s : Int32} (ha : a < 4) (hc : c < 16) (h : post (ss_b (ss_V m tp sh s c a))) :
    ∀ d k : Nat, k + d = c → wY_valueAt_6 post (nI c) (nI a) (nI m) tp sh wt ls (d + 1) (ss_it m tp s k) (nI k) := by
  intro d
  induction d with
  | zero =>
    intro k hk
    have e : k = c := by omega
    rw [e]
    have er : ss_b (ss_xs (bt (ss_it m tp s c &&& (sh (nI a).toNatClampNeg))) 8) = ss_b (ss_V m tp sh s c a) := by
      rw [nI_clamp (by omega), ss_dt_par]; rfl
    refine br_t (nI_le (Nat.le_refl c) (by omega)) ⟨vp_in_nI (by omega) (by omega), yp_par ?_⟩
    rw [er]
    exact h
  | succ d ih =>
    intro k hk
    have e : (ss_it m tp s k >>> ((1 : Int32) &&& 31)) ||| (ss_b (ss_xs (bt (ss_it m tp s k &&& tp)) 8) <<< ((nI m - 1) &&& 31)) = ss_it m tp s (k + 1) := by
      rw [ss_dt_par, show nI m - 1 = nI (m - 1) from pk_sub (b := 1) h1]; rfl
    exact br_f (nI_ge (by omega) (by omega)) (yp_par (nm_r e (nm_r (nI_1 k) (ih (k + 1) (by omega)))))
theorem yv_val {post : Int32 → Prop} (h1 : 1 ≤ m) (hm : m ≤ 8) {c a : Nat} {s : Int32} (ha : a < 4) (hc : c < 16) (h : post (ss_b (ss_V m tp sh s c a))) : wpY_valueAt post ((nI m), tp, sh, wt, ls) s (nI c) (nI a) :=
  ⟨c + 1, yv_6 post h1 hm ha hc h c 0 (Nat.zero_add c)⟩
theorem ss_ix64 (k p : Nat) : (64 * nI k) + nI p = nI (64 * k + p) := by
  show nI 64 * nI k + nI p = _
  rw [pk_mul, nI_add]
theorem yf_11 (post : Int32 → Prop) (J2 : Int32 → Prop) (h1 : 1 ≤ m) (hm : m ≤ 8) {k set : Nat} {s : Int32} (hk : k < 6) (h0 : ¬ ss_Fit m tp sh wt set s → post 0)
    (hJ : ss_FitK m tp sh wt set (64 * (k + 1)) s → J2 (nI (k + 1))) :
    ∀ d p : Nat, p + d = 64 → ss_FitK m tp sh wt set (64 * k + p) s → wY_fits_11 post J2 s (nI set) (nI k) (nI m) tp sh wt ls (d + 1) (nI p) := by
  intro d
  induction d with
  | zero =>
    intro p hp hF
    have e : p = 64 := by omega
    rw [e] at hF ⊢
    exact br_t (nI_le (a := 64) (b := 64) (by omega) (by omega)) (nm_r (nI_1 k) (hJ hF))
  | succ d ih =>
    intro p hp hF
    have q : vp_in ((64 * nI k) + nI p) 384 := by rw [ss_ix64]; exact vp_in_nI (by omega) (by omega)
    have ei : wt ((64 * nI k) + nI p).toNatClampNeg = wt (64 * k + p) := by rw [ss_ix64, nI_clamp (by omega)]
    have d1 : (64 * k + p) / 64 = k := by omega
    have d2 : (64 * k + p) % 64 = p := by omega
    have nx : (set.testBit k = true → wt (64 * k + p) ≠ 2 → ss_b (ss_V m tp sh s (p / 4) (p % 4)) = wt (64 * k + p)) → wY_fits_11 post J2 s (nI set) (nI k) (nI m) tp sh wt ls (d + 1) (nI (p + 1)) := by
      intro z
      refine ih (p + 1) (by omega) ((ss_FitK_s (k := 64 * k + p)).mpr ⟨hF, ?_⟩)
      rw [d1, d2]
      exact z
    refine br_f (nI_ge (b := 64) (by omega) (by omega)) ⟨q, nm_r ei ?_⟩
    cases e : set.testBit k
    · have z : ¬ ((nI set >>> (nI k &&& 31)) &&& 1) = 1 := by rw [ss_bv1 _ (by omega), ss_btN (by omega), e]; decide
      exact br_f z (nm_r (nI_1 p) (nx (fun y => by rw [e] at y; exact absurd y (by decide))))
    · have z : ((nI set >>> (nI k &&& 31)) &&& 1) = 1 := by rw [ss_bv1 _ (by omega), ss_btN (by omega), e]
      refine br_t z ?_
      by_cases w : wt (64 * k + p) = 2
      · exact br_t w (nm_r (nI_1 p) (nx (fun _ y => absurd w y)))
      · have e4 : nI p / 4 = nI (p / 4) := pk_div (d := 4) (by omega) (by omega) (by omega)
        have e5 : nI p - nI p / 4 * 4 = nI (p % 4) := pk_rem (d := 4) (by omega) (by omega) (by omega)
        refine br_f w ⟨by decide, by decide, ?_⟩
        rw [e5, e4]
        refine yv_val h1 hm (by omega) (by omega) ?_
        by_cases y : ss_b (ss_V m tp sh s (p / 4) (p % 4)) = wt (64 * k + p)
        · exact br_t y (nm_r (nI_1 p) (nx (fun _ _ => y)))
        · refine br_f y (h0 (fun hA => y ?_))
          have := hA (64 * k + p) (by omega)
          rw [d1, d2] at this
          exact this e w
theorem yf_2 (post : Int32 → Prop) (h1 : 1 ≤ m) (hm : m ≤ 8) {set : Nat} {s : Int32} (h0 : ¬ ss_Fit m tp sh wt set s → post 0) (hh : ss_Fit m tp sh wt set s → post 1) :
    ∀ d k : Nat, k + d = 6 → ss_FitK m tp sh wt set (64 * k) s → wY_fits_2 post s (nI set) (nI m) tp sh wt ls (d + 1) (nI k) := by
  intro d
  induction d with
  | zero =>
    intro k hk hF
    have e : k = 6 := by omega
    rw [e] at hF ⊢
    exact br_t (nI_le (a := 6) (b := 6) (by omega) (by omega)) (hh hF)
  | succ d ih =>
    intro k hk hF
    exact br_f (nI_ge (b := 6) (by omega) (by omega)) ⟨65, yf_11 post (wY_fits_2 post s (nI set) (nI m) tp sh wt ls (d + 1)) h1 hm (by omega) h0 (fun z => ih (k + 1) (by omega) z) 64 0 rfl hF⟩
theorem yf_fits {post : Int32 → Prop} (h1 : 1 ≤ m) (hm : m ≤ 8) {set : Nat} {s : Int32} (hh : ss_Fit m tp sh wt set s → post 1) (h0 : ¬ ss_Fit m tp sh wt set s → post 0) : wpY_fits post ((nI m), tp, sh, wt, ls) s (nI set) :=
  ⟨7, yf_2 post h1 hm h0 hh 6 0 rfl ss_FitK_0⟩
theorem ys_14 (post : Int32 → Prop) (h1 : 1 ≤ m) (hm : m ≤ 8) {set : Nat} (h : post (nI (ss_cnt (fun j => ss_d (ss_Fit m tp sh wt set (nI j))) (2 ^ m)))) :
    ∀ d j : Nat, j + d = 2 ^ m → wY_seeds_14 post (nI set) (nI m) tp sh wt ls (d + 1) (nI (ss_cnt (fun j => ss_d (ss_Fit m tp sh wt set (nI j))) j)) (nI j) := by
  have hp := ss_p8 hm
  have ep := ss_pw m (by omega)
  intro d
  induction d with
  | zero =>
    intro j hj
    have e : j = 2 ^ m := by omega
    rw [e]
    refine br_t ?_ h
    rw [ep]
    exact nI_le (Nat.le_refl _) (by omega)
  | succ d ih =>
    intro j hj
    have ih' := ih (j + 1) (by omega)
    have hc : ss_cnt (fun j => ss_d (ss_Fit m tp sh wt set (nI j))) (j + 1) = ss_cnt (fun j => ss_d (ss_Fit m tp sh wt set (nI j))) j + (ss_d (ss_Fit m tp sh wt set (nI j))).toNat := rfl
    refine br_f ?_ (yf_fits h1 hm (fun hF => ?_) (fun hF => ?_))
    · rw [ep]
      exact nI_ge (by omega) (by omega)
    · rw [ss_d_t.mpr hF] at hc
      rw [hc] at ih'
      exact br_f (by decide) (nm_r (nI_1 _) (nm_r (nI_1 j) ih'))
    · rw [ss_d_f.mpr hF] at hc
      rw [hc] at ih'
      exact br_t rfl (nm_r (nI_1 j) ih')
theorem ys_first {post : Int32 → Prop} (h1 : 1 ≤ m) (hm : m ≤ 8) {set : Nat} (hh : ∀ j, j < 2 ^ m → ss_Fit m tp sh wt set (nI j) → (∀ i, i < j → ¬ ss_Fit m tp sh wt set (nI i)) → post (nI j))
    (h0 : (∀ j, j < 2 ^ m → ¬ ss_Fit m tp sh wt set (nI j)) → post (-2)) :
    ∀ d j : Nat, j + d = 2 ^ m → (∀ i, i < j → ¬ ss_Fit m tp sh wt set (nI i)) → wY_firstSeed_2 post (nI set) (nI m) tp sh wt ls (d + 1) (nI j) := by
  have hp := ss_p8 hm
  have ep := ss_pw m (by omega)
  intro d
  induction d with
  | zero =>
    intro j hj hn
    have e : j = 2 ^ m := by omega
    rw [e] at hn ⊢
    refine br_t ?_ (h0 hn)
    rw [ep]
    exact nI_le (Nat.le_refl _) (by omega)
  | succ d ih =>
    intro j hj hn
    refine br_f ?_ (yf_fits h1 hm (fun hF => ?_) (fun hF => ?_))
    · rw [ep]
      exact nI_ge (by omega) (by omega)
    · exact br_f (by decide) (hh j (by omega) hF hn)
    · refine br_t rfl (nm_r (nI_1 j) (ih (j + 1) (by omega) (fun i hi => ?_)))
      by_cases z : i = j
      · rw [z]; exact hF
      · exact hn i (by omega)
theorem ys_fs {post : Int32 → Prop} (h1 : 1 ≤ m) (hm : m ≤ 8) {set : Nat} (hh : ∀ j, j < 2 ^ m → ss_Fit m tp sh wt set (nI j) → (∀ i, i < j → ¬ ss_Fit m tp sh wt set (nI i)) → post (nI j))
    (h0 : (∀ j, j < 2 ^ m → ¬ ss_Fit m tp sh wt set (nI j)) → post (-2)) : wpY_firstSeed post ((nI m), tp, sh, wt, ls) (nI set) :=
  ⟨2 ^ m + 1, ys_first h1 hm hh h0 (2 ^ m) 0 (Nat.zero_add _) (fun i hi => absurd hi (Nat.not_lt_zero i))⟩
theorem ys_19 {post : Int32 → Prop} (h1 : 1 ≤ m) (hm : m ≤ 8) {set : Nat} (hh : ∀ j, j < 2 ^ m → ss_Fit m tp sh wt set (nI j) → (∀ i, j < i → i < 2 ^ m → ¬ ss_Fit m tp sh wt set (nI i)) → post (nI j))
    (h0 : (∀ j, j < 2 ^ m → ¬ ss_Fit m tp sh wt set (nI j)) → post (-2)) :
    ∀ d : Nat, d ≤ 2 ^ m → (∀ i, d ≤ i → i < 2 ^ m → ¬ ss_Fit m tp sh wt set (nI i)) → wY_greatestSeed_19 post (nI set) (nI m) tp sh wt ls (d + 1) (nI d + (-1)) := by
  have hp := ss_p8 hm
  intro d
  induction d with
  | zero =>
    intro _ hn
    exact br_t (by decide) (h0 (fun j hj => hn j (Nat.zero_le j) hj))
  | succ d ih =>
    intro hd hn
    rw [pk_m1]
    refine br_f (nI_pos (by omega)) (yf_fits h1 hm (fun hF => ?_) (fun hF => ?_))
    · exact br_f (by decide) (hh d (by omega) hF (fun i hi him => hn i (by omega) him))
    · refine br_t rfl (nm_e (ih (by omega) (fun i hi him => ?_)))
      by_cases z : i = d
      · rw [z]; exact hF
      · exact hn i (by omega) him
theorem ys_26 {post : Int32 → Prop} (h1 : 1 ≤ m) (hm : m ≤ 8) {set c a : Nat} (hc : c < 16) (ha : a < 4)
    (h : ∀ x, ss_FS m (fun j => ss_Fit m tp sh wt set (nI j)) (fun j => ss_V m tp sh (nI j) c a) (2 ^ m) x → post x) :
    ∀ d j : Nat, j + d = 2 ^ m → ∀ x : Int32, ss_FS m (fun j => ss_Fit m tp sh wt set (nI j)) (fun j => ss_V m tp sh (nI j) c a) j x → wY_forced_26 post (nI set) (nI c) (nI a) (nI m) tp sh wt ls (d + 1) x (nI j) := by
  have hp := ss_p8 hm
  have ep := ss_pw m (by omega)
  intro d
  induction d with
  | zero =>
    intro j hj x hx
    have e : j = 2 ^ m := by omega
    rw [e] at hx ⊢
    refine br_t ?_ (h x hx)
    rw [ep]
    exact nI_le (Nat.le_refl _) (by omega)
  | succ d ih =>
    intro j hj x hx
    obtain ⟨s1, s2, s3, s4⟩ := ss_FS_s hx
    refine br_f ?_ (yf_fits h1 hm (fun hF => ?_) (fun hF => ?_))
    · rw [ep]
      exact nI_ge (by omega) (by omega)
    · refine br_f (by decide) (yv_val h1 hm ha hc ?_)
      refine br_c (fun z => nm_r (nI_1 j) (ih (j + 1) (by omega) _ (s2 hF z))) (fun z => ?_)
      exact br_c (fun y => nm_r (nI_1 j) (ih (j + 1) (by omega) _ (s3 hF y))) (fun y => nm_r (nI_1 j) (ih (j + 1) (by omega) _ (s4 hF z y)))
    · exact br_t rfl (nm_r (nI_1 j) (ih (j + 1) (by omega) _ (s1 hF)))
/-! the reference's table of least numbers -/
def yn_I (ok : Nat → Prop) (p s : Nat) (ls : Nat → Int32) : Prop := ∀ t, t < 64 → ∃ v, ls t = nI v ∧
  ((sg_in (p + 1) t ∧ t ^^^ (p + 1) < s) → sg_L (fun k => sg_Q ok (p + 1) k t) v) ∧ (¬ (sg_in (p + 1) t ∧ t ^^^ (p + 1) < s) → sg_L (fun k => sg_Q ok p k t) v)
def yn_T (ok : Nat → Prop) (p : Nat) (ls : Nat → Int32) : Prop := ∀ t, t < 64 → ∃ v, ls t = nI v ∧ sg_L (fun k => sg_Q ok p k t) v
theorem yn_75z (post : Int32 → SY → Prop) (J42 : Int32 → (Nat → Int32) → (Nat → Int32) → (Nat → Int32) → Prop) (x1 : Int32) {p : Nat} (h : J42 (nI (p + 1)) sh wt ls) :
    ∀ d s : Nat, s + d = 64 → wY_seedsNeeded_75 post J42 x1 (nI p) 0 (nI m) tp (d + 1) (nI s) sh wt ls := by
  intro d
  induction d with
  | zero =>
    intro s hs
    have e : s = 64 := by omega
    rw [e]
    exact br_t (nI_le (a := 64) (b := 64) (by omega) (by omega)) (nm_r (nI_1 p) h)
  | succ d ih =>
    intro s hs
    exact br_f (nI_ge (b := 64) (by omega) (by omega)) (br_t rfl (nm_r (nI_1 s) (ih (s + 1) (by omega))))
theorem yn_75 (post : Int32 → SY → Prop) (J42 : Int32 → (Nat → Int32) → (Nat → Int32) → (Nat → Int32) → Prop) (x1 : Int32) {ok : Nat → Prop} {p : Nat} (hp : p + 1 < 64) (ho : ok (p + 1))
    (h : ∀ ls', yn_T ok (p + 1) ls' → J42 (nI (p + 2)) sh wt ls') :
    ∀ d s : Nat, s + d = 64 → ∀ ls, yn_I ok p s ls → wY_seedsNeeded_75 post J42 x1 (nI (p + 1)) 1 (nI m) tp (d + 1) (nI s) sh wt ls := by
  intro d
  induction d with
  | zero =>
    intro s hs ls hI
    have e : s = 64 := by omega
    rw [e] at hI ⊢
    refine br_t (nI_le (a := 64) (b := 64) (by omega) (by omega)) (nm_r (nI_1 (p + 1)) (h ls (fun t ht => ?_)))
    obtain ⟨v, ev, v1, v2⟩ := hI t ht
    refine ⟨v, ev, ?_⟩
    by_cases z : sg_in (p + 1) t
    · have := sg_xlt z (by omega)
      exact v1 ⟨z, by omega⟩
    · exact sg_L_no (fun y => z y.2) (v2 (fun y => z y.1))
  | succ d ih =>
    intro s hs ls hI
    refine br_f (nI_ge (b := 64) (by omega) (by omega)) (br_f (by decide) ?_)
    by_cases z : s &&& (p + 1) = 0
    · refine br_t ((sg_and0 (by omega)).mpr z) ?_
      have ho64 : s ||| (p + 1) < 64 := sg_o64 (by omega) hp
      have hin : vp_in (nI s) 64 := vp_in_nI (by omega) (by omega)
      have eo : nI s ||| nI (p + 1) = nI (s ||| (p + 1)) := sg_or s (p + 1)
      have hin2 : vp_in (nI s ||| nI (p + 1)) 64 := by rw [eo]; exact vp_in_nI ho64 (by omega)
      have ec : (nI s).toNatClampNeg = s := nI_clamp (by omega)
      have ec2 : (nI s ||| nI (p + 1)).toNatClampNeg = s ||| (p + 1) := by rw [eo, nI_clamp (by omega)]
      have nin : ¬ sg_in (p + 1) s := by
        intro y
        obtain ⟨i, hi⟩ := sg_bit (g := p + 1) (by omega)
        have := sg_dis z i
        rw [hi, y i hi] at this
        exact absurd this (by decide)
      have iin : sg_in (p + 1) (s ||| (p + 1)) := sg_oi s (p + 1)
      have ixx : (s ||| (p + 1)) ^^^ (p + 1) = s := sg_ox z
      obtain ⟨v, ev, _, v2⟩ := hI (s ||| (p + 1)) ho64
      obtain ⟨w, ew, _, w2⟩ := hI s (by omega)
      have hv := v2 (fun y => by rw [ixx] at y; exact absurd y.2 (by omega))
      have hw := w2 (fun y => nin y.1)
      have hw' : sg_L (fun k => sg_Q ok p k ((s ||| (p + 1)) ^^^ (p + 1))) w := by rw [ixx]; exact hw
      have bv := hv.1
      have bw := hw.1
      have uq : ∀ t, sg_in (p + 1) t → t ^^^ (p + 1) < s + 1 → ¬ t ^^^ (p + 1) < s → t = s ||| (p + 1) := by
        intro t h1 h2 h3
        have : t ^^^ (p + 1) = s := by omega
        rw [← this, sg_xo h1]
      refine ⟨hin, hin2, ?_⟩
      rw [ec, ec2, ev, ew]
      refine pk_le v (w + 1) (fun y => nm_r (nI_1 s) (ih (s + 1) (by omega) ls ?_)) (fun y => ⟨hin, hin2, nm_e (nm_r (nI_1 s) (ih (s + 1) (by omega) _ ?_))⟩) rfl (nI_1 w)
      · intro t ht
        by_cases c : sg_in (p + 1) t ∧ t ^^^ (p + 1) < s + 1
        · by_cases c2 : t ^^^ (p + 1) < s
          · obtain ⟨a, ea, a1, a2⟩ := hI t ht
            exact ⟨a, ea, fun _ => a1 ⟨c.1, c2⟩, fun q => absurd c q⟩
          · have et := uq t c.1 c.2 c2
            rw [et] at c ⊢
            exact ⟨v, ev, fun _ => sg_L_old hv hw' y, fun q => absurd c q⟩
        · obtain ⟨a, ea, a1, a2⟩ := hI t ht
          exact ⟨a, ea, fun q => absurd q c, fun _ => a2 (fun q => c ⟨q.1, by omega⟩)⟩
      · intro t ht
        by_cases et : t = s ||| (p + 1)
        · rw [et, pk_us, nI_1]
          refine ⟨w + 1, rfl, fun _ => sg_L_new ho iin hv hw' (by omega), fun q => absurd ⟨iin, ?_⟩ q⟩
          rw [ixx]; omega
        · rw [pk_un et]
          obtain ⟨a, ea, a1, a2⟩ := hI t ht
          refine ⟨a, ea, fun q => a1 ⟨q.1, ?_⟩, fun q => a2 (fun q' => q ⟨q'.1, by omega⟩)⟩
          exact Classical.byContradiction (fun c2 => et (uq t q.1 q.2 c2))
    · have z' : ¬ (nI s &&& nI (p + 1)) = 0 := fun y => z ((sg_and0 (by omega)).mp y)
      refine br_f z' (nm_r (nI_1 s) (ih (s + 1) (by omega) ls (fun t ht => ?_)))
      obtain ⟨a, ea, a1, a2⟩ := hI t ht
      refine ⟨a, ea, fun q => a1 ⟨q.1, ?_⟩, fun q => a2 (fun q' => q ⟨q'.1, by omega⟩)⟩
      have hx := sg_xd q.1
      have hne : t ^^^ (p + 1) ≠ s := fun y => z (by rw [← y]; exact hx)
      have := q.2
      omega
theorem yn_I0 {ok : Nat → Prop} {p : Nat} {ls : Nat → Int32} (h : yn_T ok p ls) : yn_I ok p 0 ls := fun t ht => by
  obtain ⟨v, ev, hv⟩ := h t ht
  exact ⟨v, ev, fun q => absurd q.2 (Nat.not_lt_zero _), fun _ => hv⟩
theorem yn_no {ok : Nat → Prop} {p : Nat} {ls : Nat → Int32} (hn : ¬ ok (p + 1)) (h : yn_T ok p ls) : yn_T ok (p + 1) ls := fun t ht => by
  obtain ⟨v, ev, hv⟩ := h t ht
  exact ⟨v, ev, sg_L_no (fun q => hn q.1) hv⟩
theorem yn_42 (post : Int32 → SY → Prop) (h1 : 1 ≤ m) (hm : m ≤ 8) {set : Nat} (hset : set < 64)
    (h : ∀ x ls', sg_N (ss_G m tp sh wt) set x → post x ((nI m), tp, sh, wt, ls')) :
    ∀ d p : Nat, p + d = 63 → ∀ ls, yn_T (fun g => sg_in g set ∧ ss_G m tp sh wt g) p ls → wY_seedsNeeded_42 post (nI set) (nI m) tp (d + 1) (nI (p + 1)) sh wt ls := by
  have hp8 := ss_p8 hm
  intro d
  induction d with
  | zero =>
    intro p hp ls hT
    have e : p = 63 := by omega
    rw [e] at hT ⊢
    have hin : vp_in (nI set) 64 := vp_in_nI hset (by omega)
    obtain ⟨v, ev, hv⟩ := hT set hset
    have ev' : ls (nI set).toNatClampNeg = nI v := by rw [nI_clamp (by omega)]; exact ev
    obtain ⟨k1, k2⟩ := sg_L_N hset (fun g q => q.2) (fun g q1 q2 => ⟨q1, q2⟩) hv
    have hb := hv.1
    refine br_t (nI_le (a := 64) (b := 64) (by omega) (by omega)) ⟨hin, ?_⟩
    rw [ev']
    exact pk_eq v 100 (fun q => h _ _ (k2 q)) (fun q => ⟨hin, h _ _ (k1 (by omega))⟩)
  | succ d ih =>
    intro p hp ls hT
    have J0 : ¬ (sg_in (p + 1) set ∧ ss_G m tp sh wt (p + 1)) → ∃ n75 : Nat, wY_seedsNeeded_75 post (wY_seedsNeeded_42 post (nI set) (nI m) tp (d + 1)) (nI set) (nI (p + 1)) 0 (nI m) tp n75 0 sh wt ls :=
      fun hn => ⟨65, yn_75z post _ (nI set) (ih (p + 1) (by omega) ls (yn_no hn hT)) 64 0 rfl⟩
    have J1 : (sg_in (p + 1) set ∧ ss_G m tp sh wt (p + 1)) → ∃ n75 : Nat, wY_seedsNeeded_75 post (wY_seedsNeeded_42 post (nI set) (nI m) tp (d + 1)) (nI set) (nI (p + 1)) 1 (nI m) tp n75 0 sh wt ls :=
      fun hy => ⟨65, yn_75 post _ (nI set) (by omega) hy (fun ls' hT' => ih (p + 1) (by omega) ls' hT') 64 0 rfl ls (yn_I0 hT)⟩
    refine br_f (nI_ge (b := 64) (by omega) (by omega)) ?_
    by_cases z : sg_in (p + 1) set
    · refine br_t ((sg_sub (by omega)).mpr z) (ys_fs h1 hm (fun j hj hF _ => ?_) (fun hn => ?_))
      · refine br_f (fun y => ?_) (J1 ⟨z, j, hj, hF⟩)
        have e1 := nI_toInt (n := j) (by omega)
        rw [y] at e1
        have e2 : (-2 : Int32).toInt = -2 := by decide
        rw [e2] at e1
        omega
      · exact br_t rfl (J0 (fun q => by obtain ⟨_, j, hj, hF⟩ := q; exact hn j hj hF))
    · exact br_f (fun y => z ((sg_sub (by omega)).mp y)) (J0 (fun q => z q.1))
theorem yn_12 (post : Int32 → SY → Prop) (h1 : 1 ≤ m) (hm : m ≤ 8) {set : Nat} (hset : set < 64)
    (h : ∀ x ls', sg_N (ss_G m tp sh wt) set x → post x ((nI m), tp, sh, wt, ls')) :
    ∀ d s : Nat, s + d = 64 → ∀ ls, (∀ t, t < s → ls t = nI (if t = 0 then 0 else 100)) → wY_seedsNeeded_12 post (nI set) (nI m) tp (d + 1) (nI s) sh wt ls := by
  intro d
  induction d with
  | zero =>
    intro s hs ls hl
    have e : s = 64 := by omega
    rw [e] at hl ⊢
    refine br_t (nI_le (a := 64) (b := 64) (by omega) (by omega)) ⟨64, yn_42 post h1 hm hset h 63 0 rfl ls (fun t ht => ⟨_, hl t ht, ?_⟩)⟩
    by_cases z : t = 0
    · rw [z, if_pos rfl]; exact sg_L_0
    · rw [if_neg z]; exact sg_L_100 z
  | succ d ih =>
    intro s hs ls hl
    have ec : (nI s).toNatClampNeg = s := nI_clamp (by omega)
    have hin : vp_in (nI s) 64 := vp_in_nI (by omega) (by omega)
    have nx : ∀ x : Int32, x = nI (if s = 0 then 0 else 100) → wY_seedsNeeded_12 post (nI set) (nI m) tp (d + 1) (nI (s + 1)) sh wt (upd ls s x) := by
      intro x hx
      refine ih (s + 1) (by omega) _ (fun t ht => ?_)
      by_cases z : t = s
      · rw [z, pk_us]; exact hx
      · rw [pk_un z]; exact hl t (by omega)
    refine br_f (nI_ge (b := 64) (by omega) (by omega)) (pk_eq s 0 (fun z => ⟨hin, nm_r (congrArg (fun q => upd ls q 0) ec) (nm_r (nI_1 s) (nx 0 ?_))⟩) (fun z => ⟨hin, nm_r (congrArg (fun q => upd ls q 100) ec) (nm_r (nI_1 s) (nx 100 ?_))⟩))
    · rw [if_pos z]; rfl
    · rw [if_neg z]; rfl
end
end
section
/-! guards, constructors, forget -/
def ss_pl (a b : Int32) : Prop := ¬ a < 0 ∧ ¬ 15 < a ∧ ¬ b < 0 ∧ ¬ 3 < b
def ss_cs (a : Int32) : Prop := ¬ a < 0 ∧ ¬ 63 < a
def ss_is (m : Nat) (x : Int32) : Prop := ¬ x < 0 ∧ ¬ ((1 : Int32) <<< (nI m &&& 31)) ≤ x
theorem ss_up (M : Int32) (N : Nat) (hM : M.toInt = N) {a : Int32} (h0 : ¬ a < 0) (h : ¬ M < a) : ∃ j, j < N + 1 ∧ a = nI j := by
  obtain ⟨j, hj, e⟩ := nI_of2 hM h0 (Int32.not_lt.mp h)
  exact ⟨j, by omega, e⟩
theorem ss_pl_e {a b : Int32} (h : ss_pl a b) : ∃ c e, c < 16 ∧ e < 4 ∧ a = nI c ∧ b = nI e := by
  obtain ⟨c, hc, ec⟩ := ss_up 15 15 (by decide) h.1 h.2.1
  obtain ⟨e, he, ee⟩ := ss_up 3 3 (by decide) h.2.2.1 h.2.2.2
  exact ⟨c, e, hc, he, ec, ee⟩
theorem ss_cs_e {a : Int32} (h : ss_cs a) : ∃ s, s < 64 ∧ a = nI s := ss_up 63 63 (by decide) h.1 h.2
theorem ss_is_e {m : Nat} (hm : m ≤ 8) {x : Int32} (h : ss_is m x) : ∃ j, j < 2 ^ m ∧ x = nI j := by
  obtain ⟨j, hj, rfl⟩ := nI_of h.1
  have h2 := h.2
  have hp := ss_p8 hm
  rw [ss_pw m (by omega), nI_leI (by omega) hj] at h2
  exact ⟨j, by omega, rfl⟩
theorem si_n2 : vp_nar .byte 2 = (2 : Int32) := by rw [vp_nar_byte]; decide
theorem si_nb : ∀ j, j < 3 → vp_nar .byte (nI j).toInt8.toInt32 = nI j := fun j hj => by
  rw [pk_vb]; exact sg_i8 j (by omega)
def si_sh (m : Nat) : Nat → Nat → Int32
  | 0 => fun _ => 0
  | c + 1 => upd (si_sh m c) c ((1 : Int32) <<< ((nI c - nI c / nI m * nI m) &&& 31))
def si_wt : Nat → Nat → Int32
  | 0 => fun _ => 0
  | i + 1 => upd (si_wt i) i 2
def si_fg (wt : Nat → Int32) (cube : Nat) : Nat → Nat → Int32
  | 0 => wt
  | i + 1 => upd (si_fg wt cube i) (64 * cube + i) 2
theorem si_wt_2 : ∀ k i : Nat, i < k → si_wt k i = 2 := by
  intro k
  induction k with
  | zero => intro i hi; omega
  | succ k ih =>
    intro i hi
    show upd (si_wt k) k 2 i = 2
    by_cases z : i = k
    · rw [z, pk_us]
    · rw [pk_un z]; exact ih i (by omega)
theorem si_wt_W : ss_W (si_wt 384) := fun i hi => Or.inl (si_wt_2 384 i hi)
theorem si_W_u {wt : Nat → Int32} {k : Nat} {x : Int32} (h : ss_W wt) (hx : x = 2 ∨ ∃ q : Bool, x = ss_b q) : ss_W (upd wt k x) := by
  intro i hi
  by_cases z : i = k
  · rw [z, pk_us]; exact hx
  · rw [pk_un z]; exact h i hi
theorem si_fg_W {wt : Nat → Int32} {cube : Nat} (h : ss_W wt) : ∀ k : Nat, ss_W (si_fg wt cube k) := by
  intro k
  induction k with
  | zero => exact h
  | succ k ih => exact si_W_u ih (Or.inl rfl)
section
variable {m : Nat} {tp fr rv gr : Int32} {sh wt fo bf eqn rs gd nd ls : Nat → Int32}
theorem xq_pl {post : Int32 → Prop} {a b : Int32} (h : ss_pl a b) (k : post 1) : wpX_isPlace post ((nI m), tp, fr, rv, gr, sh, wt, fo, bf, eqn, rs, gd, nd) a b :=
  br_f h.1 (br_f h.2.1 (br_f h.2.2.1 (br_f h.2.2.2 k)))
theorem xq_npl {post : Int32 → Prop} {a b : Int32} (h : ¬ ss_pl a b) (k : post 0) : wpX_isPlace post ((nI m), tp, fr, rv, gr, sh, wt, fo, bf, eqn, rs, gd, nd) a b :=
  br_c (fun _ => k) (fun h1 => br_c (fun _ => k) (fun h2 => br_c (fun _ => k) (fun h3 => br_c (fun _ => k) (fun h4 => absurd ⟨h1, h2, h3, h4⟩ h))))
theorem yq_pl {post : Int32 → Prop} {a b : Int32} (h : ss_pl a b) (k : post 1) : wpY_isPlace post ((nI m), tp, sh, wt, ls) a b :=
  br_f h.1 (br_f h.2.1 (br_f h.2.2.1 (br_f h.2.2.2 k)))
theorem yq_npl {post : Int32 → Prop} {a b : Int32} (h : ¬ ss_pl a b) (k : post 0) : wpY_isPlace post ((nI m), tp, sh, wt, ls) a b :=
  br_c (fun _ => k) (fun h1 => br_c (fun _ => k) (fun h2 => br_c (fun _ => k) (fun h3 => br_c (fun _ => k) (fun h4 => absurd ⟨h1, h2, h3, h4⟩ h))))
theorem xq_cs {post : Int32 → Prop} {a : Int32} (h : ss_cs a) (k : post 1) : wpX_isCubeSet post ((nI m), tp, fr, rv, gr, sh, wt, fo, bf, eqn, rs, gd, nd) a := br_f h.1 (br_f h.2 k)
theorem xq_ncs {post : Int32 → Prop} {a : Int32} (h : ¬ ss_cs a) (k : post 0) : wpX_isCubeSet post ((nI m), tp, fr, rv, gr, sh, wt, fo, bf, eqn, rs, gd, nd) a :=
  br_c (fun _ => k) (fun h1 => br_c (fun _ => k) (fun h2 => absurd ⟨h1, h2⟩ h))
theorem yq_cs {post : Int32 → Prop} {a : Int32} (h : ss_cs a) (k : post 1) : wpY_isSet post ((nI m), tp, sh, wt, ls) a := br_f h.1 (br_f h.2 k)
theorem yq_ncs {post : Int32 → Prop} {a : Int32} (h : ¬ ss_cs a) (k : post 0) : wpY_isSet post ((nI m), tp, sh, wt, ls) a :=
  br_c (fun _ => k) (fun h1 => br_c (fun _ => k) (fun h2 => absurd ⟨h1, h2⟩ h))
theorem yq_is {post : Int32 → Prop} {a : Int32} (h : ss_is m a) (k : post 1) : wpY_isState post ((nI m), tp, sh, wt, ls) a := br_f h.1 (br_f h.2 k)
theorem yq_nis {post : Int32 → Prop} {a : Int32} (h : ¬ ss_is m a) (k : post 0) : wpY_isState post ((nI m), tp, sh, wt, ls) a :=
  br_c (fun _ => k) (fun h1 => br_c (fun _ => k) (fun h2 => absurd ⟨h1, h2⟩ h))
/-! constructors -/
theorem xi_136 (post : SX → Prop) (h : post ((nI m), tp, fr, rv, gr, sh, si_wt 384, fo, bf, eqn, rs, gd, nd)) : ∀ d i : Nat, i + d = 384 → wX_init_136 post (nI m) tp fr rv gr (d + 1) (nI i) sh (si_wt i) fo bf eqn rs gd nd := by
  intro d
  induction d with
  | zero =>
    intro i hi
    have e : i = 384 := by omega
    rw [e]
    exact br_t (nI_le (a := 384) (b := 384) (by omega) (by omega)) h
  | succ d ih =>
    intro i hi
    have e : upd (si_wt i) (nI i).toNatClampNeg (vp_nar .byte 2) = si_wt (i + 1) := by rw [nI_clamp (by omega), si_n2]; rfl
    exact br_f (nI_ge (b := 384) (by omega) (by omega)) ⟨vp_in_nI (by omega) (by omega), nm_r e (nm_r (nI_1 i) (ih (i + 1) (by omega)))⟩
theorem xi_109 (post : SX → Prop) (h1 : 1 ≤ m) (hm : m ≤ 8) (h : post ((nI m), tp, fr, rv, gr, si_sh m 4, si_wt 384, fo, bf, eqn, rs, gd, nd)) : ∀ d c : Nat, c + d = 4 → wX_init_109 post (nI m) tp fr rv gr (d + 1) (nI c) (si_sh m c) (si_wt 0) fo bf eqn rs gd nd := by
  intro d
  induction d with
  | zero =>
    intro c hc
    have e : c = 4 := by omega
    rw [e]
    exact br_t (nI_le (a := 4) (b := 4) (by omega) (by omega)) ⟨385, xi_136 post h 384 0 rfl⟩
  | succ d ih =>
    intro c hc
    have e : upd (si_sh m c) (nI c).toNatClampNeg ((1 : Int32) <<< ((nI c - nI c / nI m * nI m) &&& 31)) = si_sh m (c + 1) := by rw [nI_clamp (by omega)]; rfl
    exact br_f (nI_ge (b := 4) (by omega) (by omega)) ⟨nI_ne0 (by omega) (by omega), vp_in_nI (by omega) (by omega), nm_r e (nm_r (nI_1 c) (ih (c + 1) (by omega)))⟩
theorem xi_90 {post : SX → Prop} {x : Int32} (h1 : 1 ≤ m) (hm : m ≤ 8) (h : post ((nI m), x &&& (((1 : Int32) <<< (nI m &&& 31)) - 1), fr, rv, gr, si_sh m 4, si_wt 384, fo, bf, eqn, rs, gd, nd)) :
    wX_init_90 post x (nI m) 0 0 fr rv gr (fun _ => 0) (fun _ => 0) fo bf eqn rs gd nd := nm_e ⟨5, xi_109 post h1 hm h 4 0 rfl⟩
theorem yi_96 (post : SY → Prop) (h : post ((nI m), tp, sh, si_wt 384, ls)) : ∀ d i : Nat, i + d = 384 → wY_init_96 post (nI m) tp (d + 1) (nI i) sh (si_wt i) ls := by
  intro d
  induction d with
  | zero =>
    intro i hi
    have e : i = 384 := by omega
    rw [e]
    exact br_t (nI_le (a := 384) (b := 384) (by omega) (by omega)) h
  | succ d ih =>
    intro i hi
    have e : upd (si_wt i) (nI i).toNatClampNeg 2 = si_wt (i + 1) := by rw [nI_clamp (by omega)]; rfl
    exact br_f (nI_ge (b := 384) (by omega) (by omega)) ⟨vp_in_nI (by omega) (by omega), nm_r e (nm_r (nI_1 i) (ih (i + 1) (by omega)))⟩
theorem yi_69 (post : SY → Prop) (h1 : 1 ≤ m) (hm : m ≤ 8) (h : post ((nI m), tp, si_sh m 4, si_wt 384, ls)) : ∀ d c : Nat, c + d = 4 → wY_init_69 post (nI m) tp (d + 1) (nI c) (si_sh m c) (si_wt 0) ls := by
  intro d
  induction d with
  | zero =>
    intro c hc
    have e : c = 4 := by omega
    rw [e]
    exact br_t (nI_le (a := 4) (b := 4) (by omega) (by omega)) ⟨385, yi_96 post h 384 0 rfl⟩
  | succ d ih =>
    intro c hc
    have e : upd (si_sh m c) (nI c).toNatClampNeg ((1 : Int32) <<< ((nI c - nI c / nI m * nI m) &&& 31)) = si_sh m (c + 1) := by rw [nI_clamp (by omega)]; rfl
    exact br_f (nI_ge (b := 4) (by omega) (by omega)) ⟨nI_ne0 (by omega) (by omega), vp_in_nI (by omega) (by omega), nm_r e (nm_r (nI_1 c) (ih (c + 1) (by omega)))⟩
theorem yi_50 {post : SY → Prop} {x : Int32} (h1 : 1 ≤ m) (hm : m ≤ 8) (h : post ((nI m), x &&& (((1 : Int32) <<< (nI m &&& 31)) - 1), si_sh m 4, si_wt 384, ls)) :
    wY_init_50 post x (nI m) 0 0 (fun _ => 0) (fun _ => 0) ls := nm_e ⟨5, yi_69 post h1 hm h 4 0 rfl⟩
/-! forget -/
theorem xg_13 (post : Int32 → SX → Prop) {cube : Nat} (hc : cube < 6) (h : post 1 ((nI m), tp, fr, rv, 0, sh, si_fg wt cube 64, fo, bf, eqn, rs, gd, nd)) :
    ∀ d i : Nat, i + d = 64 → wX_forget_13 post (nI cube) (nI m) tp fr rv gr (d + 1) (nI i) sh (si_fg wt cube i) fo bf eqn rs gd nd := by
  intro d
  induction d with
  | zero =>
    intro i hi
    have e : i = 64 := by omega
    rw [e]
    exact br_t (nI_le (a := 64) (b := 64) (by omega) (by omega)) h
  | succ d ih =>
    intro i hi
    have q : vp_in ((64 * nI cube) + nI i) 384 := by rw [ss_ix64]; exact vp_in_nI (by omega) (by omega)
    have e : upd (si_fg wt cube i) ((64 * nI cube) + nI i).toNatClampNeg (vp_nar .byte 2) = si_fg wt cube (i + 1) := by rw [ss_ix64, nI_clamp (by omega), si_n2]; rfl
    exact br_f (nI_ge (b := 64) (by omega) (by omega)) ⟨q, nm_r e (nm_r (nI_1 i) (ih (i + 1) (by omega)))⟩
theorem yg_13 (post : Int32 → SY → Prop) {cube : Nat} (hc : cube < 6) (h : post 1 ((nI m), tp, sh, si_fg wt cube 64, ls)) :
    ∀ d i : Nat, i + d = 64 → wY_forget_13 post (nI cube) (nI m) tp (d + 1) (nI i) sh (si_fg wt cube i) ls := by
  intro d
  induction d with
  | zero =>
    intro i hi
    have e : i = 64 := by omega
    rw [e]
    exact br_t (nI_le (a := 64) (b := 64) (by omega) (by omega)) h
  | succ d ih =>
    intro i hi
    have q : vp_in ((64 * nI cube) + nI i) 384 := by rw [ss_ix64]; exact vp_in_nI (by omega) (by omega)
    have e : upd (si_fg wt cube i) ((64 * nI cube) + nI i).toNatClampNeg 2 = si_fg wt cube (i + 1) := by rw [ss_ix64, nI_clamp (by omega)]; rfl
    exact br_f (nI_ge (b := 64) (by omega) (by omega)) ⟨q, nm_r e (nm_r (nI_1 i) (ih (i + 1) (by omega)))⟩
/-! shifter, want -/
theorem xq_sh1 {post : Int32 → SX → Prop} {a : Nat} {x : Int32} (ha : a < 4) (hx : ss_is m x) (k : post 1 ((nI m), tp, 0, rv, 0, upd sh a x, wt, fo, bf, eqn, rs, gd, nd)) : wpX_shifter post ((nI m), tp, fr, rv, gr, sh, wt, fo, bf, eqn, rs, gd, nd) (nI a) x := by
  have e : upd sh (nI a).toNatClampNeg x = upd sh a x := by rw [nI_clamp (by omega)]
  exact br_f (nI_pos (by omega)) (br_t (nI_le (b := 3) (by omega) (by omega)) (br_f hx.1 (br_t (Int32.not_le.mp hx.2) ⟨vp_in_nI (by omega) (by omega), nm_r e k⟩)))
theorem xq_sh0 {post : Int32 → SX → Prop} {p x : Int32} (h : ¬ (¬ p < 0 ∧ ¬ 3 < p ∧ ss_is m x)) (k : post 0 ((nI m), tp, fr, rv, gr, sh, wt, fo, bf, eqn, rs, gd, nd)) : wpX_shifter post ((nI m), tp, fr, rv, gr, sh, wt, fo, bf, eqn, rs, gd, nd) p x :=
  br_c (fun _ => k) (fun h1 => br_c (fun h2 => br_c (fun _ => k) (fun h3 => br_c (fun h4 => absurd ⟨h1, Int32.not_lt.mpr h2, h3, Int32.not_le.mpr h4⟩ h) (fun _ => k))) (fun _ => k))
theorem yq_sh1 {post : Int32 → SY → Prop} {a : Nat} {x : Int32} (ha : a < 4) (hx : ss_is m x) (k : post 1 ((nI m), tp, upd sh a x, wt, ls)) : wpY_shifter post ((nI m), tp, sh, wt, ls) (nI a) x := by
  have e : upd sh (nI a).toNatClampNeg x = upd sh a x := by rw [nI_clamp (by omega)]
  exact br_f (nI_pos (by omega)) (br_f (nI_nlt (a := 3) (b := a) (by omega) (by omega)) (yq_is hx (br_f (by decide) ⟨vp_in_nI (by omega) (by omega), nm_r e k⟩)))
theorem yq_sh0 {post : Int32 → SY → Prop} {p x : Int32} (h : ¬ (¬ p < 0 ∧ ¬ 3 < p ∧ ss_is m x)) (k : post 0 ((nI m), tp, sh, wt, ls)) : wpY_shifter post ((nI m), tp, sh, wt, ls) p x :=
  br_c (fun _ => k) (fun h1 => br_c (fun _ => k) (fun h2 => yq_nis (fun h3 => h ⟨h1, h2, h3⟩) (br_t rfl k)))
def ss_wg (p a b x : Int32) : Prop := ¬ p < 0 ∧ ¬ 5 < p ∧ ss_pl a b ∧ ¬ x < 0 ∧ x ≤ 2
theorem ss_ixw (p c e : Nat) : ((64 * nI p) + (4 * nI c)) + nI e = nI (64 * p + 4 * c + e) := by
  show (nI 64 * nI p + nI 4 * nI c) + nI e = _
  rw [pk_mul, pk_mul, nI_add, nI_add]
theorem xq_wa1 {post : Int32 → SX → Prop} {p c e j : Nat} (hp : p < 6) (hc : c < 16) (he : e < 4) (hj : j < 3) (hg : ss_wg (nI p) (nI c) (nI e) (nI j)) (k : post 1 ((nI m), tp, fr, rv, 0, sh, upd wt (64 * p + 4 * c + e) (nI j), fo, bf, eqn, rs, gd, nd)) : wpX_want post ((nI m), tp, fr, rv, gr, sh, wt, fo, bf, eqn, rs, gd, nd) (nI p) (nI c) (nI e) (nI j) := by
  have q : vp_in (((64 * nI p) + (4 * nI c)) + nI e) 384 := by rw [ss_ixw]; exact vp_in_nI (by omega) (by omega)
  have ee : upd wt (((64 * nI p) + (4 * nI c)) + nI e).toNatClampNeg (vp_nar .byte (nI j).toInt8.toInt32) = upd wt (64 * p + 4 * c + e) (nI j) := by rw [ss_ixw, nI_clamp (by omega), si_nb j hj]
  exact br_f hg.1 (br_f hg.2.1 (xq_pl hg.2.2.1 (br_f (by decide) (br_f hg.2.2.2.1 (br_t hg.2.2.2.2 ⟨q, nm_r ee k⟩)))))
theorem xq_wa0 {post : Int32 → SX → Prop} {p a b x : Int32} (h : ¬ ss_wg p a b x) (k : post 0 ((nI m), tp, fr, rv, gr, sh, wt, fo, bf, eqn, rs, gd, nd)) : wpX_want post ((nI m), tp, fr, rv, gr, sh, wt, fo, bf, eqn, rs, gd, nd) p a b x := by
  refine br_c (fun _ => k) (fun h1 => br_c (fun _ => k) (fun h2 => ?_))
  by_cases z : ss_pl a b
  · exact xq_pl z (br_f (by decide) (br_c (fun _ => k) (fun h3 => br_c (fun h4 => absurd ⟨h1, h2, z, h3, h4⟩ h) (fun _ => k))))
  · exact xq_npl z (br_t rfl k)
theorem yq_wa1 {post : Int32 → SY → Prop} {p c e j : Nat} (hp : p < 6) (hc : c < 16) (he : e < 4) (hj : j < 3) (hg : ss_wg (nI p) (nI c) (nI e) (nI j)) (k : post 1 ((nI m), tp, sh, upd wt (64 * p + 4 * c + e) (nI j), ls)) : wpY_want post ((nI m), tp, sh, wt, ls) (nI p) (nI c) (nI e) (nI j) := by
  have q : vp_in (((64 * nI p) + (4 * nI c)) + nI e) 384 := by rw [ss_ixw]; exact vp_in_nI (by omega) (by omega)
  have ee : upd wt (((64 * nI p) + (4 * nI c)) + nI e).toNatClampNeg (nI j) = upd wt (64 * p + 4 * c + e) (nI j) := by rw [ss_ixw, nI_clamp (by omega)]
  exact br_f hg.1 (br_f hg.2.1 (yq_pl hg.2.2.1 (br_f (by decide) (br_f hg.2.2.2.1 (br_t hg.2.2.2.2 ⟨q, nm_r ee k⟩)))))
theorem yq_wa0 {post : Int32 → SY → Prop} {p a b x : Int32} (h : ¬ ss_wg p a b x) (k : post 0 ((nI m), tp, sh, wt, ls)) : wpY_want post ((nI m), tp, sh, wt, ls) p a b x := by
  refine br_c (fun _ => k) (fun h1 => br_c (fun _ => k) (fun h2 => ?_))
  by_cases z : ss_pl a b
  · exact yq_pl z (br_f (by decide) (br_c (fun _ => k) (fun h3 => br_c (fun h4 => absurd ⟨h1, h2, z, h3, h4⟩ h) (fun _ => k))))
  · exact yq_npl z (br_t rfl k)
end
end
section
/-! the relation and the owed statements -/
def si_I (m : Nat) (tp fr gr : Int32) (sh wt fo nd : Nat → Int32) : Prop :=
  3 ≤ m ∧ m ≤ 8 ∧ ss_W wt ∧ (fr ≠ 0 → ss_FR m tp sh 64 fo) ∧ (gr ≠ 0 → ∀ t, t < 64 → sg_N (ss_G m tp sh wt) t (nd t))
/-- the relation at the head of a turn: one register, one set of wishes; forms and group table right where they are called ready -/
def i_Rel (k : Nat) (u : SX) (v : SY) : Prop := ∃ (m : Nat) (tp fr rv gr : Int32) (sh wt fo bf eqn rs gd nd ls : Nat → Int32), u = ((nI m), tp, fr, rv, gr, sh, wt, fo, bf, eqn, rs, gd, nd) ∧ v = ((nI m), tp, sh, wt, ls) ∧ si_I m tp fr gr sh wt fo nd
theorem si_mk {k m : Nat} {tp fr rv gr : Int32} {sh wt fo bf eqn rs gd nd ls : Nat → Int32} (h : si_I m tp fr gr sh wt fo nd) : i_Rel k ((nI m), tp, fr, rv, gr, sh, wt, fo, bf, eqn, rs, gd, nd) ((nI m), tp, sh, wt, ls) :=
  ⟨m, tp, fr, rv, gr, sh, wt, fo, bf, eqn, rs, gd, nd, ls, rfl, rfl, h⟩
theorem si_el {k : Nat} {u : SX} {v : SY} {P : SX → SY → Prop} (h : ∀ (m : Nat) (tp fr rv gr : Int32) (sh wt fo bf eqn rs gd nd ls : Nat → Int32), si_I m tp fr gr sh wt fo nd → P ((nI m), tp, fr, rv, gr, sh, wt, fo, bf, eqn, rs, gd, nd) ((nI m), tp, sh, wt, ls)) (I : i_Rel k u v) : P u v := by
  obtain ⟨m, tp, fr, rv, gr, sh, wt, fo, bf, eqn, rs, gd, nd, ls, e1, e2, hI⟩ := I
  rw [e1, e2]
  exact h m tp fr rv gr sh wt fo bf eqn rs gd nd ls hI
theorem si_cnt0 {p : Nat → Bool} : ∀ {n : Nat}, (∀ i, i < n → p i = false) → ss_cnt p n = 0 := by
  intro n
  induction n with
  | zero => intro _; rfl
  | succ n ih =>
    intro h
    show ss_cnt p n + (p n).toNat = 0
    rw [ih (fun i hi => h i (by omega)), h n (by omega)]; rfl
theorem i_up {k : Nat} {u : SX} {v : SY} (h : i_Rel k u v) : i_Rel (k + 5) u v := h
theorem si_bits (p0 p1 : Int32) : ∃ m, 3 ≤ m ∧ m ≤ 8 ∧ (∀ post : SX → Prop, wX_init_90 post p1 (nI m) 0 0 0 0 0 (fun _ => 0) (fun _ => 0) (fun _ => 0) (fun _ => 0) (fun _ => 0) (fun _ => 0) (fun _ => 0) (fun _ => 0) → wpX_init post p0 p1) ∧
    (∀ post : SY → Prop, wY_init_50 post p1 (nI m) 0 0 (fun _ => 0) (fun _ => 0) (fun _ => 0) → wpY_init post p0 p1) := by
  by_cases h3 : 3 ≤ p0
  · by_cases h8 : p0 ≤ 8
    · obtain ⟨j, hj, rfl⟩ := nI_of2 (x := p0) (M := 8) (n := 8) (by decide) (Int32.not_lt.mpr (Int32.le_trans (by decide) h3)) h8
      have : 3 ≤ j := (nI_leI (a := 3) (by omega) (by omega)).mp h3
      exact ⟨j, this, hj, fun post h => br_t h3 (br_t h8 h), fun post h => br_t h3 (br_t h8 h)⟩
    · exact ⟨8, by omega, by omega, fun post h => br_t h3 (br_f h8 h), fun post h => br_t h3 (br_f h8 h)⟩
  · exact ⟨3, by omega, by omega, fun post h => br_f h3 h, fun post h => br_f h3 h⟩
theorem i_vc0 (k0 : Int32) (k1 : Int32) : wpX_init (fun u => wpY_init (fun v => i_Rel 2 u v) k0 k1) k0 k1 := by
  obtain ⟨m, h3, h8, hX, hY⟩ := si_bits k0 k1
  refine hX _ (xi_90 (by omega) h8 (hY _ (yi_50 (by omega) h8 ?_)))
  exact si_mk ⟨h3, h8, si_wt_W, fun z => absurd rfl z, fun z => absurd rfl z⟩
theorem i_vc_shifter {k : Nat} {u : SX} {v : SY} (I : i_Rel k u v) (hk : k + 5 ≤ 2562) (v1 : Int32) (v2 : Int32) : wpX_shifter (fun r u' => wpY_shifter (fun r' v' => r' = r ∧ i_Rel (k + 5) u' v') v v1 v2) u v1 v2 := by
  refine si_el (P := fun u v => wpX_shifter (fun r u' => wpY_shifter (fun r' v' => r' = r ∧ i_Rel (k + 5) u' v') v v1 v2) u v1 v2) ?_ I
  intro m tp fr rv gr sh wt fo bf eqn rs gd nd ls hI
  by_cases g : ¬ v1 < 0 ∧ ¬ 3 < v1 ∧ ss_is m v2
  · obtain ⟨a, ha, rfl⟩ := ss_up 3 3 (by decide) g.1 g.2.1
    exact xq_sh1 ha g.2.2 (yq_sh1 ha g.2.2 ⟨rfl, si_mk ⟨hI.1, hI.2.1, hI.2.2.1, fun z => absurd rfl z, fun z => absurd rfl z⟩⟩)
  · exact xq_sh0 g (yq_sh0 g ⟨rfl, si_mk hI⟩)
theorem i_vc_want {k : Nat} {u : SX} {v : SY} (I : i_Rel k u v) (hk : k + 5 ≤ 2562) (v1 : Int32) (v2 : Int32) (v3 : Int32) (v4 : Int32) : wpX_want (fun r u' => wpY_want (fun r' v' => r' = r ∧ i_Rel (k + 5) u' v') v v1 v2 v3 v4) u v1 v2 v3 v4 := by
  refine si_el (P := fun u v => wpX_want (fun r u' => wpY_want (fun r' v' => r' = r ∧ i_Rel (k + 5) u' v') v v1 v2 v3 v4) u v1 v2 v3 v4) ?_ I
  intro m tp fr rv gr sh wt fo bf eqn rs gd nd ls hI
  by_cases g : ss_wg v1 v2 v3 v4
  · obtain ⟨p, hp, rfl⟩ := ss_up 5 5 (by decide) g.1 g.2.1
    obtain ⟨c, e, hc, he, rfl, rfl⟩ := ss_pl_e g.2.2.1
    obtain ⟨j, hj, rfl⟩ := ss_up 2 2 (by decide) g.2.2.2.1 (Int32.not_lt.mpr g.2.2.2.2)
    have hx : nI j = 2 ∨ ∃ q : Bool, nI j = ss_b q := by
      have : j = 0 ∨ j = 1 ∨ j = 2 := by omega
      rcases this with rfl | rfl | rfl
      · exact Or.inr ⟨false, rfl⟩
      · exact Or.inr ⟨true, rfl⟩
      · exact Or.inl rfl
    exact xq_wa1 hp hc he hj g (yq_wa1 hp hc he hj g ⟨rfl, si_mk ⟨hI.1, hI.2.1, si_W_u hI.2.2.1 hx, hI.2.2.2.1, fun z => absurd rfl z⟩⟩)
  · exact xq_wa0 g (yq_wa0 g ⟨rfl, si_mk hI⟩)
theorem i_vc_expand {k : Nat} {u : SX} {v : SY} (I : i_Rel k u v) (hk : k + 5 ≤ 2562) (v1 : Int32) (v2 : Int32) (v3 : Int32) : wpX_expand (fun r u' => wpY_expand (fun r' => r' = r ∧ i_Rel (k + 5) u' v) v v1 v2 v3) u v1 v2 v3 := by
  refine si_el (P := fun u v => wpX_expand (fun r u' => wpY_expand (fun r' => r' = r ∧ i_Rel (k + 5) u' v) v v1 v2 v3) u v1 v2 v3) ?_ I
  intro m tp fr rv gr sh wt fo bf eqn rs gd nd ls hI
  obtain ⟨h3, h8, hw, hf, hg⟩ := hI
  have I' : i_Rel (k + 5) ((nI m), tp, fr, rv, gr, sh, wt, fo, bf, eqn, rs, gd, nd) ((nI m), tp, sh, wt, ls) := si_mk ⟨h3, h8, hw, hf, hg⟩
  unfold wpX_expand
  by_cases s : ss_is m v1
  · obtain ⟨j, hj, ej⟩ := ss_is_e h8 s
    refine br_f s.1 (br_f s.2 ?_)
    by_cases g : ss_pl v2 v3
    · refine xq_pl g (br_f (by decide) ?_)
      obtain ⟨c, e, hc, he, rfl, rfl⟩ := ss_pl_e g
      refine xf_make (by omega) h8 hf ?_
      intro fr' fo' bf' hfr hfo
      have hin : vp_in ((4 * nI c) + nI e) 64 := by rw [ss_ix]; exact vp_in_nI (by omega) (by omega)
      refine ⟨hin, xf_par ?_⟩
      unfold wpY_expand
      refine yq_is s (br_f (by decide) (yq_pl g (br_f (by decide) (yv_val (by omega) h8 he hc ⟨?_, si_mk ⟨h3, h8, hw, fun _ => hfo, hg⟩⟩))))
      have ei : ((4 * nI c) + nI e).toNatClampNeg = 4 * c + e := by rw [ss_ix, nI_clamp (by omega)]
      have f1 := (hfo (4 * c + e) (by omega)).2 v1 (by rw [ej]; exact ss_loN hj)
      rw [show (4 * c + e) / 4 = c by omega, show (4 * c + e) % 4 = e by omega] at f1
      rw [ss_dt_par, ei, f1]
    · refine xq_npl g (br_t rfl ?_)
      unfold wpY_expand
      exact yq_is s (br_f (by decide) (yq_npl g (br_t rfl ⟨rfl, I'⟩)))
  · have hy : wpY_expand (fun r' => r' = -1 ∧ i_Rel (k + 5) ((nI m), tp, fr, rv, gr, sh, wt, fo, bf, eqn, rs, gd, nd) ((nI m), tp, sh, wt, ls)) ((nI m), tp, sh, wt, ls) v1 v2 v3 := by
      unfold wpY_expand
      exact yq_nis s (br_t rfl ⟨rfl, I'⟩)
    exact br_c (fun _ => hy) (fun h1 => br_c (fun _ => hy) (fun h2 => absurd ⟨h1, h2⟩ s))
theorem i_vc_seeds {k : Nat} {u : SX} {v : SY} (I : i_Rel k u v) (hk : k + 5 ≤ 2562) (v1 : Int32) : wpX_seeds (fun r u' => wpY_seeds (fun r' => r' = r ∧ i_Rel (k + 5) u' v) v v1) u v1 := by
  refine si_el (P := fun u v => wpX_seeds (fun r u' => wpY_seeds (fun r' => r' = r ∧ i_Rel (k + 5) u' v) v v1) u v1) ?_ I
  intro m tp fr rv gr sh wt fo bf eqn rs gd nd ls hI
  obtain ⟨h3, h8, hw, hf, hg⟩ := hI
  unfold wpX_seeds
  by_cases g : ss_cs v1
  · refine xq_cs g (br_f (by decide) ?_)
    obtain ⟨set, hset, rfl⟩ := ss_cs_e g
    refine xe_solve (by omega) h8 hf hw ?_
    intro r fr' rv' fo' bf' eqn' rs' hfr hfo hO
    rcases hO with ⟨hr, hT, hS⟩ | ⟨hr, hN⟩
    · refine br_f (by rw [hr]; decide) ⟨m + 1, xe_24 _ h8 ?_ m 0 (Nat.zero_add m)⟩
      unfold wpY_seeds
      refine yq_cs g (br_f (by decide) ⟨2 ^ m + 1, ys_14 _ (by omega) h8 ⟨?_, si_mk ⟨h3, h8, hw, fun _ => hfo, hg⟩⟩ (2 ^ m) 0 (Nat.zero_add _)⟩)
      rw [← ss_count m h8 hT]
      exact congrArg nI (ss_cnt_congr (fun j hj => ss_d_c (hS _ (ss_loN hj)).symm))
    · refine br_t hr ?_
      unfold wpY_seeds
      refine yq_cs g (br_f (by decide) ⟨2 ^ m + 1, ys_14 _ (by omega) h8 ⟨?_, si_mk ⟨h3, h8, hw, fun _ => hfo, hg⟩⟩ (2 ^ m) 0 (Nat.zero_add _)⟩)
      rw [si_cnt0 (fun j hj => ss_d_f.mpr (hN _ (ss_loN hj)))]
      exact nI_0
  · refine xq_ncs g (br_t rfl ?_)
    unfold wpY_seeds
    exact yq_ncs g (br_t rfl ⟨rfl, si_mk ⟨h3, h8, hw, hf, hg⟩⟩)
theorem i_vc_leastSeed {k : Nat} {u : SX} {v : SY} (I : i_Rel k u v) (hk : k + 5 ≤ 2562) (v1 : Int32) : wpX_leastSeed (fun r u' => wpY_leastSeed (fun r' => r' = r ∧ i_Rel (k + 5) u' v) v v1) u v1 := by
  refine si_el (P := fun u v => wpX_leastSeed (fun r u' => wpY_leastSeed (fun r' => r' = r ∧ i_Rel (k + 5) u' v) v v1) u v1) ?_ I
  intro m tp fr rv gr sh wt fo bf eqn rs gd nd ls hI
  obtain ⟨h3, h8, hw, hf, hg⟩ := hI
  unfold wpX_leastSeed
  by_cases g : ss_cs v1
  · refine xq_cs g (br_f (by decide) ?_)
    obtain ⟨set, hset, rfl⟩ := ss_cs_e g
    refine xe_solve (by omega) h8 hf hw ?_
    intro r fr' rv' fo' bf' eqn' rs' hfr hfo hO
    rcases hO with ⟨hr, hT, hS⟩ | ⟨hr, hN⟩
    · refine br_f (by rw [hr]; decide) (xc_comp h8 (ss_Fit m tp sh wt set) false hT hS ?_)
      intro seed rv2 eqn2 rs2 hE
      obtain ⟨hl, h0, hall⟩ := hE
      obtain ⟨a, ha, rfl⟩ := ss_lo_of hl
      show wpY_leastSeed _ _ _
      unfold wpY_leastSeed
      refine yq_cs g (br_f (by decide) (ys_fs (by omega) h8 (fun j hj hF hmin => ⟨?_, si_mk ⟨h3, h8, hw, fun _ => hfo, hg⟩⟩) (fun hn => absurd h0 (hn a ha))))
      rcases hall (nI j) (ss_loN hj) hF with e | ⟨c, _, hc, b1, b2, b3⟩
      · exact e
      · have := ss_gr_lt h8 ha hj hc b1 b2 (fun c' h1 h2 => (b3 c' h1 h2).symm)
        exact absurd h0 (hmin a this)
    · refine br_t hr ?_
      unfold wpY_leastSeed
      exact yq_cs g (br_f (by decide) (ys_fs (by omega) h8 (fun j hj hF _ => absurd hF (hN _ (ss_loN hj))) (fun _ => ⟨rfl, si_mk ⟨h3, h8, hw, fun _ => hfo, hg⟩⟩)))
  · refine xq_ncs g (br_t rfl ?_)
    unfold wpY_leastSeed
    exact yq_ncs g (br_t rfl ⟨rfl, si_mk ⟨h3, h8, hw, hf, hg⟩⟩)
theorem i_vc_greatestSeed {k : Nat} {u : SX} {v : SY} (I : i_Rel k u v) (hk : k + 5 ≤ 2562) (v1 : Int32) : wpX_greatestSeed (fun r u' => wpY_greatestSeed (fun r' => r' = r ∧ i_Rel (k + 5) u' v) v v1) u v1 := by
  refine si_el (P := fun u v => wpX_greatestSeed (fun r u' => wpY_greatestSeed (fun r' => r' = r ∧ i_Rel (k + 5) u' v) v v1) u v1) ?_ I
  intro m tp fr rv gr sh wt fo bf eqn rs gd nd ls hI
  obtain ⟨h3, h8, hw, hf, hg⟩ := hI
  have es : ((1 : Int32) <<< (nI m &&& 31)) - 1 = nI (2 ^ m) + (-1) := by rw [ss_pw m (by omega), ss_sm1]
  unfold wpX_greatestSeed
  by_cases g : ss_cs v1
  · refine xq_cs g (br_f (by decide) ?_)
    obtain ⟨set, hset, rfl⟩ := ss_cs_e g
    refine xe_solve (by omega) h8 hf hw ?_
    intro r fr' rv' fo' bf' eqn' rs' hfr hfo hO
    rcases hO with ⟨hr, hT, hS⟩ | ⟨hr, hN⟩
    · refine br_f (by rw [hr]; decide) (xc_comp h8 (ss_Fit m tp sh wt set) true hT hS ?_)
      intro seed rv2 eqn2 rs2 hE
      obtain ⟨hl, h0, hall⟩ := hE
      obtain ⟨a, ha, rfl⟩ := ss_lo_of hl
      show wpY_greatestSeed _ _ _
      unfold wpY_greatestSeed
      refine yq_cs g (br_f (by decide) (nm_r es ⟨2 ^ m + 1, ys_19 (by omega) h8 (fun j hj hF hmax => ⟨?_, si_mk ⟨h3, h8, hw, fun _ => hfo, hg⟩⟩) (fun hn => absurd h0 (hn a ha)) (2 ^ m) (Nat.le_refl _) (fun i h1 h2 => absurd h1 (by omega))⟩))
      rcases hall (nI j) (ss_loN hj) hF with e | ⟨c, _, hc, b1, b2, b3⟩
      · exact e
      · have := ss_gr_lt h8 hj ha hc b2 b1 b3
        exact absurd h0 (hmax a this ha)
    · refine br_t hr ?_
      unfold wpY_greatestSeed
      exact yq_cs g (br_f (by decide) (nm_r es ⟨2 ^ m + 1, ys_19 (by omega) h8 (fun j hj hF _ => absurd hF (hN _ (ss_loN hj))) (fun _ => ⟨rfl, si_mk ⟨h3, h8, hw, fun _ => hfo, hg⟩⟩) (2 ^ m) (Nat.le_refl _) (fun i h1 h2 => absurd h1 (by omega))⟩))
  · refine xq_ncs g (br_t rfl ?_)
    unfold wpY_greatestSeed
    exact yq_ncs g (br_t rfl ⟨rfl, si_mk ⟨h3, h8, hw, hf, hg⟩⟩)
theorem i_vc_forced {k : Nat} {u : SX} {v : SY} (I : i_Rel k u v) (hk : k + 5 ≤ 2562) (v1 : Int32) (v2 : Int32) (v3 : Int32) : wpX_forced (fun r u' => wpY_forced (fun r' => r' = r ∧ i_Rel (k + 5) u' v) v v1 v2 v3) u v1 v2 v3 := by
  refine si_el (P := fun u v => wpX_forced (fun r u' => wpY_forced (fun r' => r' = r ∧ i_Rel (k + 5) u' v) v v1 v2 v3) u v1 v2 v3) ?_ I
  intro m tp fr rv gr sh wt fo bf eqn rs gd nd ls hI
  obtain ⟨h3, h8, hw, hf, hg⟩ := hI
  unfold wpX_forced
  by_cases g : ss_cs v1
  · refine xq_cs g (br_f (by decide) ?_)
    by_cases p : ss_pl v2 v3
    · refine xq_pl p (br_f (by decide) ?_)
      obtain ⟨set, hset, rfl⟩ := ss_cs_e g
      obtain ⟨c, e, hc, he, rfl, rfl⟩ := ss_pl_e p
      have hY : ∀ (post : Int32 → Prop) (x : Int32), ss_FS m (fun j => ss_Fit m tp sh wt set (nI j)) (fun j => ss_V m tp sh (nI j) c e) (2 ^ m) x → post x → wpY_forced post ((nI m), tp, sh, wt, ls) (nI set) (nI c) (nI e) := by
        intro post x hx hp
        unfold wpY_forced
        refine yq_cs g (br_f (by decide) (yq_pl p (br_f (by decide) ⟨2 ^ m + 1, ys_26 (by omega) h8 hc he (fun y hy => ?_) (2 ^ m) 0 (Nat.zero_add _) (-2) (Or.inl ⟨rfl, fun i hi => absurd hi (Nat.not_lt_zero i)⟩)⟩)))
        rw [ss_FS_u hy hx]
        exact hp
      refine xe_solve (by omega) h8 hf hw ?_
      intro r fr' rv' fo' bf' eqn' rs' hfr hfo hO
      rcases hO with ⟨hr, hT, hS⟩ | ⟨hr, hN⟩
      · have hin : vp_in ((4 * nI c) + nI e) 64 := by rw [ss_ix]; exact vp_in_nI (by omega) (by omega)
        have ei : ((4 * nI c) + nI e).toNatClampNeg = 4 * c + e := by rw [ss_ix, nI_clamp (by omega)]
        refine br_f (by rw [hr]; decide) ⟨hin, ?_⟩
        rw [ei]
        have f1 := hfo (4 * c + e) (by omega)
        rw [show (4 * c + e) / 4 = c by omega, show (4 * c + e) % 4 = e by omega] at f1
        refine xe_red (q := false) h8 hT f1.1 ?_
        intro rest q' hR
        by_cases z : rest = 0
        · refine br_t z (hY _ _ (Or.inr (Or.inl ⟨q', rfl, ?_, fun i hi hF => ?_⟩)) ⟨rfl, si_mk ⟨h3, h8, hw, fun _ => hfo, hg⟩⟩)
          · obtain ⟨s, hl, hs⟩ := ss_ne h8 hT
            obtain ⟨i, hi, rfl⟩ := ss_lo_of hl
            exact ⟨i, hi, (hS _ hl).mp hs⟩
          · have hl := ss_loN hi
            have := hR.2.2 (nI i) ((hS _ hl).mpr hF)
            rw [z, ss_dt_0, Bool.xor_false, Bool.false_xor, f1.2 _ hl] at this
            exact this
        · have bo : ∀ v : Bool, ∃ i, i < 2 ^ m ∧ ss_Fit m tp sh wt set (nI i) ∧ ss_V m tp sh (nI i) c e = v := by
            intro v
            obtain ⟨s, hl, hs, hv⟩ := ss_both h8 hT hR z v
            obtain ⟨i, hi, rfl⟩ := ss_lo_of hl
            exact ⟨i, hi, (hS _ hl).mp hs, by rw [← f1.2 _ hl]; exact hv⟩
          exact br_f z (hY _ _ (Or.inr (Or.inr ⟨rfl, bo false, bo true⟩)) ⟨rfl, si_mk ⟨h3, h8, hw, fun _ => hfo, hg⟩⟩)
      · exact br_t hr (hY _ _ (Or.inl ⟨rfl, fun i hi => hN _ (ss_loN hi)⟩) ⟨rfl, si_mk ⟨h3, h8, hw, fun _ => hfo, hg⟩⟩)
    · refine xq_npl p (br_t rfl ?_)
      unfold wpY_forced
      exact yq_cs g (br_f (by decide) (yq_npl p (br_t rfl ⟨rfl, si_mk ⟨h3, h8, hw, hf, hg⟩⟩)))
  · refine xq_ncs g (br_t rfl ?_)
    unfold wpY_forced
    exact yq_ncs g (br_t rfl ⟨rfl, si_mk ⟨h3, h8, hw, hf, hg⟩⟩)
theorem i_vc_seedsNeeded {k : Nat} {u : SX} {v : SY} (I : i_Rel k u v) (hk : k + 5 ≤ 2562) (v1 : Int32) : wpX_seedsNeeded (fun r u' => wpY_seedsNeeded (fun r' v' => r' = r ∧ i_Rel (k + 5) u' v') v v1) u v1 := by
  refine si_el (P := fun u v => wpX_seedsNeeded (fun r u' => wpY_seedsNeeded (fun r' v' => r' = r ∧ i_Rel (k + 5) u' v') v v1) u v1) ?_ I
  intro m tp fr rv gr sh wt fo bf eqn rs gd nd ls hI
  obtain ⟨h3, h8, hw, hf, hg⟩ := hI
  unfold wpX_seedsNeeded
  by_cases g : ss_cs v1
  · refine xq_cs g (br_f (by decide) ?_)
    obtain ⟨set, hset, rfl⟩ := ss_cs_e g
    have hin : vp_in (nI set) 64 := vp_in_nI hset (by omega)
    have ec : (nI set).toNatClampNeg = set := nI_clamp (by omega)
    have hY : ∀ (post : Int32 → SY → Prop) (x : Int32), sg_N (ss_G m tp sh wt) set x → (∀ ls', post x ((nI m), tp, sh, wt, ls')) → wpY_seedsNeeded post ((nI m), tp, sh, wt, ls) (nI set) := by
      intro post x hx hp
      unfold wpY_seedsNeeded
      refine yq_cs g (br_f (by decide) ⟨65, yn_12 post (by omega) h8 hset (fun y ls' hy => ?_) 64 0 rfl ls (fun t ht => absurd ht (Nat.not_lt_zero t))⟩)
      rw [sg_N_u hy hx]
      exact hp ls'
    refine br_c (fun _ => xg_group (by omega) h8 hw hf ?_) (fun z => ⟨hin, hY _ _ (by rw [ec]; exact hg z set hset) (fun ls' => ⟨rfl, si_mk ⟨h3, h8, hw, hf, hg⟩⟩)⟩)
    intro fr' rv' fo' bf' eqn' rs' gd' nd' hf' hN
    exact ⟨hin, hY _ _ (by rw [ec]; exact hN set hset) (fun ls' => ⟨rfl, si_mk ⟨h3, h8, hw, hf', fun _ => hN⟩⟩)⟩
  · refine xq_ncs g (br_t rfl ?_)
    unfold wpY_seedsNeeded
    exact yq_ncs g (br_t rfl ⟨rfl, si_mk ⟨h3, h8, hw, hf, hg⟩⟩)
theorem i_vc_forget {k : Nat} {u : SX} {v : SY} (I : i_Rel k u v) (hk : k + 5 ≤ 2562) (v1 : Int32) : wpX_forget (fun r u' => wpY_forget (fun r' v' => r' = r ∧ i_Rel (k + 5) u' v') v v1) u v1 := by
  refine si_el (P := fun u v => wpX_forget (fun r u' => wpY_forget (fun r' v' => r' = r ∧ i_Rel (k + 5) u' v') v v1) u v1) ?_ I
  intro m tp fr rv gr sh wt fo bf eqn rs gd nd ls hI
  by_cases h0 : v1 < 0
  · exact br_t h0 (br_t h0 ⟨rfl, si_mk hI⟩)
  · by_cases h5 : v1 ≤ 5
    · obtain ⟨c, hc, e⟩ := ss_up 5 5 (by decide) h0 (Int32.not_lt.mpr h5)
      have hc' : c < 6 := hc
      refine br_f h0 (br_t h5 ⟨65, ?_⟩)
      rw [e]
      refine xg_13 _ hc' (br_f (by rw [← e]; exact h0) (br_t (by rw [← e]; exact h5) ⟨65, yg_13 _ hc' ⟨rfl, si_mk ⟨hI.1, hI.2.1, si_fg_W hI.2.2.1 64, hI.2.2.2.1, fun z => absurd rfl z⟩⟩ 64 0 rfl⟩)) 64 0 rfl
    · exact br_f h0 (br_f h5 (br_f h0 (br_f h5 ⟨rfl, si_mk hI⟩)))
end
