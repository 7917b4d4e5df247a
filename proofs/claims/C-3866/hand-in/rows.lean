section
/-! rows pasted from kit/rows (starting text) -/
theorem pk_us {f : Nat → Int32} {k : Nat} {x : Int32} : upd f k x k = x := if_pos rfl
theorem pk_un {f : Nat → Int32} {k j : Nat} {x : Int32} (h : j ≠ k) : upd f k x j = f j := if_neg h
theorem pk_sub {a b : Nat} (h : b ≤ a) : nI a - nI b = nI (a - b) := by
  obtain ⟨c, rfl⟩ : ∃ c, a = c + b := ⟨a - b, by omega⟩
  rw [← nI_add, Int32.add_sub_cancel, Nat.add_sub_cancel]
theorem pk_m1 (n : Nat) : nI (n + 1) + (-1) = nI n := by
  rw [← nI_1, Int32.add_assoc, show (1 : Int32) + (-1) = 0 from rfl, Int32.add_zero]
theorem pk_mul (a b : Nat) : nI a * nI b = nI (a * b) := (Int32.ofNat_mul a b).symm
theorem pk_div {a d : Nat} (ha : a < 2 ^ 31) (h0 : 0 < d) (hd : d < 2 ^ 31) : nI a / nI d = nI (a / d) := by
  apply Int32.toInt_inj.mp
  rw [lg_idiv_nonneg (by rw [nI_toInt ha]; omega) (by rw [nI_toInt hd]; omega), nI_toInt ha, nI_toInt hd, nI_toInt (Nat.lt_of_le_of_lt (Nat.div_le_self a d) ha)]
  first | rfl | exact (Int.natCast_ediv _ _).symm
theorem pk_rem {a d : Nat} (ha : a < 2 ^ 31) (h0 : 0 < d) (hd : d < 2 ^ 31) : nI a - nI a / nI d * nI d = nI (a % d) := by
  rw [pk_div ha h0 hd, pk_mul, pk_sub (Nat.div_mul_le_self a d)]
  exact congrArg nI (by have := Nat.div_add_mod' a d; omega)
theorem pk_ix (x : Int32) {n : Nat} (hn : n < 2 ^ 31) : x < 0 ∨ nI n ≤ x ∨ ∃ j : Nat, j < n ∧ x = nI j := by
  by_cases h : x < 0
  · exact Or.inl h
  · obtain ⟨j, hj, rfl⟩ := nI_of h
    by_cases h2 : j < n
    · exact Or.inr (Or.inr ⟨j, h2, rfl⟩)
    · exact Or.inr (Or.inl (nI_le (by omega) hj))
theorem pk_le {x y : Int32} {A B : Prop} (a b : Nat) (f : a ≤ b → A) (g : b < a → B) (hx : x = nI a := by rfl) (hy : y = nI b := by rfl) (ha : a < 2 ^ 31 := by omega) (hb : b < 2 ^ 31 := by omega) : (x ≤ y → A) ∧ (¬ x ≤ y → B) := by
  subst hx hy
  rw [nI_leI ha hb]
  exact ⟨f, fun z => g (by omega)⟩
theorem pk_lt {x y : Int32} {A B : Prop} (a b : Nat) (f : a < b → A) (g : b ≤ a → B) (hx : x = nI a := by rfl) (hy : y = nI b := by rfl) (ha : a < 2 ^ 31 := by omega) (hb : b < 2 ^ 31 := by omega) : (x < y → A) ∧ (¬ x < y → B) := by
  subst hx hy
  rw [nI_ltI ha hb]
  exact ⟨f, fun z => g (by omega)⟩
theorem pk_eq {x y : Int32} {A B : Prop} (a b : Nat) (f : a = b → A) (g : a ≠ b → B) (hx : x = nI a := by rfl) (hy : y = nI b := by rfl) (ha : a < 2 ^ 31 := by omega) (hb : b < 2 ^ 31 := by omega) : (x = y → A) ∧ (¬ x = y → B) := by
  subst hx hy
  rw [nI_eq ha hb]
  exact ⟨f, g⟩
theorem pk_in {x : Int32} (n N : Nat) (h : n < N) (hx : x = nI n := by rfl) (hN : N < 2 ^ 31 := by omega) : vp_in x N := by
  subst hx
  exact vp_in_nI h hN
theorem pk_cl {x : Int32} (n : Nat) (hx : x = nI n := by rfl) (h : n < 2 ^ 31 := by omega) : x.toNatClampNeg = n := by
  subst hx
  exact nI_clamp h
def bt (x : Int32) (i : Nat) : Bool := x.toBitVec.getLsbD i
theorem b_ext {x y : Int32} (h : ∀ i, i < 32 → bt x i = bt y i) : x = y := Int32.toBitVec_inj.mp (BitVec.eq_of_getLsbD_eq (fun i hi => h i hi))
theorem b_or (x y : Int32) (i : Nat) : bt (x ||| y) i = (bt x i || bt y i) := by unfold bt; rw [Int32.toBitVec_or, BitVec.getLsbD_or]
theorem b_and (x y : Int32) (i : Nat) : bt (x &&& y) i = (bt x i && bt y i) := by unfold bt; rw [Int32.toBitVec_and, BitVec.getLsbD_and]
theorem b_xor (x y : Int32) (i : Nat) : bt (x ^^^ y) i = (bt x i ^^ bt y i) := by unfold bt; rw [Int32.toBitVec_xor, BitVec.getLsbD_xor]
theorem b_big {x : Int32} {i : Nat} (h : 32 ≤ i) : bt x i = false := BitVec.getLsbD_of_ge _ _ h
theorem b_m1 : ∀ i, i < 32 → bt (-1) i = true := by decide +kernel
theorem b_0 (i : Nat) : bt 0 i = false := BitVec.getLsbD_zero
theorem s_l : ∀ n, n < 32 → ((nI n &&& 31).toBitVec.smod 32).toNat = n := by decide +kernel
theorem b_shl (n : Nat) (hn : n < 32) (x : Int32) {i : Nat} (hi : i < 32) : bt (x <<< (nI n &&& 31)) i = (decide (n ≤ i) && bt x (i - n)) := by
  unfold bt
  rw [Int32.toBitVec_shiftLeft]
  show (x.toBitVec <<< ((nI n &&& 31).toBitVec.smod 32).toNat).getLsbD i = _
  rw [s_l n hn, BitVec.getLsbD_shiftLeft]
  rcases Nat.lt_or_ge i n with h | h
  · simp [h, Nat.not_le.mpr h]
  · simp [hi, h, Nat.not_lt.mpr h]
theorem b_sshr (n : Nat) (hn : n < 32) (x : Int32) {i : Nat} (hi : i < 32) : bt (x >>> (nI n &&& 31)) i = if n + i < 32 then bt x (n + i) else bt x 31 := by
  unfold bt
  rw [Int32.toBitVec_shiftRight]
  show (x.toBitVec.sshiftRight ((nI n &&& 31).toBitVec.smod 32).toNat).getLsbD i = _
  rw [s_l n hn, BitVec.getLsbD_sshiftRight, BitVec.msb_eq_getLsbD_last]
  simp [hi]
end
section
/-! own rows on bits, booleans, numbers -/
theorem sg_b1 : ∀ i, i < 32 → bt 1 i = decide (i = 0) := by decide +kernel
theorem sg_sh1 : ∀ n, n < 32 → ∀ i, i < 32 → bt ((1 : Int32) <<< (nI n &&& 31)) i = decide (i = n) := by decide +kernel
theorem sg_t0 {n : Nat} (hn : n < 32) (x : Int32) : ((x >>> (nI n &&& 31)) &&& 1) = 0 ↔ bt x n = false := by
  constructor
  · intro h
    have h2 := congrArg (fun y => bt y 0) h
    simp only [b_and, b_0] at h2
    rw [b_sshr n hn x (by omega), sg_b1 0 (by omega), if_pos (by omega)] at h2
    simpa using h2
  · intro h
    apply b_ext
    intro i hi
    rw [b_and, b_0, sg_b1 i hi, b_sshr n hn x hi]
    by_cases z : i = 0
    · subst z
      rw [if_pos (by omega)]
      simp [h]
    · simp [z]
theorem sg_t1 {n : Nat} (hn : n < 32) (x : Int32) : ((x >>> (nI n &&& 31)) &&& 1) = 1 ↔ bt x n = true := by
  constructor
  · intro h
    by_cases z : bt x n = true
    · exact z
    · have z2 : bt x n = false := by simpa using z
      rw [(sg_t0 hn x).mpr z2] at h
      exact absurd h (by decide)
  · intro h
    apply b_ext
    intro i hi
    rw [b_and, sg_b1 i hi, b_sshr n hn x hi]
    by_cases z : i = 0
    · subst z
      rw [if_pos (by omega)]
      simp [h]
    · simp [z]
theorem sg_a0 {n : Nat} (hn : n < 32) (x : Int32) : (x &&& ((1 : Int32) <<< (nI n &&& 31))) = 0 ↔ bt x n = false := by
  constructor
  · intro h
    have h2 := congrArg (fun y => bt y n) h
    simp only [b_and, b_0] at h2
    rw [sg_sh1 n hn n hn] at h2
    simpa using h2
  · intro h
    apply b_ext
    intro i hi
    rw [b_and, b_0, sg_sh1 n hn i hi]
    by_cases z : i = n
    · subst z
      simp [h]
    · simp [z]
theorem sg_or {n i : Nat} (hn : n < 32) (hi : i < 32) (x : Int32) : bt (x ||| ((1 : Int32) <<< (nI n &&& 31))) i = (bt x i || decide (i = n)) := by
  rw [b_or, sg_sh1 n hn i hi]
theorem sg_clr {n i : Nat} (hn : n < 32) (hi : i < 32) (x : Int32) : bt (x &&& (((1 : Int32) <<< (nI n &&& 31)) ^^^ (-1))) i = (bt x i && !decide (i = n)) := by
  rw [b_and, b_xor, sg_sh1 n hn i hi, b_m1 i hi]
  simp
theorem sg_nf {b : Bool} (h : ¬ b = false) : b = true := by simpa using h
theorem sg_nt {b : Bool} (h : ¬ b = true) : b = false := by simpa using h
theorem sg_tf {b : Bool} (h : b = false) : ¬ b = true := by simp [h]
theorem sg_ft {b : Bool} (h : b = true) : ¬ b = false := by simp [h]
/-- branches on a bit -/
theorem sg_bz {n : Nat} (hn : n < 32) {x : Int32} {P Q : Prop} (f : bt x n = false → P) (g : bt x n = true → Q) : ((((x >>> (nI n &&& 31)) &&& 1) = 0 → P) ∧ (¬ ((x >>> (nI n &&& 31)) &&& 1) = 0 → Q)) :=
  ⟨fun h => f ((sg_t0 hn x).mp h), fun h => g (sg_nf (fun z => h ((sg_t0 hn x).mpr z)))⟩
theorem sg_bo {n : Nat} (hn : n < 32) {x : Int32} {P Q : Prop} (f : bt x n = true → P) (g : bt x n = false → Q) : ((((x >>> (nI n &&& 31)) &&& 1) = 1 → P) ∧ (¬ ((x >>> (nI n &&& 31)) &&& 1) = 1 → Q)) :=
  ⟨fun h => f ((sg_t1 hn x).mp h), fun h => g (sg_nt (fun z => h ((sg_t1 hn x).mpr z)))⟩
theorem sg_ba {n : Nat} (hn : n < 32) {x : Int32} {P Q : Prop} (f : bt x n = false → P) (g : bt x n = true → Q) : (((x &&& ((1 : Int32) <<< (nI n &&& 31))) = 0 → P) ∧ (¬ (x &&& ((1 : Int32) <<< (nI n &&& 31))) = 0 → Q)) :=
  ⟨fun h => f ((sg_a0 hn x).mp h), fun h => g (sg_nf (fun z => h ((sg_a0 hn x).mpr z)))⟩
/-- booleans as ints -/
def sg_b (b : Bool) : Int32 := if b = true then 1 else 0
theorem sg_b_t : sg_b true = 1 := rfl
theorem sg_b_f : sg_b false = 0 := rfl
theorem sg_b_0 (b : Bool) : sg_b b = 0 ↔ b = false := by cases b <;> decide
theorem sg_b_nar (b : Bool) : vp_nar .boolean (sg_b b) = sg_b b := by cases b <;> decide
theorem sg_nar0 : vp_nar .boolean 0 = 0 := by decide
theorem sg_nar1 : vp_nar .boolean 1 = 1 := by decide
theorem sg_nw0 : narrow .boolean (.int 0) = .int 0 := by rfl
theorem sg_nw1 : narrow .boolean (.int 1) = .int 1 := by rfl
theorem sg_bb {b : Bool} {P Q : Prop} (f : b = false → P) (g : b = true → Q) : ((sg_b b = 0 → P) ∧ (¬ sg_b b = 0 → Q)) :=
  ⟨fun h => f ((sg_b_0 b).mp h), fun h => g (sg_nf (fun z => h ((sg_b_0 b).mpr z)))⟩
theorem sg_10 : ¬ (1 : Int32) = 0 := by decide
/-- numbers -/
theorem sg_cl {n : Nat} (h : n < 32) : (nI n).toNatClampNeg = n := nI_clamp (by omega)
theorem sg_i24 {n N : Nat} (h : n < N) (hN : N ≤ 24) : vp_in (nI n) 24 := vp_in_nI (by omega) (by omega)
theorem sg_inj {a b : Nat} (h : nI a = nI b) (ha : a < 32) (hb : b < 32) : a = b := (nI_eq (by omega) (by omega)).mp h
theorem sg_m1 {a : Nat} (ha : a < 32) : ¬ nI a = -1 := by
  intro e
  have h := nI_pos (n := a) (by omega)
  rw [e] at h
  exact h (by decide)
theorem sg_m1' {a : Nat} (ha : a < 32) : ¬ -1 = nI a := fun e => sg_m1 ha e.symm
theorem sg_m1n : (-1 : Int32) < 0 := by decide
theorem sg_hb : ∀ n, n < 64 → vp_nar .byte (nI n).toInt8.toInt32 = nI n := by
  intro n hn
  rw [vp_nar_byte]
  revert n
  decide +kernel
theorem sg_k15 {k : Int32} (h0 : ¬ k < 0) (h1 : ¬ 14 < k) : k = 0 ∨ k = 1 ∨ k = 2 ∨ k = 3 ∨ k = 4 ∨ k = 5 ∨ k = 6 ∨ k = 7 ∨ k = 8 ∨ k = 9 ∨ k = 10 ∨ k = 11 ∨ k = 12 ∨ k = 13 ∨ k = 14 := by
  obtain ⟨j, hj, rfl⟩ := nI_of2 (M := 14) (n := 14) (by decide) h0 (Int32.not_lt.mp h1)
  have z : ∀ j, j ≤ 14 → (nI j = 0 ∨ nI j = 1 ∨ nI j = 2 ∨ nI j = 3 ∨ nI j = 4 ∨ nI j = 5 ∨ nI j = 6 ∨ nI j = 7 ∨ nI j = 8 ∨ nI j = 9 ∨ nI j = 10 ∨ nI j = 11 ∨ nI j = 12 ∨ nI j = 13 ∨ nI j = 14) := by decide +kernel
  exact z j hj
end
section
/-! the graph of the nodes, in plain numbers: K kinds, A B C operands, N nodes -/
def sg_cell (k : Int32) : Bool := decide (k = 4) || decide (k = 6) || decide (k = 13) || decide (k = 14)
def sg_in (N : Nat) (p : Int32) : Prop := ∃ j, j < N ∧ p = nI j
def sg_Ev (K : Nat → Int32) (N : Nat) (p : Int32) : Prop := ∃ j, j < N ∧ p = nI j ∧ sg_cell (K j) = false
def sg_Ce (K : Nat → Int32) (N : Nat) (p : Int32) : Prop := ∃ j, j < N ∧ p = nI j ∧ sg_cell (K j) = true
def sg_fit (K : Nat → Int32) (b N : Nat) (k x y z : Int32) : Prop :=
  k = 0 ∨ (k = 1 ∧ sg_Ev K b x) ∨ (k = 2 ∧ sg_Ev K b x) ∨ (k = 3 ∧ sg_Ev K b x ∧ sg_Ev K b y) ∨ (k = 4 ∧ (x = -1 ∨ sg_Ev K N x)) ∨ (k = 5 ∧ sg_Ev K b x ∧ sg_Ce K b y) ∨ (k = 6 ∧ sg_Ce K b x ∧ sg_Ce K b y) ∨ (k = 7 ∧ sg_Ev K b x ∧ sg_Ce K b y) ∨ (k = 8 ∧ sg_Ev K b x) ∨ (k = 9 ∧ sg_Ce K b x) ∨ (k = 10 ∧ sg_Ce K b x ∧ sg_Ev K b y ∧ sg_Ev K b z) ∨ (k = 11 ∧ sg_Ev K b x) ∨ (k = 12 ∧ sg_Ev K b x) ∨ (k = 13 ∧ sg_Ce K b x ∧ sg_Ce K b y ∧ sg_Ce K b z) ∨ (k = 14 ∧ sg_Ce K b x)
def sg_WF (K A B C : Nat → Int32) (N : Nat) : Prop := ∀ n, n < N → sg_fit K n N (K n) (A n) (B n) (C n)
/-- the parts of a node -/
def sg_pl (K A B C : Nat → Int32) (n : Nat) : List Nat :=
  if K n = 0 then [] else if K n = 11 then [] else if K n = 4 then (if A n < 0 then [] else [(A n).toNatClampNeg]) else if K n = 10 then [(B n).toNatClampNeg, (C n).toNatClampNeg] else if K n = 3 then [(A n).toNatClampNeg, (B n).toNatClampNeg] else if K n = 6 then [(A n).toNatClampNeg, (B n).toNatClampNeg] else if K n = 13 then [(A n).toNatClampNeg, (B n).toNatClampNeg, (C n).toNatClampNeg] else [(A n).toNatClampNeg]
/-- a node as it is seen: kind, operands, parts -/
def sg_V (K A B C : Nat → Int32) (N n : Nat) : Prop :=
  (K n = 0 ∧ sg_pl K A B C n = []) ∨
  (K n = 1 ∧ ∃ x, x < n ∧ A n = nI x ∧ sg_cell (K x) = false ∧ sg_pl K A B C n = [x]) ∨
  (K n = 2 ∧ ∃ x, x < n ∧ A n = nI x ∧ sg_cell (K x) = false ∧ sg_pl K A B C n = [x]) ∨
  (K n = 3 ∧ ∃ x y, x < n ∧ A n = nI x ∧ sg_cell (K x) = false ∧ y < n ∧ B n = nI y ∧ sg_cell (K y) = false ∧ sg_pl K A B C n = [x, y]) ∨
  (K n = 4 ∧ A n = -1 ∧ sg_pl K A B C n = []) ∨
  (K n = 4 ∧ ∃ x, x < N ∧ x ≠ n ∧ A n = nI x ∧ sg_cell (K x) = false ∧ sg_pl K A B C n = [x]) ∨
  (K n = 5 ∧ ∃ x y, x < n ∧ A n = nI x ∧ sg_cell (K x) = false ∧ y < n ∧ B n = nI y ∧ sg_cell (K y) = true ∧ sg_pl K A B C n = [x]) ∨
  (K n = 6 ∧ ∃ x y, x < n ∧ A n = nI x ∧ sg_cell (K x) = true ∧ y < n ∧ B n = nI y ∧ sg_cell (K y) = true ∧ sg_pl K A B C n = [x, y]) ∨
  (K n = 7 ∧ ∃ x y, x < n ∧ A n = nI x ∧ sg_cell (K x) = false ∧ y < n ∧ B n = nI y ∧ sg_cell (K y) = true ∧ sg_pl K A B C n = [x]) ∨
  (K n = 8 ∧ ∃ x, x < n ∧ A n = nI x ∧ sg_cell (K x) = false ∧ sg_pl K A B C n = [x]) ∨
  (K n = 9 ∧ ∃ x, x < n ∧ A n = nI x ∧ sg_cell (K x) = true ∧ sg_pl K A B C n = [x]) ∨
  (K n = 10 ∧ ∃ x y z, x < n ∧ A n = nI x ∧ sg_cell (K x) = true ∧ y < n ∧ B n = nI y ∧ sg_cell (K y) = false ∧ z < n ∧ C n = nI z ∧ sg_cell (K z) = false ∧ sg_pl K A B C n = [y, z]) ∨
  (K n = 11 ∧ ∃ x, x < n ∧ A n = nI x ∧ sg_cell (K x) = false ∧ sg_pl K A B C n = []) ∨
  (K n = 12 ∧ ∃ x, x < n ∧ A n = nI x ∧ sg_cell (K x) = false ∧ sg_pl K A B C n = [x]) ∨
  (K n = 13 ∧ ∃ x y z, x < n ∧ A n = nI x ∧ sg_cell (K x) = true ∧ y < n ∧ B n = nI y ∧ sg_cell (K y) = true ∧ z < n ∧ C n = nI z ∧ sg_cell (K z) = true ∧ sg_pl K A B C n = [x, y, z]) ∨
  (K n = 14 ∧ ∃ x, x < n ∧ A n = nI x ∧ sg_cell (K x) = true ∧ sg_pl K A B C n = [x])
theorem sg_view {K A B C : Nat → Int32} {N n : Nat} (hW : sg_WF K A B C N) (hN : N ≤ 24) (hn : n < N) : sg_V K A B C N n := by
  have q : ∀ x, x < N → (nI x).toNatClampNeg = x := fun x hx => sg_cl (by omega)
  have q' : ∀ x, x < N → ¬ nI x < 0 := fun x hx => nI_pos (by omega)
  unfold sg_V
  rcases hW n hn with h | ⟨h, x, hx, ex, cx⟩ | ⟨h, x, hx, ex, cx⟩ | ⟨h, ⟨x, hx, ex, cx⟩, y, hy, ey, cy⟩ | ⟨h, h' | ⟨x, hx, ex, cx⟩⟩ | ⟨h, ⟨x, hx, ex, cx⟩, y, hy, ey, cy⟩ | ⟨h, ⟨x, hx, ex, cx⟩, y, hy, ey, cy⟩ | ⟨h, ⟨x, hx, ex, cx⟩, y, hy, ey, cy⟩ | ⟨h, x, hx, ex, cx⟩ | ⟨h, x, hx, ex, cx⟩ | ⟨h, ⟨x, hx, ex, cx⟩, ⟨y, hy, ey, cy⟩, z, hz, ez, cz⟩ | ⟨h, x, hx, ex, cx⟩ | ⟨h, x, hx, ex, cx⟩ | ⟨h, ⟨x, hx, ex, cx⟩, ⟨y, hy, ey, cy⟩, z, hz, ez, cz⟩ | ⟨h, x, hx, ex, cx⟩
  · exact Or.inl ⟨h, by simp [sg_pl, h]⟩
  · exact Or.inr (Or.inl ⟨h, x, hx, ex, cx, by simp [sg_pl, h, ex, q x (by omega)]⟩)
  · exact Or.inr (Or.inr (Or.inl ⟨h, x, hx, ex, cx, by simp [sg_pl, h, ex, q x (by omega)]⟩))
  · exact Or.inr (Or.inr (Or.inr (Or.inl ⟨h, x, y, hx, ex, cx, hy, ey, cy, by simp [sg_pl, h, ex, ey, q x (by omega), q y (by omega)]⟩)))
  · exact Or.inr (Or.inr (Or.inr (Or.inr (Or.inl ⟨h, h', by simp [sg_pl, h, h', sg_m1n]⟩))))
  · have hne : x ≠ n := by
      intro e
      rw [e, h] at cx
      exact absurd cx (by decide)
    exact Or.inr (Or.inr (Or.inr (Or.inr (Or.inr (Or.inl ⟨h, x, hx, hne, ex, cx, by simp [sg_pl, h, ex, q x (by omega), q' x hx]⟩)))))
  · exact Or.inr (Or.inr (Or.inr (Or.inr (Or.inr (Or.inr (Or.inl ⟨h, x, y, hx, ex, cx, hy, ey, cy, by simp [sg_pl, h, ex, q x (by omega)]⟩))))))
  · exact Or.inr (Or.inr (Or.inr (Or.inr (Or.inr (Or.inr (Or.inr (Or.inl ⟨h, x, y, hx, ex, cx, hy, ey, cy, by simp [sg_pl, h, ex, ey, q x (by omega), q y (by omega)]⟩)))))))
  · exact Or.inr (Or.inr (Or.inr (Or.inr (Or.inr (Or.inr (Or.inr (Or.inr (Or.inl ⟨h, x, y, hx, ex, cx, hy, ey, cy, by simp [sg_pl, h, ex, q x (by omega)]⟩))))))))
  · exact Or.inr (Or.inr (Or.inr (Or.inr (Or.inr (Or.inr (Or.inr (Or.inr (Or.inr (Or.inl ⟨h, x, hx, ex, cx, by simp [sg_pl, h, ex, q x (by omega)]⟩)))))))))
  · exact Or.inr (Or.inr (Or.inr (Or.inr (Or.inr (Or.inr (Or.inr (Or.inr (Or.inr (Or.inr (Or.inl ⟨h, x, hx, ex, cx, by simp [sg_pl, h, ex, q x (by omega)]⟩))))))))))
  · exact Or.inr (Or.inr (Or.inr (Or.inr (Or.inr (Or.inr (Or.inr (Or.inr (Or.inr (Or.inr (Or.inr (Or.inl ⟨h, x, y, z, hx, ex, cx, hy, ey, cy, hz, ez, cz, by simp [sg_pl, h, ey, ez, q y (by omega), q z (by omega)]⟩)))))))))))
  · exact Or.inr (Or.inr (Or.inr (Or.inr (Or.inr (Or.inr (Or.inr (Or.inr (Or.inr (Or.inr (Or.inr (Or.inr (Or.inl ⟨h, x, hx, ex, cx, by simp [sg_pl, h]⟩))))))))))))
  · exact Or.inr (Or.inr (Or.inr (Or.inr (Or.inr (Or.inr (Or.inr (Or.inr (Or.inr (Or.inr (Or.inr (Or.inr (Or.inr (Or.inl ⟨h, x, hx, ex, cx, by simp [sg_pl, h, ex, q x (by omega)]⟩)))))))))))))
  · exact Or.inr (Or.inr (Or.inr (Or.inr (Or.inr (Or.inr (Or.inr (Or.inr (Or.inr (Or.inr (Or.inr (Or.inr (Or.inr (Or.inr (Or.inl ⟨h, x, y, z, hx, ex, cx, hy, ey, cy, hz, ez, cz, by simp [sg_pl, h, ex, ey, ez, q x (by omega), q y (by omega), q z (by omega)]⟩))))))))))))))
  · exact Or.inr (Or.inr (Or.inr (Or.inr (Or.inr (Or.inr (Or.inr (Or.inr (Or.inr (Or.inr (Or.inr (Or.inr (Or.inr (Or.inr (Or.inr ⟨h, x, hx, ex, cx, by simp [sg_pl, h, ex, q x (by omega)]⟩))))))))))))))
end
section
/-! parts are nodes; ranks; what is reached -/
section SGR
variable {K A B C : Nat → Int32} {N n : Nat}
theorem sg_pl_lt (hW : sg_WF K A B C N) (hN : N ≤ 24) (hn : n < N) {p : Nat} (hp : p ∈ sg_pl K A B C n) : p < N := by
  rcases sg_view hW hN hn with ⟨h, el⟩ | ⟨h, x, hx, ex, cx, el⟩ | ⟨h, x, hx, ex, cx, el⟩ | ⟨h, x, y, hx, ex, cx, hy, ey, cy, el⟩ | ⟨h, ex, el⟩ | ⟨h, x, hx, nx, ex, cx, el⟩ | ⟨h, x, y, hx, ex, cx, hy, ey, cy, el⟩ | ⟨h, x, y, hx, ex, cx, hy, ey, cy, el⟩ | ⟨h, x, y, hx, ex, cx, hy, ey, cy, el⟩ | ⟨h, x, hx, ex, cx, el⟩ | ⟨h, x, hx, ex, cx, el⟩ | ⟨h, x, y, z, hx, ex, cx, hy, ey, cy, hz, ez, cz, el⟩ | ⟨h, x, hx, ex, cx, el⟩ | ⟨h, x, hx, ex, cx, el⟩ | ⟨h, x, y, z, hx, ex, cx, hy, ey, cy, hz, ez, cz, el⟩ | ⟨h, x, hx, ex, cx, el⟩ <;> (rw [el] at hp; first | (simp only [List.mem_cons, List.not_mem_nil, or_false] at hp; omega) | (cases hp))
def sg_cn (f : Nat → Bool) : Nat → Nat
  | 0 => 0
  | n + 1 => sg_cn f n + (if f n = true then 1 else 0)
theorem sg_cn_s (f : Nat → Bool) (n : Nat) : sg_cn f (n + 1) = sg_cn f n + (if f n = true then 1 else 0) := rfl
theorem sg_cn_le (f : Nat → Bool) : ∀ n, sg_cn f n ≤ n
  | 0 => Nat.le_refl 0
  | n + 1 => by
    have := sg_cn_le f n
    rw [sg_cn_s]
    split <;> omega
theorem sg_cn_lt {f : Nat → Bool} {i : Nat} (hf : f i = false) : ∀ n, i < n → sg_cn f n < n
  | 0, h => by omega
  | n + 1, h => by
    rw [sg_cn_s]
    by_cases e : i = n
    · subst e
      have := sg_cn_le f i
      simp [hf]
      omega
    · have := sg_cn_lt hf n (by omega)
      split <;> omega
theorem sg_cn_mono {f g : Nat → Bool} : ∀ n, (∀ i, i < n → f i = true → g i = true) → sg_cn f n ≤ sg_cn g n
  | 0, _ => Nat.le_refl 0
  | n + 1, h => by
    have h1 := sg_cn_mono n (fun i hi => h i (by omega))
    rw [sg_cn_s, sg_cn_s]
    by_cases e : f n = true
    · rw [if_pos e, if_pos (h n (by omega) e)]; omega
    · rw [if_neg e]; omega
theorem sg_cn_slt {f g : Nat → Bool} {i : Nat} (hf : f i = false) (hg : g i = true) : ∀ n, i < n → (∀ i, i < n → f i = true → g i = true) → sg_cn f n < sg_cn g n
  | 0, h, _ => by omega
  | n + 1, h, hm => by
    rw [sg_cn_s, sg_cn_s]
    by_cases e : i = n
    · subst e
      have := sg_cn_mono i (fun j hj => hm j (by omega))
      simp [hf, hg]
      omega
    · have h1 := sg_cn_slt hf hg n (by omega) (fun j hj => hm j (by omega))
      by_cases e2 : f n = true
      · rw [if_pos e2, if_pos (hm n (by omega) e2)]; omega
      · rw [if_neg e2]; omega
def sg_RK (K A B C : Nat → Int32) (N : Nat) : Prop := ∃ rk : Nat → Nat, ∀ n, n < N → ∀ p, p ∈ sg_pl K A B C n → rk p < rk n
theorem sg_rk24 (hW : sg_WF K A B C N) (hN : N ≤ 24) (h : sg_RK K A B C N) : ∃ rk : Nat → Nat, (∀ n, n < N → rk n < N) ∧ ∀ n, n < N → ∀ p, p ∈ sg_pl K A B C n → rk p < rk n := by
  obtain ⟨rk, hr⟩ := h
  refine ⟨fun n => sg_cn (fun m => decide (rk m < rk n)) N, fun n hn => ?_, fun n hn p hp => ?_⟩
  · exact sg_cn_lt (i := n) (by simp) N hn
  · have h1 := hr n hn p hp
    have h2 := sg_pl_lt hW hN hn hp
    refine sg_cn_slt (i := p) (by simp) (by simp [h1]) N h2 (fun i _ hi => ?_)
    simp only [decide_eq_true_eq] at hi ⊢
    omega
/-- reached by f + 1 steps -/
def sg_S (K A B C : Nat → Int32) (n : Nat) : Nat → Nat → Prop
  | 0 => fun m => m ∈ sg_pl K A B C n
  | f + 1 => fun m => ∃ k, sg_S K A B C n f k ∧ m ∈ sg_pl K A B C k
def sg_Rc (K A B C : Nat → Int32) (n m : Nat) : Prop := ∃ f, sg_S K A B C n f m
theorem sg_S_rk (hW : sg_WF K A B C N) (hN : N ≤ 24) (hn : n < N) {rk : Nat → Nat} (hr : ∀ n, n < N → ∀ p, p ∈ sg_pl K A B C n → rk p < rk n) : ∀ f m, sg_S K A B C n f m → m < N ∧ rk m + f + 1 ≤ rk n := by
  intro f
  induction f with
  | zero =>
    intro m h
    have h : m ∈ sg_pl K A B C n := h
    have := hr n hn m h
    exact ⟨sg_pl_lt hW hN hn h, by omega⟩
  | succ f ih =>
    intro m h
    obtain ⟨k, hk, hm⟩ := h
    obtain ⟨h1, h2⟩ := ih k hk
    have := hr k h1 m hm
    exact ⟨sg_pl_lt hW hN h1 hm, by omega⟩
theorem sg_Rc_lt (hW : sg_WF K A B C N) (hN : N ≤ 24) (hn : n < N) (hR : sg_RK K A B C N) {m : Nat} (h : sg_Rc K A B C n m) : m < N := by
  obtain ⟨rk, hr⟩ := hR
  obtain ⟨f, hf⟩ := h
  exact (sg_S_rk hW hN hn hr f m hf).1
theorem sg_Rc_24 (hW : sg_WF K A B C N) (hN : N ≤ 24) (hn : n < N) (hR : sg_RK K A B C N) {m : Nat} (h : sg_Rc K A B C n m) : ∃ f, f < 24 ∧ sg_S K A B C n f m := by
  obtain ⟨rk, hr0, hr⟩ := sg_rk24 hW hN hR
  obtain ⟨f, hf⟩ := h
  have h1 := (sg_S_rk hW hN hn hr f m hf).2
  have h2 := hr0 n hn
  exact ⟨f, by omega, hf⟩
theorem sg_Rc_cl (hW : sg_WF K A B C N) (hN : N ≤ 24) (hn : n < N) {S : Nat → Prop} (h0 : ∀ p, p ∈ sg_pl K A B C n → S p) (hc : ∀ k, k < N → S k → ∀ p, p ∈ sg_pl K A B C k → S p) {m : Nat} (h : sg_Rc K A B C n m) : S m := by
  obtain ⟨f, hf⟩ := h
  suffices ∀ f m, sg_S K A B C n f m → m < N ∧ S m from (this f m hf).2
  intro f
  induction f with
  | zero => intro m h; exact ⟨sg_pl_lt hW hN hn h, h0 m h⟩
  | succ f ih =>
    intro m h
    obtain ⟨k, hk, hm⟩ := h
    obtain ⟨h1, h2⟩ := ih k hk
    exact ⟨sg_pl_lt hW hN h1 hm, hc k h1 h2 m hm⟩
theorem sg_Rc_p {m : Nat} (h : m ∈ sg_pl K A B C n) : sg_Rc K A B C n m := ⟨0, h⟩
theorem sg_Rc_s {k m : Nat} (h : sg_Rc K A B C n k) (hm : m ∈ sg_pl K A B C k) : sg_Rc K A B C n m := by
  obtain ⟨f, hf⟩ := h
  exact ⟨f + 1, k, hf, hm⟩
theorem sg_S_c {k : Nat} (hk : k ∈ sg_pl K A B C n) : ∀ f m, sg_S K A B C k f m → sg_S K A B C n (f + 1) m := by
  intro f
  induction f with
  | zero => intro m h; exact ⟨k, hk, h⟩
  | succ f ih =>
    intro m h
    obtain ⟨j, hj, hm⟩ := h
    exact ⟨j, ih j hj, hm⟩
theorem sg_Rc_c {k m : Nat} (hk : k ∈ sg_pl K A B C n) (h : sg_Rc K A B C k m) : sg_Rc K A B C n m := by
  obtain ⟨f, hf⟩ := h
  exact ⟨f + 1, sg_S_c hk f m hf⟩
end SGR
end
section
/-! what a transaction gives: vb values before, kp kg what is kept -/
def sg_g (h : Bool) (v : Int32) : Bool × Int32 := (h, if h = true then v else 0)
def sg_F (K A B C vb : Nat → Int32) (kp : Nat → Bool) (kg : Nat → Int32) (n : Nat) (t : Nat → Bool × Int32) : Bool × Int32 :=
  if K n = 0 then sg_g (kp n) (kg n)
  else if K n = 11 then sg_g (kp n) (kg n)
  else if K n = 1 then sg_g (t (A n).toNatClampNeg).1 ((t (A n).toNatClampNeg).2 * B n + C n)
  else if K n = 2 then sg_g ((t (A n).toNatClampNeg).1 && !decide ((t (A n).toNatClampNeg).2 < B n)) (t (A n).toNatClampNeg).2
  else if K n = 3 then sg_g ((t (A n).toNatClampNeg).1 || (t (B n).toNatClampNeg).1) ((t (A n).toNatClampNeg).2 + (t (B n).toNatClampNeg).2)
  else if K n = 4 then (false, if A n < 0 then vb n else if (t (A n).toNatClampNeg).1 = true then (t (A n).toNatClampNeg).2 else vb n)
  else if K n = 5 then sg_g (t (A n).toNatClampNeg).1 ((t (A n).toNatClampNeg).2 + vb (B n).toNatClampNeg)
  else if K n = 6 then (false, (t (A n).toNatClampNeg).2 + (t (B n).toNatClampNeg).2)
  else if K n = 7 then sg_g ((t (A n).toNatClampNeg).1 && !decide (vb (B n).toNatClampNeg = 0)) (t (A n).toNatClampNeg).2
  else if K n = 8 then sg_g (t (A n).toNatClampNeg).1 (kg n + (t (A n).toNatClampNeg).2)
  else if K n = 9 then sg_g (!decide ((t (A n).toNatClampNeg).2 = vb (A n).toNatClampNeg)) (t (A n).toNatClampNeg).2
  else if K n = 10 then (if vb (A n).toNatClampNeg = 0 then sg_g (t (C n).toNatClampNeg).1 (t (C n).toNatClampNeg).2 else sg_g (t (B n).toNatClampNeg).1 (t (B n).toNatClampNeg).2)
  else if K n = 12 then sg_g ((t (A n).toNatClampNeg).1 && !kp n) (t (A n).toNatClampNeg).2
  else if K n = 13 then (false, if (t (A n).toNatClampNeg).2 = 0 then (t (C n).toNatClampNeg).2 else (t (B n).toNatClampNeg).2)
  else (false, (t (A n).toNatClampNeg).2 * B n + C n)
def sg_ev (K A B C vb : Nat → Int32) (kp : Nat → Bool) (kg : Nat → Int32) : Nat → Nat → Bool × Int32
  | 0 => fun _ => (false, 0)
  | f + 1 => fun n => sg_F K A B C vb kp kg n (sg_ev K A B C vb kp kg f)
def sg_tl (K vb : Nat → Int32) (T : Nat → Bool × Int32) (n : Nat) : Bool := if sg_cell (K n) = true then !decide ((T n).2 = vb n) else (T n).1
def sg_CI (K A B C vb : Nat → Int32) (N : Nat) : Prop := ∀ n, n < N →
  (K n = 6 → vb n = vb (A n).toNatClampNeg + vb (B n).toNatClampNeg) ∧
  (K n = 13 → vb n = if vb (A n).toNatClampNeg = 0 then vb (C n).toNatClampNeg else vb (B n).toNatClampNeg) ∧
  (K n = 14 → vb n = vb (A n).toNatClampNeg * B n + C n)
section SGT
variable {K A B C vb kg : Nat → Int32} {kp : Nat → Bool} {N n : Nat}
theorem sg_F_congr (hW : sg_WF K A B C N) (hN : N ≤ 24) (hn : n < N) {t t' : Nat → Bool × Int32} (hp : ∀ p, p ∈ sg_pl K A B C n → t p = t' p) : sg_F K A B C vb kp kg n t = sg_F K A B C vb kp kg n t' := by
  have q : ∀ x, x < 32 → (nI x).toNatClampNeg = x := fun x hx => sg_cl hx
  have q' : ∀ x, x < 32 → ¬ nI x < 0 := fun x hx => nI_pos (by omega)
  rcases sg_view hW hN hn with ⟨h, el⟩ | ⟨h, x, hx, ex, cx, el⟩ | ⟨h, x, hx, ex, cx, el⟩ | ⟨h, x, y, hx, ex, cx, hy, ey, cy, el⟩ | ⟨h, ex, el⟩ | ⟨h, x, hx, nx, ex, cx, el⟩ | ⟨h, x, y, hx, ex, cx, hy, ey, cy, el⟩ | ⟨h, x, y, hx, ex, cx, hy, ey, cy, el⟩ | ⟨h, x, y, hx, ex, cx, hy, ey, cy, el⟩ | ⟨h, x, hx, ex, cx, el⟩ | ⟨h, x, hx, ex, cx, el⟩ | ⟨h, x, y, z, hx, ex, cx, hy, ey, cy, hz, ez, cz, el⟩ | ⟨h, x, hx, ex, cx, el⟩ | ⟨h, x, hx, ex, cx, el⟩ | ⟨h, x, y, z, hx, ex, cx, hy, ey, cy, hz, ez, cz, el⟩ | ⟨h, x, hx, ex, cx, el⟩ <;> rw [el] at hp
  · simp [sg_F, h]
  · simp [sg_F, h, ex, q x (by omega), hp x (by simp)]
  · simp [sg_F, h, ex, q x (by omega), hp x (by simp)]
  · simp [sg_F, h, ex, ey, q x (by omega), q y (by omega), hp x (by simp), hp y (by simp)]
  · simp [sg_F, h, ex, sg_m1n]
  · simp [sg_F, h, ex, q x (by omega), hp x (by simp)]
  · simp [sg_F, h, ex, q x (by omega), hp x (by simp)]
  · simp [sg_F, h, ex, ey, q x (by omega), q y (by omega), hp x (by simp), hp y (by simp)]
  · simp [sg_F, h, ex, q x (by omega), hp x (by simp)]
  · simp [sg_F, h, ex, q x (by omega), hp x (by simp)]
  · simp [sg_F, h, ex, q x (by omega), hp x (by simp)]
  · simp [sg_F, h, ey, ez, q z (by omega), q y (by omega), hp z (by simp), hp y (by simp)]
  · simp [sg_F, h]
  · simp [sg_F, h, ex, q x (by omega), hp x (by simp)]
  · simp [sg_F, h, ex, ey, ez, q x (by omega), q y (by omega), q z (by omega), hp x (by simp), hp y (by simp), hp z (by simp)]
  · simp [sg_F, h, ex, q x (by omega), hp x (by simp)]
theorem sg_T_ex (hW : sg_WF K A B C N) (hN : N ≤ 24) (hR : sg_RK K A B C N) (vb : Nat → Int32) (kp : Nat → Bool) (kg : Nat → Int32) : ∃ T : Nat → Bool × Int32, ∀ n, n < N → T n = sg_F K A B C vb kp kg n T := by
  obtain ⟨rk, hr0, hr⟩ := sg_rk24 hW hN hR
  have hs : ∀ f n, n < N → rk n < f → sg_ev K A B C vb kp kg f n = sg_ev K A B C vb kp kg (f + 1) n := by
    intro f
    induction f with
    | zero => intro n _ h; omega
    | succ f ih =>
      intro n hn h
      refine sg_F_congr hW hN hn (fun p hp => ?_)
      have := hr n hn p hp
      exact ih p (sg_pl_lt hW hN hn hp) (by omega)
  refine ⟨sg_ev K A B C vb kp kg 24, fun n hn => ?_⟩
  have := hr0 n hn
  exact hs 24 n hn (by omega)
theorem sg_quiet (hW : sg_WF K A B C N) (hN : N ≤ 24) (hn : n < N) (hC : sg_CI K A B C vb N) {T : Nat → Bool × Int32} (hT : T n = sg_F K A B C vb kp kg n T) (hs : (K n = 0 ∨ K n = 11) → kp n = false) (hp : ∀ p, p ∈ sg_pl K A B C n → sg_tl K vb T p = false) : sg_tl K vb T n = false := by
  have q : ∀ x, x < 32 → (nI x).toNatClampNeg = x := fun x hx => sg_cl hx
  have q' : ∀ x, x < 32 → ¬ nI x < 0 := fun x hx => nI_pos (by omega)
  have te : ∀ x, sg_cell (K x) = false → sg_tl K vb T x = false → (T x).1 = false := by
    intro x h1 h2
    simpa [sg_tl, h1] using h2
  have tc : ∀ x, sg_cell (K x) = true → sg_tl K vb T x = false → (T x).2 = vb x := by
    intro x h1 h2
    simpa [sg_tl, h1] using h2
  obtain ⟨c6, c13, c14⟩ := hC n hn
  rcases sg_view hW hN hn with ⟨h, el⟩ | ⟨h, x, hx, ex, cx, el⟩ | ⟨h, x, hx, ex, cx, el⟩ | ⟨h, x, y, hx, ex, cx, hy, ey, cy, el⟩ | ⟨h, ex, el⟩ | ⟨h, x, hx, nx, ex, cx, el⟩ | ⟨h, x, y, hx, ex, cx, hy, ey, cy, el⟩ | ⟨h, x, y, hx, ex, cx, hy, ey, cy, el⟩ | ⟨h, x, y, hx, ex, cx, hy, ey, cy, el⟩ | ⟨h, x, hx, ex, cx, el⟩ | ⟨h, x, hx, ex, cx, el⟩ | ⟨h, x, y, z, hx, ex, cx, hy, ey, cy, hz, ez, cz, el⟩ | ⟨h, x, hx, ex, cx, el⟩ | ⟨h, x, hx, ex, cx, el⟩ | ⟨h, x, y, z, hx, ex, cx, hy, ey, cy, hz, ez, cz, el⟩ | ⟨h, x, hx, ex, cx, el⟩ <;> rw [el] at hp
  · have e := hs (Or.inl h)
    simp [sg_tl, sg_cell, hT, sg_F, h, sg_g, e]
  · have e := te x cx (hp x (by simp))
    simp [sg_tl, sg_cell, hT, sg_F, h, ex, q x (by omega), sg_g, e]
  · have e := te x cx (hp x (by simp))
    simp [sg_tl, sg_cell, hT, sg_F, h, ex, q x (by omega), sg_g, e]
  · have e := te x cx (hp x (by simp))
    have e' := te y cy (hp y (by simp))
    simp [sg_tl, sg_cell, hT, sg_F, h, ex, ey, q x (by omega), q y (by omega), sg_g, e, e']
  · simp [sg_tl, sg_cell, hT, sg_F, h, ex, sg_m1n]
  · have e := te x cx (hp x (by simp))
    simp [sg_tl, sg_cell, hT, sg_F, h, ex, q x (by omega), e]
  · have e := te x cx (hp x (by simp))
    simp [sg_tl, sg_cell, hT, sg_F, h, ex, q x (by omega), sg_g, e]
  · have e := tc x cx (hp x (by simp))
    have e' := tc y cy (hp y (by simp))
    have c := c6 h
    rw [ex, ey, q x (by omega), q y (by omega)] at c
    simp [sg_tl, sg_cell, hT, sg_F, h, ex, ey, q x (by omega), q y (by omega), e, e', c]
  · have e := te x cx (hp x (by simp))
    simp [sg_tl, sg_cell, hT, sg_F, h, ex, q x (by omega), sg_g, e]
  · have e := te x cx (hp x (by simp))
    simp [sg_tl, sg_cell, hT, sg_F, h, ex, q x (by omega), sg_g, e]
  · have e := tc x cx (hp x (by simp))
    simp [sg_tl, sg_cell, hT, sg_F, h, ex, q x (by omega), sg_g, e]
  · have e := te y cy (hp y (by simp))
    have e' := te z cz (hp z (by simp))
    by_cases v0 : vb x = 0
    · simp [sg_tl, sg_cell, hT, sg_F, h, ex, ez, q x (by omega), q z (by omega), v0, sg_g, e']
    · simp [sg_tl, sg_cell, hT, sg_F, h, ex, ey, q x (by omega), q y (by omega), v0, sg_g, e]
  · have e := hs (Or.inr h)
    simp [sg_tl, sg_cell, hT, sg_F, h, sg_g, e]
  · have e := te x cx (hp x (by simp))
    simp [sg_tl, sg_cell, hT, sg_F, h, ex, q x (by omega), sg_g, e]
  · have e := tc x cx (hp x (by simp))
    have e' := tc y cy (hp y (by simp))
    have e'' := tc z cz (hp z (by simp))
    have c := c13 h
    rw [ex, ey, ez, q x (by omega), q y (by omega), q z (by omega)] at c
    simp [sg_tl, sg_cell, hT, sg_F, h, ex, ey, ez, q x (by omega), q y (by omega), q z (by omega), e, e', e'', ← c]
  · have e := tc x cx (hp x (by simp))
    have c := c14 h
    rw [ex, q x (by omega)] at c
    simp [sg_tl, sg_cell, hT, sg_F, h, ex, q x (by omega), e, ← c]
end SGT
end
section
theorem sg_fit0 {K : Nat → Int32} {b N : Nat} {x y z : Int32} : sg_fit K b N 0 x y z ↔ True := by simp [sg_fit]
theorem sg_fit1 {K : Nat → Int32} {b N : Nat} {x y z : Int32} : sg_fit K b N 1 x y z ↔ sg_Ev K b x := by simp [sg_fit]
theorem sg_fit2 {K : Nat → Int32} {b N : Nat} {x y z : Int32} : sg_fit K b N 2 x y z ↔ sg_Ev K b x := by simp [sg_fit]
theorem sg_fit3 {K : Nat → Int32} {b N : Nat} {x y z : Int32} : sg_fit K b N 3 x y z ↔ sg_Ev K b x ∧ sg_Ev K b y := by simp [sg_fit]
theorem sg_fit4 {K : Nat → Int32} {b N : Nat} {x y z : Int32} : sg_fit K b N 4 x y z ↔ (x = -1 ∨ sg_Ev K N x) := by simp [sg_fit]
theorem sg_fit5 {K : Nat → Int32} {b N : Nat} {x y z : Int32} : sg_fit K b N 5 x y z ↔ sg_Ev K b x ∧ sg_Ce K b y := by simp [sg_fit]
theorem sg_fit6 {K : Nat → Int32} {b N : Nat} {x y z : Int32} : sg_fit K b N 6 x y z ↔ sg_Ce K b x ∧ sg_Ce K b y := by simp [sg_fit]
theorem sg_fit7 {K : Nat → Int32} {b N : Nat} {x y z : Int32} : sg_fit K b N 7 x y z ↔ sg_Ev K b x ∧ sg_Ce K b y := by simp [sg_fit]
theorem sg_fit8 {K : Nat → Int32} {b N : Nat} {x y z : Int32} : sg_fit K b N 8 x y z ↔ sg_Ev K b x := by simp [sg_fit]
theorem sg_fit9 {K : Nat → Int32} {b N : Nat} {x y z : Int32} : sg_fit K b N 9 x y z ↔ sg_Ce K b x := by simp [sg_fit]
theorem sg_fit10 {K : Nat → Int32} {b N : Nat} {x y z : Int32} : sg_fit K b N 10 x y z ↔ sg_Ce K b x ∧ sg_Ev K b y ∧ sg_Ev K b z := by simp [sg_fit]
theorem sg_fit11 {K : Nat → Int32} {b N : Nat} {x y z : Int32} : sg_fit K b N 11 x y z ↔ sg_Ev K b x := by simp [sg_fit]
theorem sg_fit12 {K : Nat → Int32} {b N : Nat} {x y z : Int32} : sg_fit K b N 12 x y z ↔ sg_Ev K b x := by simp [sg_fit]
theorem sg_fit13 {K : Nat → Int32} {b N : Nat} {x y z : Int32} : sg_fit K b N 13 x y z ↔ sg_Ce K b x ∧ sg_Ce K b y ∧ sg_Ce K b z := by simp [sg_fit]
theorem sg_fit14 {K : Nat → Int32} {b N : Nat} {x y z : Int32} : sg_fit K b N 14 x y z ↔ sg_Ce K b x := by simp [sg_fit]
section SX1
variable {N : Nat} {far fh fc fk fo ft fl fw : Int32} {K A B C H U V Q G M : Nat → Int32}
theorem sx_isNode (hN : N ≤ 24) {post : Int32 → Prop} {p : Int32} (h1 : sg_in N p → post 1) (h0 : ¬ sg_in N p → post 0) : wpX_isNode post (nI N, far, fh, fc, fk, fo, ft, fl, fw, K, A, B, C, H, U, V, Q, G, M) p := by
  by_cases a : p < 0
  · refine br_t a (h0 ?_)
    rintro ⟨j, hj, rfl⟩
    exact nI_pos (by omega) a
  · obtain ⟨j, hj, rfl⟩ := nI_of a
    by_cases b : j < N
    · exact br_f a (br_f (nI_ge b (by omega)) (h1 ⟨j, b, rfl⟩))
    · refine br_f a (br_t (nI_le (by omega) hj) (h0 ?_))
      rintro ⟨i, hi, e⟩
      rw [nI_eq hj (by omega)] at e
      omega
theorem sx_ck {post : Int32 → Prop} {k : Int32} (h1 : sg_cell k = true → post 1) (h0 : sg_cell k = false → post 0) : wpX_isCellKind post (nI N, far, fh, fc, fk, fo, ft, fl, fw, K, A, B, C, H, U, V, Q, G, M) k := by
  by_cases a : k = 4
  · exact br_t a (h1 (by simp [sg_cell, a]))
  · refine br_f a ?_
    by_cases b : k = 6
    · exact br_t b (h1 (by simp [sg_cell, b]))
    · refine br_f b ?_
      by_cases c : k = 13
      · exact br_t c (h1 (by simp [sg_cell, c]))
      · refine br_f c ?_
        by_cases d : k = 14
        · exact br_t d (h1 (by simp [sg_cell, d]))
        · exact br_f d (h0 (by simp [sg_cell, a, b, c, d]))
theorem sx_isEvent (hN : N ≤ 24) {post : Int32 → Prop} {p : Int32} (h1 : sg_Ev K N p → post 1) (h0 : ¬ sg_Ev K N p → post 0) : wpX_isEvent post (nI N, far, fh, fc, fk, fo, ft, fl, fw, K, A, B, C, H, U, V, Q, G, M) p := by
  unfold wpX_isEvent
  refine sx_isNode hN (fun a => br_f sg_10 ?_) (fun a => br_t rfl (h0 ?_))
  · obtain ⟨j, hj, rfl⟩ := a
    have e : (nI j).toNatClampNeg = j := sg_cl (by omega)
    refine ⟨sg_i24 hj hN, sx_ck (fun c => br_f sg_10 (h0 ?_)) (fun c => br_t rfl (h1 ?_))⟩
    · rintro ⟨i, hi, ei, ci⟩
      have e2 := sg_inj ei (by omega) (by omega)
      subst e2
      rw [e, ci] at c
      exact absurd c (by decide)
    · exact ⟨j, hj, rfl, by rw [e] at c; exact c⟩
  · rintro ⟨j, hj, ej, _⟩
    exact a ⟨j, hj, ej⟩
theorem sx_isCell (hN : N ≤ 24) {post : Int32 → Prop} {p : Int32} (h1 : sg_Ce K N p → post 1) (h0 : ¬ sg_Ce K N p → post 0) : wpX_isCell post (nI N, far, fh, fc, fk, fo, ft, fl, fw, K, A, B, C, H, U, V, Q, G, M) p := by
  unfold wpX_isCell
  refine sx_isNode hN (fun a => br_f sg_10 ?_) (fun a => br_t rfl (h0 ?_))
  · obtain ⟨j, hj, rfl⟩ := a
    have e : (nI j).toNatClampNeg = j := sg_cl (by omega)
    refine ⟨sg_i24 hj hN, sx_ck (fun c => br_f sg_10 (h1 ?_)) (fun c => br_t rfl (h0 ?_))⟩
    · exact ⟨j, hj, rfl, by rw [e] at c; exact c⟩
    · rintro ⟨i, hi, ei, ci⟩
      have e2 := sg_inj ei (by omega) (by omega)
      subst e2
      rw [e, ci] at c
      exact absurd c (by decide)
  · rintro ⟨j, hj, ej, _⟩
    exact a ⟨j, hj, ej⟩
theorem sx_fit (hN : N ≤ 24) {k x y z : Int32} (hk0 : ¬ k < 0) (hk1 : ¬ 14 < k) {post : Int32 → Prop} (h1 : sg_fit K N N k x y z → post 1) (h0 : ¬ sg_fit K N N k x y z → post 0) : wpX_operandsFit post (nI N, far, fh, fc, fk, fo, ft, fl, fw, K, A, B, C, H, U, V, Q, G, M) k x y z := by
  rcases sg_k15 hk0 hk1 with rfl | rfl | rfl | rfl | rfl | rfl | rfl | rfl | rfl | rfl | rfl | rfl | rfl | rfl | rfl
  · rw [sg_fit0] at h1 h0
    unfold wpX_operandsFit
    refine br_t rfl ?_
    exact h1 trivial
  · rw [sg_fit1] at h1 h0
    unfold wpX_operandsFit
    refine br_f (by decide) (br_f (by decide) (br_f (by decide) (br_f (by decide) (br_f (by decide) (br_f (by decide) (br_f (by decide) (br_f (by decide) (br_f (by decide) (br_f (by decide) (?_))))))))))
    exact sx_isEvent hN (fun a => ⟨sg_nw1, h1 a⟩) (fun a => ⟨sg_nw0, h0 a⟩)
  · rw [sg_fit2] at h1 h0
    unfold wpX_operandsFit
    refine br_f (by decide) (br_f (by decide) (br_f (by decide) (br_f (by decide) (br_f (by decide) (br_f (by decide) (br_f (by decide) (br_f (by decide) (br_f (by decide) (br_f (by decide) (?_))))))))))
    exact sx_isEvent hN (fun a => ⟨sg_nw1, h1 a⟩) (fun a => ⟨sg_nw0, h0 a⟩)
  · rw [sg_fit3] at h1 h0
    unfold wpX_operandsFit
    refine br_f (by decide) (br_f (by decide) (br_t rfl ?_))
    exact sx_isEvent hN (fun a => br_f sg_10 (sx_isEvent hN (fun b => br_f sg_10 (h1 ⟨a, b⟩)) (fun b => br_t rfl (h0 (fun q => b q.2))))) (fun a => br_t rfl (h0 (fun q => a q.1)))
  · rw [sg_fit4] at h1 h0
    unfold wpX_operandsFit
    refine br_f (by decide) (br_t rfl ?_)
    by_cases a : x = -1
    · exact br_t a (h1 (Or.inl a))
    · exact br_f a (sx_isEvent hN (fun b => br_f sg_10 (h1 (Or.inr b))) (fun b => br_t rfl (h0 (fun q => q.elim a b))))
  · rw [sg_fit5] at h1 h0
    unfold wpX_operandsFit
    refine br_f (by decide) (br_f (by decide) (br_f (by decide) (br_t rfl ?_)))
    unfold wX_operandsFit_68
    exact sx_isEvent hN (fun a => br_f sg_10 (sx_isCell hN (fun b => br_f sg_10 (h1 ⟨a, b⟩)) (fun b => br_t rfl (h0 (fun q => b q.2))))) (fun a => br_t rfl (h0 (fun q => a q.1)))
  · rw [sg_fit6] at h1 h0
    unfold wpX_operandsFit
    refine br_f (by decide) (br_f (by decide) (br_f (by decide) (br_f (by decide) (br_f (by decide) (br_t rfl ?_)))))
    exact sx_isCell hN (fun a => br_f sg_10 (sx_isCell hN (fun b => br_f sg_10 (h1 ⟨a, b⟩)) (fun b => br_t rfl (h0 (fun q => b q.2))))) (fun a => br_t rfl (h0 (fun q => a q.1)))
  · rw [sg_fit7] at h1 h0
    unfold wpX_operandsFit
    refine br_f (by decide) (br_f (by decide) (br_f (by decide) (br_f (by decide) (br_t rfl ?_))))
    unfold wX_operandsFit_68
    exact sx_isEvent hN (fun a => br_f sg_10 (sx_isCell hN (fun b => br_f sg_10 (h1 ⟨a, b⟩)) (fun b => br_t rfl (h0 (fun q => b q.2))))) (fun a => br_t rfl (h0 (fun q => a q.1)))
  · rw [sg_fit8] at h1 h0
    unfold wpX_operandsFit
    refine br_f (by decide) (br_f (by decide) (br_f (by decide) (br_f (by decide) (br_f (by decide) (br_f (by decide) (br_f (by decide) (br_f (by decide) (br_f (by decide) (br_f (by decide) (?_))))))))))
    exact sx_isEvent hN (fun a => ⟨sg_nw1, h1 a⟩) (fun a => ⟨sg_nw0, h0 a⟩)
  · rw [sg_fit9] at h1 h0
    unfold wpX_operandsFit
    refine br_f (by decide) (br_f (by decide) (br_f (by decide) (br_f (by decide) (br_f (by decide) (br_f (by decide) (br_f (by decide) (br_f (by decide) (br_t rfl ?_))))))))
    unfold wX_operandsFit_204
    exact sx_isCell hN (fun a => ⟨sg_nw1, h1 a⟩) (fun a => ⟨sg_nw0, h0 a⟩)
  · rw [sg_fit10] at h1 h0
    unfold wpX_operandsFit
    refine br_f (by decide) (br_f (by decide) (br_f (by decide) (br_f (by decide) (br_f (by decide) (br_f (by decide) (br_t rfl ?_))))))
    exact sx_isCell hN (fun a => br_f sg_10 (sx_isEvent hN (fun b => br_f sg_10 (sx_isEvent hN (fun c => br_f sg_10 (h1 ⟨a, b, c⟩)) (fun c => br_t rfl (h0 (fun q => c q.2.2))))) (fun b => br_t rfl (h0 (fun q => b q.2.1))))) (fun a => br_t rfl (h0 (fun q => a q.1)))
  · rw [sg_fit11] at h1 h0
    unfold wpX_operandsFit
    refine br_f (by decide) (br_f (by decide) (br_f (by decide) (br_f (by decide) (br_f (by decide) (br_f (by decide) (br_f (by decide) (br_f (by decide) (br_f (by decide) (br_f (by decide) (?_))))))))))
    exact sx_isEvent hN (fun a => ⟨sg_nw1, h1 a⟩) (fun a => ⟨sg_nw0, h0 a⟩)
  · rw [sg_fit12] at h1 h0
    unfold wpX_operandsFit
    refine br_f (by decide) (br_f (by decide) (br_f (by decide) (br_f (by decide) (br_f (by decide) (br_f (by decide) (br_f (by decide) (br_f (by decide) (br_f (by decide) (br_f (by decide) (?_))))))))))
    exact sx_isEvent hN (fun a => ⟨sg_nw1, h1 a⟩) (fun a => ⟨sg_nw0, h0 a⟩)
  · rw [sg_fit13] at h1 h0
    unfold wpX_operandsFit
    refine br_f (by decide) (br_f (by decide) (br_f (by decide) (br_f (by decide) (br_f (by decide) (br_f (by decide) (br_f (by decide) (br_t rfl ?_)))))))
    exact sx_isCell hN (fun a => br_f sg_10 (sx_isCell hN (fun b => br_f sg_10 (sx_isCell hN (fun c => br_f sg_10 (h1 ⟨a, b, c⟩)) (fun c => br_t rfl (h0 (fun q => c q.2.2))))) (fun b => br_t rfl (h0 (fun q => b q.2.1))))) (fun a => br_t rfl (h0 (fun q => a q.1)))
  · rw [sg_fit14] at h1 h0
    unfold wpX_operandsFit
    refine br_f (by decide) (br_f (by decide) (br_f (by decide) (br_f (by decide) (br_f (by decide) (br_f (by decide) (br_f (by decide) (br_f (by decide) (br_f (by decide) (br_t rfl ?_)))))))))
    unfold wX_operandsFit_204
    exact sx_isCell hN (fun a => ⟨sg_nw1, h1 a⟩) (fun a => ⟨sg_nw0, h0 a⟩)
end SX1
section SY1
variable {N : Nat} {ft : Int32} {K A B C ha va af tm dn kt kg : Nat → Int32}
theorem sy_isNode (hN : N ≤ 24) {post : Int32 → Prop} {p : Int32} (h1 : sg_in N p → post 1) (h0 : ¬ sg_in N p → post 0) : wpY_isNode post (nI N, ft, K, A, B, C, ha, va, af, tm, dn, kt, kg) p := by
  by_cases a : p < 0
  · refine br_t a (h0 ?_)
    rintro ⟨j, hj, rfl⟩
    exact nI_pos (by omega) a
  · obtain ⟨j, hj, rfl⟩ := nI_of a
    by_cases b : j < N
    · exact br_f a (br_f (nI_ge b (by omega)) (h1 ⟨j, b, rfl⟩))
    · refine br_f a (br_t (nI_le (by omega) hj) (h0 ?_))
      rintro ⟨i, hi, e⟩
      rw [nI_eq hj (by omega)] at e
      omega
theorem sy_ck {post : Int32 → Prop} {k : Int32} (h1 : sg_cell k = true → post 1) (h0 : sg_cell k = false → post 0) : wpY_isCellKind post (nI N, ft, K, A, B, C, ha, va, af, tm, dn, kt, kg) k := by
  by_cases a : k = 4
  · exact br_t a (h1 (by simp [sg_cell, a]))
  · refine br_f a ?_
    by_cases b : k = 6
    · exact br_t b (h1 (by simp [sg_cell, b]))
    · refine br_f b ?_
      by_cases c : k = 13
      · exact br_t c (h1 (by simp [sg_cell, c]))
      · refine br_f c ?_
        by_cases d : k = 14
        · exact br_t d (h1 (by simp [sg_cell, d]))
        · exact br_f d (h0 (by simp [sg_cell, a, b, c, d]))
theorem sy_isEvent (hN : N ≤ 24) {post : Int32 → Prop} {p : Int32} (h1 : sg_Ev K N p → post 1) (h0 : ¬ sg_Ev K N p → post 0) : wpY_isEvent post (nI N, ft, K, A, B, C, ha, va, af, tm, dn, kt, kg) p := by
  unfold wpY_isEvent
  refine sy_isNode hN (fun a => br_f sg_10 ?_) (fun a => br_t rfl (h0 ?_))
  · obtain ⟨j, hj, rfl⟩ := a
    have e : (nI j).toNatClampNeg = j := sg_cl (by omega)
    refine ⟨sg_i24 hj hN, sy_ck (fun c => br_f sg_10 (h0 ?_)) (fun c => br_t rfl (h1 ?_))⟩
    · rintro ⟨i, hi, ei, ci⟩
      have e2 := sg_inj ei (by omega) (by omega)
      subst e2
      rw [e, ci] at c
      exact absurd c (by decide)
    · exact ⟨j, hj, rfl, by rw [e] at c; exact c⟩
  · rintro ⟨j, hj, ej, _⟩
    exact a ⟨j, hj, ej⟩
theorem sy_isCell (hN : N ≤ 24) {post : Int32 → Prop} {p : Int32} (h1 : sg_Ce K N p → post 1) (h0 : ¬ sg_Ce K N p → post 0) : wpY_isCell post (nI N, ft, K, A, B, C, ha, va, af, tm, dn, kt, kg) p := by
  unfold wpY_isCell
  refine sy_isNode hN (fun a => br_f sg_10 ?_) (fun a => br_t rfl (h0 ?_))
  · obtain ⟨j, hj, rfl⟩ := a
    have e : (nI j).toNatClampNeg = j := sg_cl (by omega)
    refine ⟨sg_i24 hj hN, sy_ck (fun c => br_f sg_10 (h1 ?_)) (fun c => br_t rfl (h0 ?_))⟩
    · exact ⟨j, hj, rfl, by rw [e] at c; exact c⟩
    · rintro ⟨i, hi, ei, ci⟩
      have e2 := sg_inj ei (by omega) (by omega)
      subst e2
      rw [e, ci] at c
      exact absurd c (by decide)
  · rintro ⟨j, hj, ej, _⟩
    exact a ⟨j, hj, ej⟩
theorem sy_fit (hN : N ≤ 24) {k x y z : Int32} (hk0 : ¬ k < 0) (hk1 : ¬ 14 < k) {post : Int32 → Prop} (h1 : sg_fit K N N k x y z → post 1) (h0 : ¬ sg_fit K N N k x y z → post 0) : wpY_fits post (nI N, ft, K, A, B, C, ha, va, af, tm, dn, kt, kg) k x y z := by
  rcases sg_k15 hk0 hk1 with rfl | rfl | rfl | rfl | rfl | rfl | rfl | rfl | rfl | rfl | rfl | rfl | rfl | rfl | rfl
  · rw [sg_fit0] at h1 h0
    unfold wpY_fits
    refine br_t rfl ?_
    exact h1 trivial
  · rw [sg_fit1] at h1 h0
    unfold wpY_fits
    refine br_f (by decide) (br_f (by decide) (br_f (by decide) (br_f (by decide) (br_f (by decide) (br_f (by decide) (br_f (by decide) (br_f (by decide) (br_f (by decide) (br_f (by decide) (?_))))))))))
    exact sy_isEvent hN (fun a => ⟨sg_nw1, h1 a⟩) (fun a => ⟨sg_nw0, h0 a⟩)
  · rw [sg_fit2] at h1 h0
    unfold wpY_fits
    refine br_f (by decide) (br_f (by decide) (br_f (by decide) (br_f (by decide) (br_f (by decide) (br_f (by decide) (br_f (by decide) (br_f (by decide) (br_f (by decide) (br_f (by decide) (?_))))))))))
    exact sy_isEvent hN (fun a => ⟨sg_nw1, h1 a⟩) (fun a => ⟨sg_nw0, h0 a⟩)
  · rw [sg_fit3] at h1 h0
    unfold wpY_fits
    refine br_f (by decide) (br_f (by decide) (br_t rfl ?_))
    exact sy_isEvent hN (fun a => br_f sg_10 (sy_isEvent hN (fun b => br_f sg_10 (h1 ⟨a, b⟩)) (fun b => br_t rfl (h0 (fun q => b q.2))))) (fun a => br_t rfl (h0 (fun q => a q.1)))
  · rw [sg_fit4] at h1 h0
    unfold wpY_fits
    refine br_f (by decide) (br_t rfl ?_)
    by_cases a : x = -1
    · exact br_t a (h1 (Or.inl a))
    · exact br_f a (sy_isEvent hN (fun b => br_f sg_10 (h1 (Or.inr b))) (fun b => br_t rfl (h0 (fun q => q.elim a b))))
  · rw [sg_fit5] at h1 h0
    unfold wpY_fits
    refine br_f (by decide) (br_f (by decide) (br_f (by decide) (br_t rfl ?_)))
    unfold wY_fits_68
    exact sy_isEvent hN (fun a => br_f sg_10 (sy_isCell hN (fun b => br_f sg_10 (h1 ⟨a, b⟩)) (fun b => br_t rfl (h0 (fun q => b q.2))))) (fun a => br_t rfl (h0 (fun q => a q.1)))
  · rw [sg_fit6] at h1 h0
    unfold wpY_fits
    refine br_f (by decide) (br_f (by decide) (br_f (by decide) (br_f (by decide) (br_f (by decide) (br_t rfl ?_)))))
    exact sy_isCell hN (fun a => br_f sg_10 (sy_isCell hN (fun b => br_f sg_10 (h1 ⟨a, b⟩)) (fun b => br_t rfl (h0 (fun q => b q.2))))) (fun a => br_t rfl (h0 (fun q => a q.1)))
  · rw [sg_fit7] at h1 h0
    unfold wpY_fits
    refine br_f (by decide) (br_f (by decide) (br_f (by decide) (br_f (by decide) (br_t rfl ?_))))
    unfold wY_fits_68
    exact sy_isEvent hN (fun a => br_f sg_10 (sy_isCell hN (fun b => br_f sg_10 (h1 ⟨a, b⟩)) (fun b => br_t rfl (h0 (fun q => b q.2))))) (fun a => br_t rfl (h0 (fun q => a q.1)))
  · rw [sg_fit8] at h1 h0
    unfold wpY_fits
    refine br_f (by decide) (br_f (by decide) (br_f (by decide) (br_f (by decide) (br_f (by decide) (br_f (by decide) (br_f (by decide) (br_f (by decide) (br_f (by decide) (br_f (by decide) (?_))))))))))
    exact sy_isEvent hN (fun a => ⟨sg_nw1, h1 a⟩) (fun a => ⟨sg_nw0, h0 a⟩)
  · rw [sg_fit9] at h1 h0
    unfold wpY_fits
    refine br_f (by decide) (br_f (by decide) (br_f (by decide) (br_f (by decide) (br_f (by decide) (br_f (by decide) (br_t rfl ?_))))))
    unfold wY_fits_130
    exact sy_isCell hN (fun a => ⟨sg_nw1, h1 a⟩) (fun a => ⟨sg_nw0, h0 a⟩)
  · rw [sg_fit10] at h1 h0
    unfold wpY_fits
    refine br_f (by decide) (br_f (by decide) (br_f (by decide) (br_f (by decide) (br_f (by decide) (br_f (by decide) (br_f (by decide) (br_f (by decide) (br_t rfl ?_))))))))
    exact sy_isCell hN (fun a => br_f sg_10 (sy_isEvent hN (fun b => br_f sg_10 (sy_isEvent hN (fun c => br_f sg_10 (h1 ⟨a, b, c⟩)) (fun c => br_t rfl (h0 (fun q => c q.2.2))))) (fun b => br_t rfl (h0 (fun q => b q.2.1))))) (fun a => br_t rfl (h0 (fun q => a q.1)))
  · rw [sg_fit11] at h1 h0
    unfold wpY_fits
    refine br_f (by decide) (br_f (by decide) (br_f (by decide) (br_f (by decide) (br_f (by decide) (br_f (by decide) (br_f (by decide) (br_f (by decide) (br_f (by decide) (br_f (by decide) (?_))))))))))
    exact sy_isEvent hN (fun a => ⟨sg_nw1, h1 a⟩) (fun a => ⟨sg_nw0, h0 a⟩)
  · rw [sg_fit12] at h1 h0
    unfold wpY_fits
    refine br_f (by decide) (br_f (by decide) (br_f (by decide) (br_f (by decide) (br_f (by decide) (br_f (by decide) (br_f (by decide) (br_f (by decide) (br_f (by decide) (br_f (by decide) (?_))))))))))
    exact sy_isEvent hN (fun a => ⟨sg_nw1, h1 a⟩) (fun a => ⟨sg_nw0, h0 a⟩)
  · rw [sg_fit13] at h1 h0
    unfold wpY_fits
    refine br_f (by decide) (br_f (by decide) (br_f (by decide) (br_f (by decide) (br_f (by decide) (br_f (by decide) (br_f (by decide) (br_f (by decide) (br_f (by decide) (br_t rfl ?_)))))))))
    exact sy_isCell hN (fun a => br_f sg_10 (sy_isCell hN (fun b => br_f sg_10 (sy_isCell hN (fun c => br_f sg_10 (h1 ⟨a, b, c⟩)) (fun c => br_t rfl (h0 (fun q => c q.2.2))))) (fun b => br_t rfl (h0 (fun q => b q.2.1))))) (fun a => br_t rfl (h0 (fun q => a q.1)))
  · rw [sg_fit14] at h1 h0
    unfold wpY_fits
    refine br_f (by decide) (br_f (by decide) (br_f (by decide) (br_f (by decide) (br_f (by decide) (br_f (by decide) (br_f (by decide) (br_t rfl ?_)))))))
    unfold wY_fits_130
    exact sy_isCell hN (fun a => ⟨sg_nw1, h1 a⟩) (fun a => ⟨sg_nw0, h0 a⟩)
end SY1
end
section
/-! the parts: partsOf, part; what is reached: below, reached -/
section SXP
variable {N : Nat} {far fh fc fk fo ft fl fw : Int32} {K A B C H U V Q G M : Nat → Int32}
theorem sx_partsOf (hW : sg_WF K A B C N) (hN : N ≤ 24) {n : Nat} (hn : n < N) {post : Int32 → Prop} (hp : ∀ r, (∀ p, p < 32 → (bt r p = true ↔ p ∈ sg_pl K A B C n)) → post r) : wpX_partsOf post (nI N, far, fh, fc, fk, fo, ft, fl, fw, K, A, B, C, H, U, V, Q, G, M) (nI n) := by
  have e : (nI n).toNatClampNeg = n := sg_cl (by omega)
  have i := sg_i24 hn hN
  unfold wpX_partsOf
  simp only [e]
  rcases sg_view hW hN hn with ⟨h, el⟩ | ⟨h, x, hx, ex, cx, el⟩ | ⟨h, x, hx, ex, cx, el⟩ | ⟨h, x, y, hx, ex, cx, hy, ey, cy, el⟩ | ⟨h, ex, el⟩ | ⟨h, x, hx, nx, ex, cx, el⟩ | ⟨h, x, y, hx, ex, cx, hy, ey, cy, el⟩ | ⟨h, x, y, hx, ex, cx, hy, ey, cy, el⟩ | ⟨h, x, y, hx, ex, cx, hy, ey, cy, el⟩ | ⟨h, x, hx, ex, cx, el⟩ | ⟨h, x, hx, ex, cx, el⟩ | ⟨h, x, y, z, hx, ex, cx, hy, ey, cy, hz, ez, cz, el⟩ | ⟨h, x, hx, ex, cx, el⟩ | ⟨h, x, hx, ex, cx, el⟩ | ⟨h, x, y, z, hx, ex, cx, hy, ey, cy, hz, ez, cz, el⟩ | ⟨h, x, hx, ex, cx, el⟩
  · exact ⟨i, nm_r h (br_t rfl (hp _ (fun p hp' => by rw [el, b_0]; simp)))⟩
  · exact ⟨i, nm_r (e' := _) h (br_f (by decide) (br_f (by decide) (br_f (by decide) (br_f (by decide) ⟨i, nm_e (br_f (by decide) (br_f (by decide) (br_f (by decide) (hp _ (fun p hp' => by rw [ex, el, sg_sh1 x (by omega) p hp']; simp)))))⟩))))⟩
  · exact ⟨i, nm_r (e' := _) h (br_f (by decide) (br_f (by decide) (br_f (by decide) (br_f (by decide) ⟨i, nm_e (br_f (by decide) (br_f (by decide) (br_f (by decide) (hp _ (fun p hp' => by rw [ex, el, sg_sh1 x (by omega) p hp']; simp)))))⟩))))⟩
  · exact ⟨i, nm_r h (br_f (by decide) (br_f (by decide) (br_f (by decide) (br_f (by decide) ⟨i, nm_e (br_t rfl ⟨i, nm_e (br_f (by decide) (hp _ (fun p hp' => by rw [ex, e, ey, el, b_or, sg_sh1 x (by omega) p hp', sg_sh1 y (by omega) p hp']; simp)))⟩)⟩))))⟩
  · exact ⟨i, nm_r h (br_f (by decide) (br_f (by decide) (br_t rfl ⟨i, br_f (by rw [ex]; decide) (hp _ (fun p hp' => by rw [el, b_0]; simp))⟩)))⟩
  · exact ⟨i, nm_r h (br_f (by decide) (br_f (by decide) (br_t rfl ⟨i, br_t (by rw [ex]; exact nI_pos' (by omega)) ⟨i, hp _ (fun p hp' => by rw [ex, el, sg_sh1 x (by omega) p hp']; simp)⟩⟩)))⟩
  · exact ⟨i, nm_r (e' := _) h (br_f (by decide) (br_f (by decide) (br_f (by decide) (br_f (by decide) ⟨i, nm_e (br_f (by decide) (br_f (by decide) (br_f (by decide) (hp _ (fun p hp' => by rw [ex, el, sg_sh1 x (by omega) p hp']; simp)))))⟩))))⟩
  · exact ⟨i, nm_r h (br_f (by decide) (br_f (by decide) (br_f (by decide) (br_f (by decide) ⟨i, nm_e (br_f (by decide) (br_t rfl ⟨i, nm_e (br_f (by decide) (hp _ (fun p hp' => by rw [ex, e, ey, el, b_or, sg_sh1 x (by omega) p hp', sg_sh1 y (by omega) p hp']; simp)))⟩))⟩))))⟩
  · exact ⟨i, nm_r (e' := _) h (br_f (by decide) (br_f (by decide) (br_f (by decide) (br_f (by decide) ⟨i, nm_e (br_f (by decide) (br_f (by decide) (br_f (by decide) (hp _ (fun p hp' => by rw [ex, el, sg_sh1 x (by omega) p hp']; simp)))))⟩))))⟩
  · exact ⟨i, nm_r (e' := _) h (br_f (by decide) (br_f (by decide) (br_f (by decide) (br_f (by decide) ⟨i, nm_e (br_f (by decide) (br_f (by decide) (br_f (by decide) (hp _ (fun p hp' => by rw [ex, el, sg_sh1 x (by omega) p hp']; simp)))))⟩))))⟩
  · exact ⟨i, nm_r (e' := _) h (br_f (by decide) (br_f (by decide) (br_f (by decide) (br_f (by decide) ⟨i, nm_e (br_f (by decide) (br_f (by decide) (br_f (by decide) (hp _ (fun p hp' => by rw [ex, el, sg_sh1 x (by omega) p hp']; simp)))))⟩))))⟩
  · exact ⟨i, nm_r h (br_f (by decide) (br_f (by decide) (br_f (by decide) (br_t rfl ⟨i, i, hp _ (fun p hp' => by rw [ez, ey, el, b_or, sg_sh1 y (by omega) p hp', sg_sh1 z (by omega) p hp']; simp)⟩))))⟩
  · exact ⟨i, nm_r h (br_f (by decide) (br_t rfl (hp _ (fun p hp' => by rw [el, b_0]; simp))))⟩
  · exact ⟨i, nm_r (e' := _) h (br_f (by decide) (br_f (by decide) (br_f (by decide) (br_f (by decide) ⟨i, nm_e (br_f (by decide) (br_f (by decide) (br_f (by decide) (hp _ (fun p hp' => by rw [ex, el, sg_sh1 x (by omega) p hp']; simp)))))⟩))))⟩
  · exact ⟨i, nm_r h (br_f (by decide) (br_f (by decide) (br_f (by decide) (br_f (by decide) ⟨i, nm_e (br_f (by decide) (br_f (by decide) (br_t rfl ⟨i, i, nm_e (hp _ (fun p hp' => by rw [ex, e, ey, ez, el, b_or, b_or, sg_sh1 x (by omega) p hp', sg_sh1 y (by omega) p hp', sg_sh1 z (by omega) p hp']; simp))⟩)))⟩))))⟩
  · exact ⟨i, nm_r (e' := _) h (br_f (by decide) (br_f (by decide) (br_f (by decide) (br_f (by decide) ⟨i, nm_e (br_f (by decide) (br_f (by decide) (br_f (by decide) (hp _ (fun p hp' => by rw [ex, el, sg_sh1 x (by omega) p hp']; simp)))))⟩))))⟩
def sg_mu (S : Int32) : Nat := 4294967296 - S.toBitVec.toNat
theorem sg_mu_lt {S S' : Int32} (h : ∀ p, p < 32 → bt S p = true → bt S' p = true) (hne : ¬ S' = S) : sg_mu S' < sg_mu S := by
  have e : S' = S ||| S' := by
    apply b_ext
    intro i hi
    rw [b_or]
    have := h i hi
    revert this
    cases bt S i <;> simp
  have h1 : S.toBitVec.toNat ≤ S'.toBitVec.toNat := by
    rw [e, Int32.toBitVec_or, BitVec.toNat_or]
    exact Nat.left_le_or
  have h2 : S.toBitVec.toNat ≠ S'.toBitVec.toNat := by
    intro z
    exact hne (Int32.toBitVec_inj.mp (BitVec.eq_of_toNat_eq z.symm))
  have h3 := S'.toBitVec.isLt
  unfold sg_mu
  omega
def sg_bI (K A B C : Nat → Int32) (n : Nat) (S0 : Int32) (i : Nat) (S : Int32) : Prop :=
  (∀ p, p < 32 → bt S0 p = true → bt S p = true) ∧ (∀ p, p < 32 → bt S p = true → sg_Rc K A B C n p) ∧ (∀ k, k < i → bt S0 k = true → ∀ p, p ∈ sg_pl K A B C k → bt S p = true)
theorem sx_below18 (hW : sg_WF K A B C N) (hN : N ≤ 24) {n : Nat} (hn : n < N) {S0 : Int32} {post : Int32 → Prop} {J : Int32 → Int32 → Prop} (hJ : ∀ S, sg_bI K A B C n S0 N S → J S S0) : ∀ d i, i + d = N → ∀ m, d < m → ∀ S, sg_bI K A B C n S0 i S → wX_below_18 post J S0 (nI N) far fh fc fk fo ft fl fw K A B C H U V Q G M m S (nI i) := by
  intro d
  induction d with
  | zero =>
    intro i hi m hm S hS
    obtain ⟨m, rfl⟩ : ∃ m', m = m' + 1 := ⟨m - 1, by omega⟩
    have e : i = N := by omega
    subst e
    exact br_t (nI_le (Nat.le_refl _) (by omega)) (hJ S hS)
  | succ d ih =>
    intro i hi m hm S hS
    obtain ⟨m, rfl⟩ : ∃ m', m = m' + 1 := ⟨m - 1, by omega⟩
    obtain ⟨h1, h2, h3⟩ := hS
    refine br_f (nI_ge (by omega) (by omega)) (sg_bz (by omega) (fun b => ?_) (fun b => ?_))
    · refine nm_r (nI_1 i) (ih (i + 1) (by omega) m (by omega) S ⟨h1, h2, fun k hk hb => ?_⟩)
      by_cases z : k = i
      · subst z
        rw [h1 k (by omega) hb] at b
        exact absurd b (by decide)
      · exact h3 k (by omega) hb
    · refine sx_partsOf hW hN (by omega) (fun r hr => nm_e (nm_r (nI_1 i) (ih (i + 1) (by omega) m (by omega) _ ⟨fun p hp hb => ?_, fun p hp hb => ?_, fun k hk hb p hp => ?_⟩)))
      · rw [b_or, h1 p hp hb, Bool.true_or]
      · rw [b_or, Bool.or_eq_true] at hb
        rcases hb with hb | hb
        · exact h2 p hp hb
        · exact sg_Rc_s (h2 i (by omega) b) ((hr p hp).mp hb)
      · rw [b_or, Bool.or_eq_true]
        by_cases z : k = i
        · subst z
          have := sg_pl_lt hW hN (by omega) hp
          exact Or.inr ((hr p (by omega)).mpr hp)
        · exact Or.inl (h3 k (by omega) hb p hp)
theorem sx_below8 (hW : sg_WF K A B C N) (hN : N ≤ 24) (hR : sg_RK K A B C N) {n : Nat} (hn : n < N) {post : Int32 → Prop} (hp : ∀ S, (∀ m, m < 32 → (bt S m = true ↔ sg_Rc K A B C n m)) → post S) : ∀ m S S0, 0 < m → (¬ S = S0 → sg_mu S + 1 < m) → (∀ p, p ∈ sg_pl K A B C n → bt S p = true) → (∀ p, p < 32 → bt S p = true → sg_Rc K A B C n p) → (S = S0 → ∀ k, k < N → bt S k = true → ∀ p, p ∈ sg_pl K A B C k → bt S p = true) → wX_below_8 post (nI N) far fh fc fk fo ft fl fw K A B C H U V Q G M m S S0 := by
  intro m
  induction m with
  | zero => intro S S0 h; omega
  | succ m ih =>
    intro S S0 _ hm h1 h2 h3
    by_cases e : S = S0
    · exact br_t e (hp S (fun p hp' => ⟨h2 p hp', fun hr => sg_Rc_cl hW hN hn h1 (h3 e) hr⟩))
    · have hm' := hm e
      refine br_f e ⟨N + 1, sx_below18 hW hN hn (fun S' hS' => ?_) N 0 (by omega) (N + 1) (by omega) S ⟨fun _ _ hb => hb, h2, fun k hk => by omega⟩⟩
      obtain ⟨g1, g2, g3⟩ := hS'
      refine ih S' S (by omega) (fun hne => ?_) (fun p hp' => ?_) g2 (fun e2 k hk hb p hp' => ?_)
      · have := sg_mu_lt g1 hne
        omega
      · have := sg_pl_lt hW hN hn hp'
        exact g1 p (by omega) (h1 p hp')
      · subst e2
        exact g3 k hk hb p hp'
theorem sx_below (hW : sg_WF K A B C N) (hN : N ≤ 24) (hR : sg_RK K A B C N) {n : Nat} (hn : n < N) {post : Int32 → Prop} (hp : ∀ S, (∀ m, m < 32 → (bt S m = true ↔ sg_Rc K A B C n m)) → post S) : wpX_below post (nI N, far, fh, fc, fk, fo, ft, fl, fw, K, A, B, C, H, U, V, Q, G, M) (nI n) := by
  unfold wpX_below
  refine sx_partsOf hW hN hn (fun r hr => ⟨sg_mu r + 3, ?_⟩)
  refine sx_below8 hW hN hR hn hp _ r 0 (by omega) (fun _ => by omega) (fun p hp' => ?_) (fun p hp' hb => sg_Rc_p ((hr p hp').mp hb)) (fun e k hk hb => ?_)
  · have := sg_pl_lt hW hN hn hp'
    exact (hr p (by omega)).mpr hp'
  · rw [e, b_0] at hb
    exact absurd hb (by decide)
end SXP
section SYP
variable {N : Nat} {ft : Int32} {K A B C ha va af tm dn kt kg : Nat → Int32}
def sg_pt (K A B C : Nat → Int32) (n i : Nat) : Int32 := if K n = 0 then -1 else if K n = 11 then -1 else if K n = 10 then (if i = 0 then B n else if i = 1 then C n else -1) else if i = 0 then A n else if i = 1 then (if K n = 3 then B n else if K n = 6 then B n else if K n = 13 then B n else -1) else if K n = 13 then C n else -1
theorem sg_pt_eq (hW : sg_WF K A B C N) (hN : N ≤ 24) {n : Nat} (hn : n < N) {i : Nat} (hi : i < 3) : sg_pt K A B C n i = (((sg_pl K A B C n)[i]?).map nI).getD (-1) := by
  rcases sg_view hW hN hn with ⟨h, el⟩ | ⟨h, x, hx, ex, cx, el⟩ | ⟨h, x, hx, ex, cx, el⟩ | ⟨h, x, y, hx, ex, cx, hy, ey, cy, el⟩ | ⟨h, ex, el⟩ | ⟨h, x, hx, nx, ex, cx, el⟩ | ⟨h, x, y, hx, ex, cx, hy, ey, cy, el⟩ | ⟨h, x, y, hx, ex, cx, hy, ey, cy, el⟩ | ⟨h, x, y, hx, ex, cx, hy, ey, cy, el⟩ | ⟨h, x, hx, ex, cx, el⟩ | ⟨h, x, hx, ex, cx, el⟩ | ⟨h, x, y, z, hx, ex, cx, hy, ey, cy, hz, ez, cz, el⟩ | ⟨h, x, hx, ex, cx, el⟩ | ⟨h, x, hx, ex, cx, el⟩ | ⟨h, x, y, z, hx, ex, cx, hy, ey, cy, hz, ez, cz, el⟩ | ⟨h, x, hx, ex, cx, el⟩ <;> rw [el] <;> rcases (by omega : i = 0 ∨ i = 1 ∨ i = 2) with rfl | rfl | rfl <;> simp [sg_pt, *]
theorem sg_pl_3 (hW : sg_WF K A B C N) (hN : N ≤ 24) {n : Nat} (hn : n < N) : (sg_pl K A B C n).length ≤ 3 := by
  rcases sg_view hW hN hn with ⟨h, el⟩ | ⟨h, x, hx, ex, cx, el⟩ | ⟨h, x, hx, ex, cx, el⟩ | ⟨h, x, y, hx, ex, cx, hy, ey, cy, el⟩ | ⟨h, ex, el⟩ | ⟨h, x, hx, nx, ex, cx, el⟩ | ⟨h, x, y, hx, ex, cx, hy, ey, cy, el⟩ | ⟨h, x, y, hx, ex, cx, hy, ey, cy, el⟩ | ⟨h, x, y, hx, ex, cx, hy, ey, cy, el⟩ | ⟨h, x, hx, ex, cx, el⟩ | ⟨h, x, hx, ex, cx, el⟩ | ⟨h, x, y, z, hx, ex, cx, hy, ey, cy, hz, ez, cz, el⟩ | ⟨h, x, hx, ex, cx, el⟩ | ⟨h, x, hx, ex, cx, el⟩ | ⟨h, x, y, z, hx, ex, cx, hy, ey, cy, hz, ez, cz, el⟩ | ⟨h, x, hx, ex, cx, el⟩ <;> rw [el] <;> simp
theorem sg_pt_1 (hW : sg_WF K A B C N) (hN : N ≤ 24) {n : Nat} (hn : n < N) {i : Nat} (hi : i < 3) (h : ¬ sg_pt K A B C n i < 0) : ∃ p, sg_pt K A B C n i = nI p ∧ p ∈ sg_pl K A B C n := by
  rw [sg_pt_eq hW hN hn hi] at h ⊢
  cases e : (sg_pl K A B C n)[i]? with
  | none => rw [e] at h; exact absurd (by decide) h
  | some p => exact ⟨p, rfl, List.mem_of_getElem? e⟩
theorem sg_pt_2 (hW : sg_WF K A B C N) (hN : N ≤ 24) {n : Nat} (hn : n < N) {p : Nat} (h : p ∈ sg_pl K A B C n) : ∃ i, i < 3 ∧ sg_pt K A B C n i = nI p := by
  obtain ⟨i, hi⟩ := List.getElem?_of_mem h
  have h3 := sg_pl_3 hW hN hn
  have hl : i < (sg_pl K A B C n).length := by
    rcases Nat.lt_or_ge i (sg_pl K A B C n).length with z | z
    · exact z
    · rw [List.getElem?_eq_none z] at hi
      cases hi
  refine ⟨i, by omega, ?_⟩
  rw [sg_pt_eq hW hN hn (by omega), hi]
  rfl
theorem sy_part {n i : Nat} (hn : n < 24) (hi : i < 3) {post : Int32 → Prop} (h : post (sg_pt K A B C n i)) : wpY_part post (nI N, ft, K, A, B, C, ha, va, af, tm, dn, kt, kg) (nI n) (nI i) := by
  have e : (nI n).toNatClampNeg = n := sg_cl (by omega)
  have q : vp_in (nI n) 24 := vp_in_nI hn (by omega)
  unfold wpY_part
  simp only [e]
  unfold sg_pt at h
  refine ⟨q, nm_e ?_⟩
  by_cases k0 : K n = 0
  · rw [if_pos k0] at h
    exact br_t k0 h
  rw [if_neg k0] at h
  refine br_f k0 ?_
  by_cases k11 : K n = 11
  · rw [if_pos k11] at h
    exact br_t k11 h
  rw [if_neg k11] at h
  refine br_f k11 (br_t (nI_le (b := 2) (by omega) (by omega)) ?_)
  rcases (by omega : i = 0 ∨ i = 1 ∨ i = 2) with rfl | rfl | rfl
  · by_cases k10 : K n = 10
    · rw [if_pos k10] at h
      exact br_t k10 (br_t rfl ⟨q, h⟩)
    · rw [if_neg k10] at h
      exact br_f k10 (br_t rfl ⟨q, h⟩)
  · by_cases k10 : K n = 10
    · rw [if_pos k10] at h
      exact br_t k10 (br_f (by decide) (br_t rfl ⟨q, h⟩))
    · rw [if_neg k10] at h
      refine br_f k10 (br_f (by decide) (br_t rfl ?_))
      by_cases k3 : K n = 3
      · rw [if_neg (by decide), if_pos (by decide), if_pos k3] at h
        exact br_t k3 ⟨q, h⟩
      · by_cases k6 : K n = 6
        · rw [if_neg (by decide), if_pos (by decide), if_neg k3, if_pos k6] at h
          exact br_f k3 (br_t k6 ⟨q, h⟩)
        · by_cases k13 : K n = 13
          · rw [if_neg (by decide), if_pos (by decide), if_neg k3, if_neg k6, if_pos k13] at h
            exact br_f k3 (br_f k6 (br_t k13 ⟨q, h⟩))
          · rw [if_neg (by decide), if_pos (by decide), if_neg k3, if_neg k6, if_neg k13] at h
            exact br_f k3 (br_f k6 (br_f k13 h))
  · by_cases k10 : K n = 10
    · rw [if_pos k10] at h
      exact br_t k10 (br_f (by decide) (br_f (by decide) h))
    · rw [if_neg k10, if_neg (by decide), if_neg (by decide)] at h
      refine br_f k10 (br_f (by decide) (br_f (by decide) ?_))
      by_cases k13 : K n = 13
      · rw [if_pos k13] at h
        exact br_t k13 ⟨q, h⟩
      · rw [if_neg k13] at h
        exact br_f k13 h
def sg_rI (K A B C : Nat → Int32) (N n : Nat) (S0 : Int32) (a : Nat) (S : Int32) : Prop :=
  (∀ p, p < 32 → bt S0 p = true → bt S p = true) ∧ (∀ p, p < 32 → bt S p = true → sg_Rc K A B C n p) ∧ (∀ k i, k < N → i < 3 → 3 * k + i < a → bt S0 k = true → ∀ p, p < 32 → sg_pt K A B C k i = nI p → bt S p = true)
theorem sy_r46 (hW : sg_WF K A B C N) (hN : N ≤ 24) {n : Nat} (hn : n < N) {S0 x3 : Int32} {post : Int32 → Prop} {J : Int32 → Int32 → Prop} (hJ : ∀ S, sg_rI K A B C N n S0 72 S → J S (x3 + 1)) : ∀ d a, a + d = 72 → ∀ m, d < m → ∀ S, sg_rI K A B C N n S0 a S → wY_reached_46 post J x3 (nI N) ft K A B C ha va af tm dn kt kg m S (nI a) := by
  intro d
  induction d with
  | zero =>
    intro a hi m hm S hS
    obtain ⟨m, rfl⟩ : ∃ m', m = m' + 1 := ⟨m - 1, by omega⟩
    have e : a = 72 := by omega
    subst e
    exact br_t (by decide) (nm_e (hJ S hS))
  | succ d ih =>
    intro a hi m hm S hS
    obtain ⟨m, rfl⟩ : ∃ m', m = m' + 1 := ⟨m - 1, by omega⟩
    obtain ⟨h1, h2, h3⟩ := hS
    have ed : nI a / 3 = nI (a / 3) := pk_div (d := 3) (by omega) (by omega) (by omega)
    have er : nI a - nI a / 3 * 3 = nI (a % 3) := pk_rem (d := 3) (by omega) (by omega) (by omega)
    rw [wY_reached_46]
    simp only [er]
    have skip : (∀ k i, k < N → i < 3 → 3 * k + i = a → bt S0 k = true → ∀ p, p < 32 → sg_pt K A B C k i = nI p → bt S p = true) → wY_reached_46 post J x3 (nI N) ft K A B C ha va af tm dn kt kg m S (nI (a + 1)) := by
      intro hs
      refine ih (a + 1) (by omega) m (by omega) S ⟨h1, h2, fun k i hk hi hl => ?_⟩
      by_cases z : 3 * k + i = a
      · exact hs k i hk hi z
      · exact h3 k i hk hi (by omega)
    refine br_f (nI_ge (b := 72) (by omega) (by omega)) ⟨by decide, nm_r ed (pk_le N (a / 3) (fun z => ?_) (fun z => ?_))⟩
    · exact nm_r (nI_1 a) (skip (fun k i hk hi hl => by omega))
    · refine sg_bo (by omega) (fun b => ⟨by decide, ?_⟩) (fun b => ?_)
      · refine sy_part (by omega) (by omega) (br_c (fun l => ?_) (fun l => ⟨by decide, sy_part (by omega) (by omega) (nm_e (nm_r (nI_1 a) ?_))⟩))
        · refine nm_r (nI_1 a) (skip (fun k i hk hi hl hb p hp hq => ?_))
          have z1 : k = a / 3 := by omega
          have z2 : i = a % 3 := by omega
          subst z1 z2
          rw [hq] at l
          exact absurd l (nI_pos (by omega))
        · obtain ⟨p, ep, hp⟩ := sg_pt_1 hW hN z (by omega) l
          have hpN := sg_pl_lt hW hN z hp
          rw [ep]
          refine ih (a + 1) (by omega) m (by omega) _ ⟨fun j hj hb => ?_, fun j hj hb => ?_, fun k i hk hi hl hb j hj hq => ?_⟩
          · rw [sg_or (by omega) hj, h1 j hj hb, Bool.true_or]
          · rw [sg_or (by omega) hj, Bool.or_eq_true, decide_eq_true_eq] at hb
            rcases hb with hb | hb
            · exact h2 j hj hb
            · subst hb
              exact sg_Rc_s (h2 (a / 3) (by omega) b) hp
          · rw [sg_or (by omega) hj, Bool.or_eq_true, decide_eq_true_eq]
            by_cases zz : 3 * k + i = a
            · have z1 : k = a / 3 := by omega
              have z2 : i = a % 3 := by omega
              subst z1 z2
              rw [ep] at hq
              exact Or.inr (sg_inj hq.symm hj (by omega))
            · exact Or.inl (h3 k i hk hi (by omega) hb j hj hq)
      · refine nm_r (nI_1 a) (skip (fun k i hk hi hl hb => ?_))
        have z1 : k = a / 3 := by omega
        subst z1
        rw [h1 _ (by omega) hb] at b
        exact absurd b (by decide)
theorem sy_r37 (hW : sg_WF K A B C N) (hN : N ≤ 24) (hR : sg_RK K A B C N) {n : Nat} (hn : n < N) {post : Int32 → Prop} (hp : ∀ S, (∀ m, m < 32 → (bt S m = true ↔ sg_Rc K A B C n m)) → post S) : ∀ d r, r + d = 24 → ∀ m, d < m → ∀ S, (∀ p, p < 32 → bt S p = true → sg_Rc K A B C n p) → (∀ f, f ≤ r → ∀ k, sg_S K A B C n f k → bt S k = true) → wY_reached_37 post (nI N) ft K A B C ha va af tm dn kt kg m S (nI r) := by
  intro d
  induction d with
  | zero =>
    intro r hr m hm S h1 h2
    obtain ⟨m, rfl⟩ : ∃ m', m = m' + 1 := ⟨m - 1, by omega⟩
    have e : r = 24 := by omega
    subst e
    refine br_t (by decide) (hp S (fun p hp' => ⟨h1 p hp', fun hc => ?_⟩))
    obtain ⟨f, hf, hs⟩ := sg_Rc_24 hW hN hn hR hc
    exact h2 f (by omega) p hs
  | succ d ih =>
    intro r hr m hm S h1 h2
    obtain ⟨m, rfl⟩ : ∃ m', m = m' + 1 := ⟨m - 1, by omega⟩
    refine br_f (nI_ge (b := 24) (by omega) (by omega)) ⟨73, sy_r46 hW hN hn (S0 := S) (fun S' hS' => ?_) 72 0 (by omega) 73 (by omega) S ⟨fun _ _ hb => hb, h1, fun k i hk hi hl => by omega⟩⟩
    obtain ⟨g1, g2, g3⟩ := hS'
    rw [nI_1]
    refine ih (r + 1) (by omega) m (by omega) S' g2 (fun f hf k hk => ?_)
    have hkN := sg_Rc_lt hW hN hn hR ⟨f, hk⟩
    cases f with
    | zero => exact g1 k (by omega) (h2 0 (by omega) k hk)
    | succ f =>
      obtain ⟨j, hj, hkj⟩ := hk
      have hjN := sg_Rc_lt hW hN hn hR ⟨f, hj⟩
      obtain ⟨i, hi, hpt⟩ := sg_pt_2 hW hN hjN hkj
      exact g3 j i hjN hi (by omega) (h2 f (by omega) j hj) k (by omega) hpt
theorem sy_r4 (hW : sg_WF K A B C N) (hN : N ≤ 24) (hR : sg_RK K A B C N) {n : Nat} (hn : n < N) {post : Int32 → Prop} (hp : ∀ S, (∀ m, m < 32 → (bt S m = true ↔ sg_Rc K A B C n m)) → post S) : ∀ d i, i + d = 3 → ∀ m, d < m → ∀ S, (∀ p, p < 32 → bt S p = true → p ∈ sg_pl K A B C n) → (∀ j, j < i → ∀ p, p < 32 → sg_pt K A B C n j = nI p → bt S p = true) → wY_reached_4 post (nI n) (nI N) ft K A B C ha va af tm dn kt kg m S (nI i) := by
  intro d
  induction d with
  | zero =>
    intro i hi m hm S h1 h2
    obtain ⟨m, rfl⟩ : ∃ m', m = m' + 1 := ⟨m - 1, by omega⟩
    have e : i = 3 := by omega
    subst e
    refine br_t (by decide) ⟨25, sy_r37 hW hN hR hn hp 24 0 (by omega) 25 (by omega) S (fun p hp' hb => sg_Rc_p (h1 p hp' hb)) (fun f hf k hk => ?_)⟩
    have e : f = 0 := by omega
    subst e
    have hk : k ∈ sg_pl K A B C n := hk
    have hkN := sg_pl_lt hW hN hn hk
    obtain ⟨i, hi, hpt⟩ := sg_pt_2 hW hN hn hk
    exact h2 i hi k (by omega) hpt
  | succ d ih =>
    intro i hi m hm S h1 h2
    obtain ⟨m, rfl⟩ : ∃ m', m = m' + 1 := ⟨m - 1, by omega⟩
    refine br_f (nI_ge (b := 3) (by omega) (by omega)) (sy_part (by omega) (by omega) (br_c (fun l => ?_) (fun l => sy_part (by omega) (by omega) (nm_e (nm_r (nI_1 i) ?_)))))
    · refine nm_r (nI_1 i) (ih (i + 1) (by omega) m (by omega) S h1 (fun j hj p hp' hq => ?_))
      by_cases z : j = i
      · subst z
        rw [hq] at l
        exact absurd l (nI_pos (by omega))
      · exact h2 j (by omega) p hp' hq
    · obtain ⟨p, ep, hpp⟩ := sg_pt_1 hW hN hn (by omega) l
      have hpN := sg_pl_lt hW hN hn hpp
      rw [ep]
      refine ih (i + 1) (by omega) m (by omega) _ (fun j hj hb => ?_) (fun k hk j hj hq => ?_)
      · rw [sg_or (by omega) hj, Bool.or_eq_true, decide_eq_true_eq] at hb
        rcases hb with hb | hb
        · exact h1 j hj hb
        · subst hb
          exact hpp
      · rw [sg_or (by omega) hj, Bool.or_eq_true, decide_eq_true_eq]
        by_cases z : k = i
        · subst z
          rw [ep] at hq
          exact Or.inr (sg_inj hq.symm hj (by omega))
        · exact Or.inl (h2 k (by omega) j hj hq)
theorem sy_reached (hW : sg_WF K A B C N) (hN : N ≤ 24) (hR : sg_RK K A B C N) {n : Nat} (hn : n < N) {post : Int32 → Prop} (hp : ∀ S, (∀ m, m < 32 → (bt S m = true ↔ sg_Rc K A B C n m)) → post S) : wpY_reached post (nI N, ft, K, A, B, C, ha, va, af, tm, dn, kt, kg) (nI n) := by
  unfold wpY_reached
  refine ⟨4, sy_r4 hW hN hR hn hp 3 0 (by omega) 4 (by omega) 0 (fun p hp' hb => ?_) (fun j hj => by omega)⟩
  rw [b_0] at hb
  exact absurd hb (by decide)
end SYP
end
section
/-! heights and users: raise, arrange -/
def sg_HU (K A B C : Nat → Int32) (N : Nat) (H U : Nat → Int32) : Prop := ∃ hh : Nat → Nat, (∀ m, m < N → H m = nI (hh m) ∧ hh m < 24 ∧ ∀ p, p ∈ sg_pl K A B C m → hh p < hh m) ∧ (∀ p, p < N → ∀ m, m < N → (bt (U p) m = true ↔ p ∈ sg_pl K A B C m))
def sg_sm (f : Nat → Nat) : Nat → Nat
  | 0 => 0
  | n + 1 => sg_sm f n + f n
theorem sg_sm_s (f : Nat → Nat) (n : Nat) : sg_sm f (n + 1) = sg_sm f n + f n := rfl
theorem sg_sm_c {f g : Nat → Nat} : ∀ n, (∀ i, i < n → f i = g i) → sg_sm f n = sg_sm g n
  | 0, _ => rfl
  | n + 1, h => by rw [sg_sm_s, sg_sm_s, sg_sm_c n (fun i hi => h i (by omega)), h n (by omega)]
theorem sg_sm_u {f g : Nat → Nat} {i : Nat} (hg : ∀ j, j ≠ i → g j = f j) : ∀ n, i < n → sg_sm g n + f i = sg_sm f n + g i
  | 0, h => by omega
  | n + 1, h => by
    rw [sg_sm_s, sg_sm_s]
    by_cases e : i = n
    · subst e
      rw [sg_sm_c i (fun j hj => hg j (by omega))]
      omega
    · have := sg_sm_u hg n (by omega)
      rw [hg n (by omega)]
      omega
theorem sg_sm_b {f : Nat → Nat} : ∀ n, (∀ i, i < n → f i ≤ 24) → sg_sm f n ≤ 24 * n
  | 0, _ => Nat.le_refl 0
  | n + 1, h => by
    have h1 := sg_sm_b n (fun i hi => h i (by omega))
    have h2 := h n (by omega)
    rw [sg_sm_s]
    omega
def sg_ms (l : List Nat) (hh : Nat → Nat) (i ms : Nat) : Prop := (∀ p, p ∈ l → p < i → hh p + 1 ≤ ms) ∧ (ms = 0 ∨ ∃ p, p ∈ l ∧ ms = hh p + 1)
section SXA
variable {N : Nat} {far fh fc fk fo ft fl fw : Int32} {K A B C H U V Q G M : Nat → Int32}
theorem sx_raise11 (hN : N ≤ 24) {n : Nat} (hn : n < N) {hh : Nat → Nat} (hH : ∀ m, m < N → H m = nI (hh m)) (hb : ∀ m, m < N → hh m < 24) {r : Int32} (hr : ∀ p, p < 32 → (bt r p = true ↔ p ∈ sg_pl K A B C n)) {post : Int32 → SX → Prop}
    (hpN : ∀ p, p ∈ sg_pl K A B C n → p < N)
    (hp0 : ∀ ms, sg_ms (sg_pl K A B C n) hh N ms → ms ≤ hh n → post 0 (nI N, far, fh, fc, fk, fo, ft, fl, fw, K, A, B, C, upd H n (nI ms), U, V, Q, G, M))
    (hp1 : ∀ ms, sg_ms (sg_pl K A B C n) hh N ms → hh n < ms → post 1 (nI N, far, fh, fc, fk, fo, ft, fl, fw, K, A, B, C, upd H n (nI ms), U, V, Q, G, M)) :
    ∀ d i, i + d = N → ∀ m, d < m → ∀ ms, sg_ms (sg_pl K A B C n) hh i ms → wX_raise_11 post (nI n) r (nI N) far fh fc fk fo ft fl fw K A B C H U V Q G M m (nI ms) (nI i) := by
  have e : (nI n).toNatClampNeg = n := sg_cl (by omega)
  have q := sg_i24 hn hN
  have msb : ∀ i ms, sg_ms (sg_pl K A B C n) hh i ms → ms < 32 := by
    rintro i ms ⟨_, rfl | ⟨p, hp, rfl⟩⟩
    · omega
    · have := hb p (hpN p hp)
      omega
  intro d
  induction d with
  | zero =>
    intro i hi m hm ms hs
    obtain ⟨m, rfl⟩ : ∃ m', m = m' + 1 := ⟨m - 1, by omega⟩
    have ei : i = N := by omega
    subst ei
    have hms := msb _ _ hs
    have hw : upd H (nI n).toNatClampNeg (vp_nar .byte (nI ms).toInt8.toInt32) = upd H n (nI ms) := by rw [e, sg_hb ms (by omega)]
    have hle : nI ms ≤ H (nI n).toNatClampNeg ↔ ms ≤ hh n := by
      have := hb n hn
      rw [e, hH n hn, nI_leI (by omega) (by omega)]
    refine br_t (nI_le (Nat.le_refl _) (by omega)) ⟨q, ?_⟩
    by_cases z : ms ≤ hh n
    · exact br_t (hle.mpr z) ⟨q, nm_r hw ⟨sg_nw0, hp0 ms hs z⟩⟩
    · exact br_f (fun y => z (hle.mp y)) ⟨q, nm_r hw ⟨sg_nw1, hp1 ms hs (by omega)⟩⟩
  | succ d ih =>
    intro i hi m hm ms hs
    obtain ⟨m, rfl⟩ : ∃ m', m = m' + 1 := ⟨m - 1, by omega⟩
    have hms := msb _ _ hs
    obtain ⟨h1, h2⟩ := hs
    have ei : (nI i).toNatClampNeg = i := sg_cl (by omega)
    have qi := sg_i24 (show i < N by omega) hN
    have hlt : H (nI i).toNatClampNeg < nI ms ↔ hh i < ms := by
      have := hb i (by omega)
      rw [ei, hH i (by omega), nI_ltI (by omega) (by omega)]
    refine br_f (nI_ge (by omega) (by omega)) (sg_bz (by omega) (fun b => ?_) (fun b => ⟨qi, ?_⟩))
    · refine nm_r (nI_1 i) (ih (i + 1) (by omega) m (by omega) ms ⟨fun p hp hpi => ?_, h2⟩)
      by_cases z : p = i
      · subst z
        rw [(hr p (by omega)).mpr hp] at b
        exact absurd b (by decide)
      · exact h1 p hp (by omega)
    · have bi := (hr i (by omega)).mp b
      by_cases z : hh i < ms
      · refine br_t (hlt.mpr z) (nm_r (nI_1 i) (ih (i + 1) (by omega) m (by omega) ms ⟨fun p hp hpi => ?_, h2⟩))
        by_cases y : p = i
        · subst y
          omega
        · exact h1 p hp (by omega)
      · refine br_f (fun y => z (hlt.mp y)) ⟨qi, nm_r (e' := nI (hh i + 1)) ?_ (nm_r (nI_1 i) (ih (i + 1) (by omega) m (by omega) (hh i + 1) ⟨fun p hp hpi => ?_, Or.inr ⟨i, bi, rfl⟩⟩))⟩
        · rw [ei, hH i (by omega), nI_1]
        · by_cases y : p = i
          · subst y
            omega
          · have := h1 p hp (by omega)
            omega
theorem sx_raise (hW : sg_WF K A B C N) (hN : N ≤ 24) {n : Nat} (hn : n < N) {hh : Nat → Nat} (hH : ∀ m, m < N → H m = nI (hh m)) (hb : ∀ m, m < N → hh m < 24) {post : Int32 → SX → Prop}
    (hp0 : ∀ ms, sg_ms (sg_pl K A B C n) hh N ms → ms ≤ hh n → post 0 (nI N, far, fh, fc, fk, fo, ft, fl, fw, K, A, B, C, upd H n (nI ms), U, V, Q, G, M))
    (hp1 : ∀ ms, sg_ms (sg_pl K A B C n) hh N ms → hh n < ms → post 1 (nI N, far, fh, fc, fk, fo, ft, fl, fw, K, A, B, C, upd H n (nI ms), U, V, Q, G, M)) : wpX_raise post (nI N, far, fh, fc, fk, fo, ft, fl, fw, K, A, B, C, H, U, V, Q, G, M) (nI n) := by
  unfold wpX_raise
  refine sx_partsOf hW hN hn (fun r hr => ⟨N + 1, ?_⟩)
  exact sx_raise11 hN hn hH hb hr (fun p hp => sg_pl_lt hW hN hn hp) hp0 hp1 N 0 (by omega) (N + 1) (by omega) 0 ⟨fun p hp hpi => by omega, Or.inl rfl⟩
/-- heights while they grow -/
def sg_hI (K A B C : Nat → Int32) (N : Nat) (rk : Nat → Nat) (H : Nat → Int32) (hh : Nat → Nat) : Prop :=
  (∀ m, m < N → H m = nI (hh m)) ∧ (∀ m, m < N → hh m ≤ rk m) ∧ (∀ m, m < N → hh m = 0 ∨ ∃ p, p ∈ sg_pl K A B C m ∧ hh m ≤ hh p + 1)
theorem sx_arr53 (hW : sg_WF K A B C N) (hN : N ≤ 24) {rk : Nat → Nat} (hr0 : ∀ m, m < N → rk m < N) (hr : ∀ m, m < N → ∀ p, p ∈ sg_pl K A B C m → rk p < rk m) {s0 : Nat} {post : SX → Prop} {J : Int32 → Int32 → Int32 → Int32 → Int32 → Int32 → Int32 → Int32 → Int32 → Int32 → (Nat → Int32) → (Nat → Int32) → (Nat → Int32) → (Nat → Int32) → (Nat → Int32) → (Nat → Int32) → (Nat → Int32) → (Nat → Int32) → (Nat → Int32) → (Nat → Int32) → Prop}
    (hJ : ∀ g H hh, sg_hI K A B C N rk H hh → (g = 0 → ∀ m, m < N → ∀ p, p ∈ sg_pl K A B C m → hh p + 1 ≤ hh m) → (¬ g = 0 → s0 < sg_sm hh N) → J g (nI N) far fh fc fk fo ft fl fw K A B C H U V Q G M) :
    ∀ d i, i + d = N → ∀ m, d < m → ∀ g H hh, sg_hI K A B C N rk H hh → (g = 0 → ∀ m, m < i → ∀ p, p ∈ sg_pl K A B C m → hh p + 1 ≤ hh m) → s0 ≤ sg_sm hh N → (¬ g = 0 → s0 < sg_sm hh N) → wX_arrange_53 post J m g (nI i) (nI N) far fh fc fk fo ft fl fw K A B C H U V Q G M := by
  intro d
  induction d with
  | zero =>
    intro i hi m hm g H hh h1 h2 h3 h4
    obtain ⟨m, rfl⟩ : ∃ m', m = m' + 1 := ⟨m - 1, by omega⟩
    have e : i = N := by omega
    subst e
    exact br_t (nI_le (Nat.le_refl _) (by omega)) (hJ g H hh h1 h2 h4)
  | succ d ih =>
    intro i hi m hm g H hh h1 h2 h3 h4
    obtain ⟨m, rfl⟩ : ∃ m', m = m' + 1 := ⟨m - 1, by omega⟩
    obtain ⟨a1, a2, a3⟩ := h1
    have hi' : i < N := by omega
    have hb : ∀ m, m < N → hh m < 24 := fun m hm => by
      have := a2 m hm
      have := hr0 m hm
      omega
    have key : ∀ ms, sg_ms (sg_pl K A B C i) hh N ms → hh i ≤ ms ∧ sg_hI K A B C N rk (upd H i (nI ms)) (fun j => if j = i then ms else hh j) ∧ sg_sm (fun j => if j = i then ms else hh j) N + hh i = sg_sm hh N + ms := by
      rintro ms ⟨b1, b2⟩
      have hge : hh i ≤ ms := by
        rcases a3 i hi' with z | ⟨p, hp, z⟩
        · omega
        · have := b1 p hp (sg_pl_lt hW hN hi' hp)
          omega
      refine ⟨hge, ⟨fun k hk => ?_, fun k hk => ?_, fun k hk => ?_⟩, ?_⟩
      · dsimp only
        by_cases z : k = i
        · subst z
          rw [pk_us, if_pos rfl]
        · rw [pk_un z, if_neg z, a1 k hk]
      · dsimp only
        by_cases z : k = i
        · subst z
          rw [if_pos rfl]
          rcases b2 with y | ⟨p, hp, y⟩
          · omega
          · have h5 := a2 p (sg_pl_lt hW hN hi' hp)
            have h6 := hr k hk p hp
            omega
        · rw [if_neg z]
          exact a2 k hk
      · have up : ∀ p, hh p ≤ (if p = i then ms else hh p) := by
          intro p
          by_cases z : p = i
          · rw [if_pos z, z]; exact hge
          · rw [if_neg z]; exact Nat.le_refl _
        dsimp only
        by_cases z : k = i
        · subst z
          rw [if_pos rfl]
          rcases b2 with y | ⟨p, hp, y⟩
          · exact Or.inl y
          · refine Or.inr ⟨p, hp, ?_⟩
            have := up p
            omega
        · rw [if_neg z]
          rcases a3 k hk with y | ⟨p, hp, y⟩
          · exact Or.inl y
          · refine Or.inr ⟨p, hp, ?_⟩
            have := up p
            omega
      · have := sg_sm_u (f := hh) (g := fun j => if j = i then ms else hh j) (i := i) (fun j hj => if_neg hj) N hi'
        simp only [if_pos] at this
        exact this
    refine br_f (nI_ge hi' (by omega)) (sx_raise hW hN hi' a1 hb (fun ms hms hle => ?_) (fun ms hms hlt => ?_))
    · obtain ⟨k1, k2, k3⟩ := key ms hms
      refine br_t rfl (nm_r (nI_1 i) (ih (i + 1) (by omega) m (by omega) g _ _ k2 (fun g0 k hk p hp => ?_) (by omega) (fun g1 => ?_)))
      · have em : ms = hh i := by omega
        have ef : ∀ j, (if j = i then ms else hh j) = hh j := by
          intro j
          by_cases z : j = i
          · rw [if_pos z, z, em]
          · rw [if_neg z]
        rw [ef, ef]
        by_cases z : k = i
        · subst z
          have := hms.1 p hp (sg_pl_lt hW hN hi' hp)
          omega
        · exact h2 g0 k (by omega) p hp
      · have := h4 g1
        omega
    · obtain ⟨k1, k2, k3⟩ := key ms hms
      exact br_f sg_10 (nm_r (nI_1 i) (ih (i + 1) (by omega) m (by omega) 1 _ _ k2 (fun g0 => absurd g0 sg_10) (by omega) (fun _ => by omega)))
theorem sx_arr99 (hW : sg_WF K A B C N) (hN : N ≤ 24) {n : Nat} (hn : n < N) {r : Int32} (hr : ∀ p, p < 32 → (bt r p = true ↔ p ∈ sg_pl K A B C n)) {post : SX → Prop} {J : Int32 → (Nat → Int32) → (Nat → Int32) → (Nat → Int32) → (Nat → Int32) → (Nat → Int32) → (Nat → Int32) → (Nat → Int32) → (Nat → Int32) → (Nat → Int32) → (Nat → Int32) → Prop}
    (hJ : ∀ U, (∀ p, p < N → ∀ m, m < N → (bt (U p) m = true ↔ (m < n + 1 ∧ p ∈ sg_pl K A B C m))) → J (nI (n + 1)) K A B C H U V Q G M) :
    ∀ d i, i + d = N → ∀ m, d < m → ∀ U : Nat → Int32, (∀ p, p < N → ∀ m, m < N → (bt (U p) m = true ↔ (p ∈ sg_pl K A B C m ∧ (m < n ∨ (m = n ∧ p < i))))) → wX_arrange_99 post J (nI n) r (nI N) far fh fc fk fo ft fl fw m (nI i) K A B C H U V Q G M := by
  intro d
  induction d with
  | zero =>
    intro i hi m hm U hU
    obtain ⟨m, rfl⟩ : ∃ m', m = m' + 1 := ⟨m - 1, by omega⟩
    have e : i = N := by omega
    subst e
    refine br_t (nI_le (Nat.le_refl _) (by omega)) (nm_r (nI_1 n) (hJ U (fun p hp k hk => ?_)))
    rw [hU p hp k hk]
    constructor
    · rintro ⟨h1, h2⟩
      exact ⟨by omega, h1⟩
    · rintro ⟨h1, h2⟩
      exact ⟨h2, by omega⟩
  | succ d ih =>
    intro i hi m hm U hU
    obtain ⟨m, rfl⟩ : ∃ m', m = m' + 1 := ⟨m - 1, by omega⟩
    have hi' : i < N := by omega
    have qi := sg_i24 hi' hN
    have ei : (nI i).toNatClampNeg = i := sg_cl (by omega)
    refine br_f (nI_ge hi' (by omega)) (sg_bz (by omega) (fun b => ?_) (fun b => ⟨qi, qi, ?_⟩))
    · refine nm_r (nI_1 i) (ih (i + 1) (by omega) m (by omega) U (fun p hp k hk => ?_))
      rw [hU p hp k hk]
      constructor
      · rintro ⟨h1, h2⟩
        exact ⟨h1, by omega⟩
      · rintro ⟨h1, h2⟩
        refine ⟨h1, ?_⟩
        by_cases z : k = n ∧ p = i
        · obtain ⟨z1, z2⟩ := z
          subst z1 z2
          rw [(hr p (by omega)).mpr h1] at b
          exact absurd b (by decide)
        · omega
    · refine nm_r (e' := upd U i (U i ||| ((1 : Int32) <<< (nI n &&& 31)))) (by rw [ei]) (nm_r (nI_1 i) (ih (i + 1) (by omega) m (by omega) _ (fun p hp k hk => ?_)))
      by_cases z : p = i
      · subst z
        rw [pk_us, sg_or (by omega) (by omega), Bool.or_eq_true, decide_eq_true_eq, hU p hp k hk]
        constructor
        · rintro (⟨h1, h2⟩ | h1)
          · exact ⟨h1, by omega⟩
          · subst h1
            exact ⟨(hr p (by omega)).mp b, by omega⟩
        · rintro ⟨h1, h2⟩
          by_cases y : k = n
          · exact Or.inr y
          · exact Or.inl ⟨h1, by omega⟩
      · rw [pk_un z, hU p hp k hk]
        constructor
        · rintro ⟨h1, h2⟩
          exact ⟨h1, by omega⟩
        · rintro ⟨h1, h2⟩
          exact ⟨h1, by omega⟩
theorem sx_arr82 (hW : sg_WF K A B C N) (hN : N ≤ 24) {post : SX → Prop} (hp : ∀ U, (∀ p, p < N → ∀ m, m < N → (bt (U p) m = true ↔ p ∈ sg_pl K A B C m)) → post (nI N, far, fh, fc, fk, fo, ft, fl, fw, K, A, B, C, H, U, V, Q, G, M)) :
    ∀ d i, i + d = N → ∀ m, d < m → ∀ U : Nat → Int32, (∀ p, p < N → ∀ m, m < N → (bt (U p) m = true ↔ (m < i ∧ p ∈ sg_pl K A B C m))) → wX_arrange_82 post (nI N) far fh fc fk fo ft fl fw m (nI i) K A B C H U V Q G M := by
  intro d
  induction d with
  | zero =>
    intro i hi m hm U hU
    obtain ⟨m, rfl⟩ : ∃ m', m = m' + 1 := ⟨m - 1, by omega⟩
    have e : i = N := by omega
    subst e
    refine br_t (nI_le (Nat.le_refl _) (by omega)) (hp U (fun p hp k hk => ?_))
    rw [hU p hp k hk]
    exact ⟨fun h => h.2, fun h => ⟨hk, h⟩⟩
  | succ d ih =>
    intro i hi m hm U hU
    obtain ⟨m, rfl⟩ : ∃ m', m = m' + 1 := ⟨m - 1, by omega⟩
    have hi' : i < N := by omega
    refine br_f (nI_ge hi' (by omega)) (sx_partsOf hW hN hi' (fun r hr => ⟨N + 1, ?_⟩))
    refine sx_arr99 hW hN hi' hr (fun U' hU' => ih (i + 1) (by omega) m (by omega) U' hU') N 0 (by omega) (N + 1) (by omega) U (fun p hp k hk => ?_)
    rw [hU p hp k hk]
    constructor
    · rintro ⟨h1, h2⟩
      exact ⟨h2, by omega⟩
    · rintro ⟨h1, h2⟩
      exact ⟨by omega, h1⟩
theorem sx_arr45 (hW : sg_WF K A B C N) (hN : N ≤ 24) {rk : Nat → Nat} (hr0 : ∀ m, m < N → rk m < N) (hr : ∀ m, m < N → ∀ p, p ∈ sg_pl K A B C m → rk p < rk m) (hU0 : ∀ p, p < N → U p = 0) {post : SX → Prop} (hp : ∀ H U, sg_HU K A B C N H U → post (nI N, far, fh, fc, fk, fo, ft, fl, fw, K, A, B, C, H, U, V, Q, G, M)) :
    ∀ m, ∀ g H hh, sg_hI K A B C N rk H hh → (g = 0 → ∀ m, m < N → ∀ p, p ∈ sg_pl K A B C m → hh p + 1 ≤ hh m) → 0 < m → (¬ g = 0 → 600 < m + sg_sm hh N) → wX_arrange_45 post m g (nI N) far fh fc fk fo ft fl fw K A B C H U V Q G M := by
  intro m
  induction m with
  | zero => intro g H hh _ _ h; omega
  | succ m ih =>
    intro g H hh h1 h2 _ h3
    have hb : ∀ m, m < N → hh m < 24 := fun m hm => by
      have := h1.2.1 m hm
      have := hr0 m hm
      omega
    by_cases g0 : g = 0
    · refine br_t g0 ⟨N + 1, sx_arr82 hW hN (fun U' hU' => hp H U' ⟨hh, fun k hk => ⟨h1.1 k hk, hb k hk, fun p hp' => h2 g0 k hk p hp'⟩, hU'⟩) N 0 (by omega) (N + 1) (by omega) U (fun p hp' k hk => ?_)⟩
      rw [hU0 p hp', b_0]
      constructor
      · intro z
        exact absurd z (by decide)
      · rintro ⟨z, _⟩
        omega
    · have h4 := h3 g0
      have h5 := sg_sm_b (f := hh) N (fun i hi => Nat.le_of_lt (hb i hi))
      refine br_f g0 ⟨N + 1, sx_arr53 hW hN hr0 hr (s0 := sg_sm hh N) (fun g' H' hh' k1 k2 k3 => ih g' H' hh' k1 k2 (by omega) (fun k4 => ?_)) N 0 (by omega) (N + 1) (by omega) 0 H hh h1 (fun _ k hk => by omega) (Nat.le_refl _) (fun z => absurd rfl z)⟩
      have := k3 k4
      omega
theorem sx_arr15 (hW : sg_WF K A B C N) (hN : N ≤ 24) (hR : sg_RK K A B C N) {post : SX → Prop} (hp : ∀ H U, sg_HU K A B C N H U → post (nI N, far, fh, fc, fk, fo, ft, fl, fw, K, A, B, C, H, U, V, Q, G, M)) :
    ∀ d i, i + d = N → ∀ m, d < m → ∀ H U : Nat → Int32, (∀ j, j < i → H j = 0 ∧ U j = 0) → wX_arrange_15 post (nI N) far fh fc fk fo ft fl fw m (nI i) K A B C H U V Q G M := by
  intro d
  induction d with
  | zero =>
    intro i hi m hm H U hU
    obtain ⟨m, rfl⟩ : ∃ m', m = m' + 1 := ⟨m - 1, by omega⟩
    have e : i = N := by omega
    subst e
    obtain ⟨rk, hr0, hr⟩ := sg_rk24 hW hN hR
    exact br_t (nI_le (Nat.le_refl _) (by omega)) ⟨601, sx_arr45 hW hN hr0 hr (fun p hp' => (hU p hp').2) hp 601 1 H (fun _ => 0) ⟨fun k hk => (hU k hk).1, fun k hk => Nat.zero_le _, fun k hk => Or.inl rfl⟩ (fun z => absurd z sg_10) (by omega) (fun _ => by omega)⟩
  | succ d ih =>
    intro i hi m hm H U hU
    obtain ⟨m, rfl⟩ : ∃ m', m = m' + 1 := ⟨m - 1, by omega⟩
    have hi' : i < N := by omega
    have qi := sg_i24 hi' hN
    have ei : (nI i).toNatClampNeg = i := sg_cl (by omega)
    have eb : vp_nar .byte 0 = 0 := by rw [vp_nar_byte]; decide
    refine br_f (nI_ge hi' (by omega)) ⟨qi, nm_r (e' := upd H i 0) (by rw [ei, eb]) ⟨qi, nm_r (e' := upd U i 0) (by rw [ei]) (nm_r (nI_1 i) (ih (i + 1) (by omega) m (by omega) _ _ (fun j hj => ?_)))⟩⟩
    by_cases z : j = i
    · subst z
      exact ⟨pk_us, pk_us⟩
    · rw [pk_un z, pk_un z]
      exact hU j (by omega)
theorem sx_arrange (hW : sg_WF K A B C N) (hN : N ≤ 24) (hR : sg_RK K A B C N) (hHU : ¬ far = 0 → sg_HU K A B C N H U) {post : SX → Prop} (hp : ∀ far H U, ¬ far = 0 → sg_HU K A B C N H U → post (nI N, far, fh, fc, fk, fo, ft, fl, fw, K, A, B, C, H, U, V, Q, G, M)) : wpX_arrange post (nI N, far, fh, fc, fk, fo, ft, fl, fw, K, A, B, C, H, U, V, Q, G, M) := by
  unfold wpX_arrange
  by_cases z : far = 0
  · exact br_t z ⟨N + 1, sx_arr15 hW hN hR (fun H U h => hp 1 H U sg_10 h) N 0 (by omega) (N + 1) (by omega) H U (fun j hj => by omega)⟩
  · exact br_f z (hp far H U z (hHU z))
end SXA
end
section
/-! one node looked at -/
def sg_XI (K A B C vb : Nat → Int32) (kp : Nat → Bool) (N : Nat) (T : Nat → Bool × Int32) (D : Nat → Prop) (fh fc fw : Int32) (V Q : Nat → Int32) : Prop := ∀ m, m < N →
  (sg_cell (K m) = true → V m = vb m ∧ bt fh m = false ∧ (D m → bt fc m = sg_tl K vb T m ∧ (sg_tl K vb T m = true → Q m = (T m).2)) ∧ (¬ D m → bt fc m = false)) ∧
  (sg_cell (K m) = false → bt fc m = false ∧ (D m → bt fh m = (T m).1 ∧ ((T m).1 = true → V m = (T m).2)) ∧ (¬ D m → bt fh m = false)) ∧
  (¬ D m → bt fw m = false → ((K m = 0 ∨ K m = 11) → kp m = false) ∧ ∀ p, p ∈ sg_pl K A B C m → D p → sg_tl K vb T p = false)
def sg_XK (K : Nat → Int32) (kp : Nat → Bool) (kg : Nat → Int32) (N : Nat) (fk fo : Int32) (G : Nat → Int32) : Prop := ∀ j, j < N →
  ((K j = 0 ∨ K j = 11) → bt fk j = kp j ∧ (kp j = true → G j = kg j)) ∧ (K j = 8 → G j = kg j) ∧ (K j = 12 → bt fo j = kp j)
def sg_mk (K A B C c : Nat → Int32) (n : Nat) : Int32 := if K n = 14 then c (A n).toNatClampNeg * B n + C n else if K n = 6 then c (A n).toNatClampNeg + c (B n).toNatClampNeg else if c (A n).toNatClampNeg = 0 then c (C n).toNatClampNeg else c (B n).toNatClampNeg
theorem sg_g1 {t : Bool × Int32} {b : Bool} {v : Int32} (h : t = sg_g b v) : t.1 = b := by rw [h]; rfl
theorem sg_g2 {t : Bool × Int32} {b : Bool} {v : Int32} (h : t = sg_g b v) (hb : t.1 = true) : v = t.2 := by
  rw [h] at hb ⊢
  have hb : b = true := hb
  rw [hb]
  rfl
section SXL
variable {N : Nat} {far fh fc fk fo ft fl fw : Int32} {K A B C H U V Q G M vb kg : Nat → Int32} {kp : Nat → Bool} {T : Nat → Bool × Int32}
theorem sx_has {p : Nat} (hp : p < 32) {post : Int32 → Prop} (h0 : bt fh p = false → post 0) (h1 : bt fh p = true → post 1) : wpX_has post (nI N, far, fh, fc, fk, fo, ft, fl, fw, K, A, B, C, H, U, V, Q, G, M) (nI p) := sg_bz hp h0 h1
theorem sx_cv0 {p : Nat} (hp : p < 24) {post : Int32 → Prop} (h : post (V p)) : wpX_cellValue post (nI N, far, fh, fc, fk, fo, ft, fl, fw, K, A, B, C, H, U, V, Q, G, M) (nI p) 0 := by
  have e : (nI p).toNatClampNeg = p := sg_cl (by omega)
  unfold wpX_cellValue
  simp only [e]
  exact br_t trivial ⟨vp_in_nI hp (by omega), h⟩
theorem sx_cv1 {p : Nat} (hp : p < 24) {post : Int32 → Prop} (h0 : bt fc p = false → post (V p)) (h1 : bt fc p = true → post (Q p)) : wpX_cellValue post (nI N, far, fh, fc, fk, fo, ft, fl, fw, K, A, B, C, H, U, V, Q, G, M) (nI p) 1 := by
  have e : (nI p).toNatClampNeg = p := sg_cl (by omega)
  have i : vp_in (nI p) 24 := vp_in_nI hp (by omega)
  unfold wpX_cellValue
  simp only [e]
  exact br_f sg_10 (sg_bz (by omega) (fun b => ⟨i, h0 b⟩) (fun b => ⟨i, h1 b⟩))
theorem sx_combined (hW : sg_WF K A B C N) (hN : N ≤ 24) {n : Nat} (hn : n < N) (hc : sg_cell (K n) = true) (h4 : ¬ K n = 4) {a : Int32} {c : Nat → Int32} (hcv : ∀ p, p ∈ sg_pl K A B C n → ∀ post : Int32 → Prop, post (c p) → wpX_cellValue post (nI N, far, fh, fc, fk, fo, ft, fl, fw, K, A, B, C, H, U, V, Q, G, M) (nI p) a) {post : Int32 → Prop} (hp : post (sg_mk K A B C c n)) : wpX_combined post (nI N, far, fh, fc, fk, fo, ft, fl, fw, K, A, B, C, H, U, V, Q, G, M) (nI n) a := by
  have e : (nI n).toNatClampNeg = n := sg_cl (by omega)
  have i := sg_i24 hn hN
  have q : ∀ x, x < 32 → (nI x).toNatClampNeg = x := fun x hx => sg_cl hx
  unfold wpX_combined
  simp only [e]
  rcases sg_view hW hN hn with ⟨h, el⟩ | ⟨h, x, hx, ex, cx, el⟩ | ⟨h, x, hx, ex, cx, el⟩ | ⟨h, x, y, hx, ex, cx, hy, ey, cy, el⟩ | ⟨h, ex, el⟩ | ⟨h, x, hx, nx, ex, cx, el⟩ | ⟨h, x, y, hx, ex, cx, hy, ey, cy, el⟩ | ⟨h, x, y, hx, ex, cx, hy, ey, cy, el⟩ | ⟨h, x, y, hx, ex, cx, hy, ey, cy, el⟩ | ⟨h, x, hx, ex, cx, el⟩ | ⟨h, x, hx, ex, cx, el⟩ | ⟨h, x, y, z, hx, ex, cx, hy, ey, cy, hz, ez, cz, el⟩ | ⟨h, x, hx, ex, cx, el⟩ | ⟨h, x, hx, ex, cx, el⟩ | ⟨h, x, y, z, hx, ex, cx, hy, ey, cy, hz, ez, cz, el⟩ | ⟨h, x, hx, ex, cx, el⟩
  · rw [h] at hc; exact absurd hc (by decide)
  · rw [h] at hc; exact absurd hc (by decide)
  · rw [h] at hc; exact absurd hc (by decide)
  · rw [h] at hc; exact absurd hc (by decide)
  · exact absurd h h4
  · exact absurd h h4
  · rw [h] at hc; exact absurd hc (by decide)
  · have hp' : post (c x + c y) := by simpa [sg_mk, h, ex, ey, q x (by omega), q y (by omega)] using hp
    rw [ex, ey]
    exact ⟨i, nm_r h ⟨i, hcv x (by rw [el]; simp) _ (br_f (by decide) (br_t rfl ⟨i, hcv y (by rw [el]; simp) _ hp'⟩))⟩⟩
  · rw [h] at hc; exact absurd hc (by decide)
  · rw [h] at hc; exact absurd hc (by decide)
  · rw [h] at hc; exact absurd hc (by decide)
  · rw [h] at hc; exact absurd hc (by decide)
  · rw [h] at hc; exact absurd hc (by decide)
  · rw [h] at hc; exact absurd hc (by decide)
  · rw [ex, ey, ez]
    refine ⟨i, nm_r h ⟨i, hcv x (by rw [el]; simp) _ (br_f (by decide) (br_f (by decide) ?_))⟩⟩
    by_cases c0 : c x = 0
    · have hp' : post (c z) := by simpa [sg_mk, h, ex, ey, ez, q x (by omega), q z (by omega), c0] using hp
      exact br_t c0 ⟨i, hcv z (by rw [el]; simp) _ hp'⟩
    · have hp' : post (c y) := by simpa [sg_mk, h, ex, ey, ez, q x (by omega), q y (by omega), c0] using hp
      exact br_f c0 ⟨i, hcv y (by rw [el]; simp) _ hp'⟩
  · have hp' : post (c x * B n + C n) := by simpa [sg_mk, h, ex, q x (by omega)] using hp
    rw [ex]
    exact ⟨i, nm_r h ⟨i, hcv x (by rw [el]; simp) _ (br_t rfl ⟨i, i, hp'⟩)⟩⟩
theorem sx_lc61 {n : Nat} (hn : n < 24) (hc : sg_cell (K n) = true) (hV : V n = vb n) {post : Int32 → SX → Prop} (hp0 : sg_tl K vb T n = false → post 0 (nI N, far, fh, fc, fk, fo, ft, fl, fw, K, A, B, C, H, U, V, Q, G, M)) (hp1 : sg_tl K vb T n = true → post 1 (nI N, far, fh, fc ||| ((1 : Int32) <<< (nI n &&& 31)), fk, fo, ft, fl, fw, K, A, B, C, H, U, V, upd Q n (T n).2, G, M)) {v : Int32} (hv : v = (T n).2) : wX_lookAtCell_61 post (nI n) v (nI N) far fh fc fk fo ft fl fw K A B C H U V Q G M := by
  have e : (nI n).toNatClampNeg = n := sg_cl (by omega)
  have i : vp_in (nI n) 24 := vp_in_nI hn (by omega)
  subst hv
  unfold wX_lookAtCell_61
  simp only [e, hV]
  by_cases z : (T n).2 = vb n
  · exact ⟨i, br_t z (hp0 (by simp [sg_tl, hc, z]))⟩
  · exact ⟨i, br_f z ⟨i, nm_e (nm_e (hp1 (by simp [sg_tl, hc, z])))⟩⟩
theorem sx_lookAtCell (hW : sg_WF K A B C N) (hN : N ≤ 24) (hT : ∀ n, n < N → T n = sg_F K A B C vb kp kg n T) {D : Nat → Prop} (hX : sg_XI K A B C vb kp N T D fh fc fw V Q) {n : Nat} (hn : n < N) (hc : sg_cell (K n) = true) (hD : ∀ p, p ∈ sg_pl K A B C n → D p) {fw' : Int32} {post : Int32 → SX → Prop} (hp0 : sg_tl K vb T n = false → post 0 (nI N, far, fh, fc, fk, fo, ft, fl, fw', K, A, B, C, H, U, V, Q, G, M)) (hp1 : sg_tl K vb T n = true → post 1 (nI N, far, fh, fc ||| ((1 : Int32) <<< (nI n &&& 31)), fk, fo, ft, fl, fw', K, A, B, C, H, U, V, upd Q n (T n).2, G, M)) : wpX_lookAtCell post (nI N, far, fh, fc, fk, fo, ft, fl, fw', K, A, B, C, H, U, V, Q, G, M) (nI n) := by
  have e : (nI n).toNatClampNeg = n := sg_cl (by omega)
  have i := sg_i24 hn hN
  have q : ∀ x, x < 32 → (nI x).toNatClampNeg = x := fun x hx => sg_cl hx
  have hV : V n = vb n := ((hX n hn).1 hc).1
  have hTn := hT n hn
  by_cases h4 : K n = 4
  · unfold wpX_lookAtCell
    simp only [e]
    rcases sg_view hW hN hn with ⟨h, el⟩ | ⟨h, x, hx, ex, cx, el⟩ | ⟨h, x, hx, ex, cx, el⟩ | ⟨h, x, y, hx, ex, cx, hy, ey, cy, el⟩ | ⟨h, ex, el⟩ | ⟨h, x, hx, nx, ex, cx, el⟩ | ⟨h, x, y, hx, ex, cx, hy, ey, cy, el⟩ | ⟨h, x, y, hx, ex, cx, hy, ey, cy, el⟩ | ⟨h, x, y, hx, ex, cx, hy, ey, cy, el⟩ | ⟨h, x, hx, ex, cx, el⟩ | ⟨h, x, hx, ex, cx, el⟩ | ⟨h, x, y, z, hx, ex, cx, hy, ey, cy, hz, ez, cz, el⟩ | ⟨h, x, hx, ex, cx, el⟩ | ⟨h, x, hx, ex, cx, el⟩ | ⟨h, x, y, z, hx, ex, cx, hy, ey, cy, hz, ez, cz, el⟩ | ⟨h, x, hx, ex, cx, el⟩
    · rw [h] at h4; exact absurd h4 (by decide)
    · rw [h] at h4; exact absurd h4 (by decide)
    · rw [h] at h4; exact absurd h4 (by decide)
    · rw [h] at h4; exact absurd h4 (by decide)
    · have hv : vb n = (T n).2 := by rw [hTn]; simp [sg_F, h, ex, sg_m1n]
      exact ⟨i, nm_r hV ⟨i, br_t h ⟨i, br_t (by rw [ex]; decide) (sx_lc61 (by omega) hc hV hp0 hp1 hv)⟩⟩⟩
    · have hxD := hD x (by rw [el]; simp)
      obtain ⟨b1, b2, _⟩ := (hX x hx).2.1 cx
      obtain ⟨b3, b4⟩ := b2 hxD
      have hx0 : ¬ nI x < 0 := nI_pos (by omega)
      have ix : vp_in (nI x) 24 := sg_i24 hx hN
      rw [ex, q x (by omega)]
      refine ⟨i, nm_r hV ⟨i, br_t h ⟨i, br_f hx0 ⟨i, sx_has (by omega) (fun b => br_t rfl ?_) (fun b => br_f sg_10 ⟨i, ix, nm_e ?_⟩)⟩⟩⟩⟩
      · have hv : vb n = (T n).2 := by rw [b3] at b; rw [hTn]; simp [sg_F, h, ex, q x (by omega), b]
        exact sx_lc61 (by omega) hc hV hp0 hp1 hv
      · have hv : V x = (T n).2 := by rw [b3] at b; rw [b4 b, hTn]; simp [sg_F, h, ex, q x (by omega), b, hx0]
        exact sx_lc61 (by omega) hc hV hp0 hp1 hv
    all_goals (rw [h] at h4; exact absurd h4 (by decide))
  · have hv : sg_mk K A B C (fun p => (T p).2) n = (T n).2 := by
      rw [hTn]
      rcases sg_view hW hN hn with ⟨h, el⟩ | ⟨h, x, hx, ex, cx, el⟩ | ⟨h, x, hx, ex, cx, el⟩ | ⟨h, x, y, hx, ex, cx, hy, ey, cy, el⟩ | ⟨h, ex, el⟩ | ⟨h, x, hx, nx, ex, cx, el⟩ | ⟨h, x, y, hx, ex, cx, hy, ey, cy, el⟩ | ⟨h, x, y, hx, ex, cx, hy, ey, cy, el⟩ | ⟨h, x, y, hx, ex, cx, hy, ey, cy, el⟩ | ⟨h, x, hx, ex, cx, el⟩ | ⟨h, x, hx, ex, cx, el⟩ | ⟨h, x, y, z, hx, ex, cx, hy, ey, cy, hz, ez, cz, el⟩ | ⟨h, x, hx, ex, cx, el⟩ | ⟨h, x, hx, ex, cx, el⟩ | ⟨h, x, y, z, hx, ex, cx, hy, ey, cy, hz, ez, cz, el⟩ | ⟨h, x, hx, ex, cx, el⟩ <;> first | (rw [h] at hc; exact absurd hc (by decide)) | (exact absurd h h4) | simp [sg_mk, sg_F, h]
    unfold wpX_lookAtCell
    simp only [e]
    refine ⟨i, nm_r hV ⟨i, br_f h4 (sx_combined (c := fun p => (T p).2) hW hN hn hc h4 (fun p hp post' hpost => ?_) (sx_lc61 (by omega) hc hV hp0 hp1 hv))⟩⟩
    have hpN := sg_pl_lt hW hN hn hp
    have hpc : sg_cell (K p) = true := by
      rcases sg_view hW hN hn with ⟨h, el⟩ | ⟨h, x, hx, ex, cx, el⟩ | ⟨h, x, hx, ex, cx, el⟩ | ⟨h, x, y, hx, ex, cx, hy, ey, cy, el⟩ | ⟨h, ex, el⟩ | ⟨h, x, hx, nx, ex, cx, el⟩ | ⟨h, x, y, hx, ex, cx, hy, ey, cy, el⟩ | ⟨h, x, y, hx, ex, cx, hy, ey, cy, el⟩ | ⟨h, x, y, hx, ex, cx, hy, ey, cy, el⟩ | ⟨h, x, hx, ex, cx, el⟩ | ⟨h, x, hx, ex, cx, el⟩ | ⟨h, x, y, z, hx, ex, cx, hy, ey, cy, hz, ez, cz, el⟩ | ⟨h, x, hx, ex, cx, el⟩ | ⟨h, x, hx, ex, cx, el⟩ | ⟨h, x, y, z, hx, ex, cx, hy, ey, cy, hz, ez, cz, el⟩ | ⟨h, x, hx, ex, cx, el⟩ <;> first | (rw [h] at hc; exact absurd hc (by decide)) | (exact absurd h h4) | (rw [el] at hp; simp only [List.mem_cons, List.not_mem_nil, or_false] at hp; rcases hp with rfl | rfl | rfl <;> assumption) | (rw [el] at hp; simp only [List.mem_cons, List.not_mem_nil, or_false] at hp; rcases hp with rfl | rfl <;> assumption) | (rw [el] at hp; simp only [List.mem_cons, List.not_mem_nil, or_false] at hp; subst hp; assumption)
    obtain ⟨b1, _, b2, _⟩ := (hX p hpN).1 hpc
    obtain ⟨b3, b4⟩ := b2 (hD p hp)
    refine sx_cv1 (by omega) (fun b => ?_) (fun b => ?_)
    · rw [b3] at b
      have : (T p).2 = vb p := by simpa [sg_tl, hpc] using b
      rw [b1, ← this]
      exact hpost
    · rw [b3] at b
      rw [b4 b]
      exact hpost
theorem sx_give {n : Nat} (hn : n < 24) {v : Int32} {post : Int32 → SX → Prop} (h : post 1 (nI N, far, fh ||| ((1 : Int32) <<< (nI n &&& 31)), fc, fk, fo, ft, fl, fw, K, A, B, C, H, U, upd V n v, Q, G, M)) : wpX_give post (nI N, far, fh, fc, fk, fo, ft, fl, fw, K, A, B, C, H, U, V, Q, G, M) (nI n) v := by
  have e : (nI n).toNatClampNeg = n := sg_cl (by omega)
  unfold wpX_give
  simp only [e]
  exact nm_e ⟨vp_in_nI hn (by omega), nm_e h⟩
/-- an event without a value has 0 in the target -/
theorem sg_T0 (hW : sg_WF K A B C N) (hN : N ≤ 24) (hT : ∀ n, n < N → T n = sg_F K A B C vb kp kg n T) {n : Nat} (hn : n < N) (hc : sg_cell (K n) = false) (h0 : (T n).1 = false) : (T n).2 = 0 := by
  have g0 : ∀ b v, T n = sg_g b v → (T n).2 = 0 := by
    intro b v hg
    have hb := sg_g1 hg
    rw [h0] at hb
    rw [hg, ← hb]
    rfl
  have hTn := hT n hn
  rcases sg_view hW hN hn with ⟨h, el⟩ | ⟨h, x, hx, ex, cx, el⟩ | ⟨h, x, hx, ex, cx, el⟩ | ⟨h, x, y, hx, ex, cx, hy, ey, cy, el⟩ | ⟨h, ex, el⟩ | ⟨h, x, hx, nx, ex, cx, el⟩ | ⟨h, x, y, hx, ex, cx, hy, ey, cy, el⟩ | ⟨h, x, y, hx, ex, cx, hy, ey, cy, el⟩ | ⟨h, x, y, hx, ex, cx, hy, ey, cy, el⟩ | ⟨h, x, hx, ex, cx, el⟩ | ⟨h, x, hx, ex, cx, el⟩ | ⟨h, x, y, z, hx, ex, cx, hy, ey, cy, hz, ez, cz, el⟩ | ⟨h, x, hx, ex, cx, el⟩ | ⟨h, x, hx, ex, cx, el⟩ | ⟨h, x, y, z, hx, ex, cx, hy, ey, cy, hz, ez, cz, el⟩ | ⟨h, x, hx, ex, cx, el⟩ <;> first | (exfalso; rw [h] at hc; exact absurd hc (by decide)) | skip
  · exact g0 (kp n) (kg n) (by rw [hTn]; simp [sg_F, h])
  · exact g0 _ _ (hTn.trans (by simp [sg_F, h]; rfl))
  · exact g0 _ _ (hTn.trans (by simp [sg_F, h]; rfl))
  · exact g0 _ _ (hTn.trans (by simp [sg_F, h]; rfl))
  · exact g0 _ _ (hTn.trans (by simp [sg_F, h]; rfl))
  · exact g0 _ _ (hTn.trans (by simp [sg_F, h]; rfl))
  · exact g0 _ _ (hTn.trans (by simp [sg_F, h]; rfl))
  · exact g0 _ _ (hTn.trans (by simp [sg_F, h]; rfl))
  · by_cases v0 : vb (A n).toNatClampNeg = 0
    · exact g0 _ _ (hTn.trans (by simp [sg_F, h, v0]; rfl))
    · exact g0 _ _ (hTn.trans (by simp [sg_F, h, v0]; rfl))
  · exact g0 (kp n) (kg n) (by rw [hTn]; simp [sg_F, h])
  · exact g0 _ _ (hTn.trans (by simp [sg_F, h]; rfl))
theorem sx_merge {n x y : Nat} (hn : n < 24) (hx : x < 24) (hy : y < 24) (hb : bt fh x = (T x).1) (hb2 : bt fh y = (T y).1) (hv : (T x).1 = true → V x = (T x).2) (hv2 : (T y).1 = true → V y = (T y).2) (hz : (T x).1 = false → (T x).2 = 0) (hz2 : (T y).1 = false → (T y).2 = 0) {post : Int32 → SX → Prop} (hp0 : ((T x).1 || (T y).1) = false → post 0 (nI N, far, fh, fc, fk, fo, ft, fl, fw, K, A, B, C, H, U, V, Q, G, M)) (hp1 : ((T x).1 || (T y).1) = true → ∀ v, v = (T x).2 + (T y).2 → post 1 (nI N, far, fh ||| ((1 : Int32) <<< (nI n &&& 31)), fc, fk, fo, ft, fl, fw, K, A, B, C, H, U, upd V n v, Q, G, M)) : wpX_merge post (nI N, far, fh, fc, fk, fo, ft, fl, fw, K, A, B, C, H, U, V, Q, G, M) (nI n) (nI x) (nI y) := by
  have ex : (nI x).toNatClampNeg = x := sg_cl (by omega)
  have ey : (nI y).toNatClampNeg = y := sg_cl (by omega)
  have ix : vp_in (nI x) 24 := vp_in_nI hx (by omega)
  have iy : vp_in (nI y) 24 := vp_in_nI hy (by omega)
  have m35 : ¬ ((T x).1 = true ∧ (T y).1 = true) → wX_merge_35 post (nI n) (nI x) (nI y) (nI N) far fh fc fk fo ft fl fw K A B C H U V Q G M := by
    intro hnb
    unfold wX_merge_35
    simp only [ex, ey]
    refine sx_has (by omega) (fun b => br_t rfl (sx_has (by omega) (fun c => br_t rfl (hp0 ?_)) (fun c => br_f sg_10 ⟨iy, sx_give hn (br_f sg_10 (hp1 ?_ _ ?_))⟩))) (fun b => br_f sg_10 ⟨ix, sx_give hn ⟨sg_nw1, hp1 ?_ _ ?_⟩⟩)
    · rw [← hb, ← hb2, b, c]; rfl
    · rw [← hb, ← hb2, b, c]; rfl
    · rw [hv2 (by rw [← hb2]; exact c), hz (by rw [← hb]; exact b), Int32.zero_add]
    · rw [← hb, b]; rfl
    · have z2 : (T y).1 = false := sg_nt (fun z => hnb ⟨by rw [← hb]; exact b, z⟩)
      rw [hv (by rw [← hb]; exact b), hz2 z2, Int32.add_zero]
  unfold wpX_merge
  simp only [ex, ey]
  refine sx_has (by omega) (fun b => br_t rfl (m35 ?_)) (fun b => br_f sg_10 (sx_has (by omega) (fun c => br_t rfl (m35 ?_)) (fun c => br_f sg_10 ⟨ix, iy, sx_give hn ⟨sg_nw1, hp1 ?_ _ ?_⟩⟩)))
  · rintro ⟨z, _⟩
    rw [← hb, b] at z
    exact absurd z (by decide)
  · rintro ⟨_, z⟩
    rw [← hb2, c] at z
    exact absurd z (by decide)
  · rw [← hb, b]; rfl
  · rw [hv (by rw [← hb]; exact b), hv2 (by rw [← hb2]; exact c)]
/-- what the parts of an event tell, and what is kept -/
theorem sx_lookAtEvent (hW : sg_WF K A B C N) (hN : N ≤ 24) (hT : ∀ n, n < N → T n = sg_F K A B C vb kp kg n T) {D : Nat → Prop} (hX : sg_XI K A B C vb kp N T D fh fc fw V Q) (hK : sg_XK K kp kg N fk fo G) {n : Nat} (hn : n < N) (hc : sg_cell (K n) = false) (hD : ∀ p, p ∈ sg_pl K A B C n → D p) {fw' : Int32} {post : Int32 → SX → Prop} (hp0 : (T n).1 = false → post 0 (nI N, far, fh, fc, fk, fo, ft, fl, fw', K, A, B, C, H, U, V, Q, G, M)) (hp1 : (T n).1 = true → post 1 (nI N, far, fh ||| ((1 : Int32) <<< (nI n &&& 31)), fc, fk, fo, ft, fl, fw', K, A, B, C, H, U, upd V n (T n).2, Q, G, M)) : wpX_lookAtEvent post (nI N, far, fh, fc, fk, fo, ft, fl, fw', K, A, B, C, H, U, V, Q, G, M) (nI n) := by
  have e : (nI n).toNatClampNeg = n := sg_cl (by omega)
  have i := sg_i24 hn hN
  have i24 : n < 24 := by omega
  have q : ∀ x, x < n → (nI x).toNatClampNeg = x := fun x hx => sg_cl (by omega)
  have hTn := hT n hn
  have P1 : (T n).1 = true → ∀ v, v = (T n).2 → post 1 (nI N, far, fh ||| ((1 : Int32) <<< (nI n &&& 31)), fc, fk, fo, ft, fl, fw', K, A, B, C, H, U, upd V n v, Q, G, M) := fun hb v ev => ev ▸ hp1 hb
  have hE : ∀ p, p < n → p ∈ sg_pl K A B C n → sg_cell (K p) = false → bt fh p = (T p).1 ∧ ((T p).1 = true → V p = (T p).2) := by
    intro p hpn hp hpc
    exact ((hX p (by omega)).2.1 hpc).2.1 (hD p hp)
  have hV : ∀ p, p < n → sg_cell (K p) = true → V p = vb p := by
    intro p hpn hpc
    exact ((hX p (by omega)).1 hpc).1
  have hZ : ∀ p, p < N → sg_cell (K p) = false → (T p).1 = false → (T p).2 = 0 := fun p hp hpc h0 => sg_T0 hW hN hT hp hpc h0
  obtain ⟨k0, k8, k12⟩ := hK n hn
  unfold wpX_lookAtEvent
  simp only [e]
  rcases sg_view hW hN hn with ⟨h, el⟩ | ⟨h, x, hx, ex, cx, el⟩ | ⟨h, x, hx, ex, cx, el⟩ | ⟨h, x, y, hx, ex, cx, hy, ey, cy, el⟩ | ⟨h, ex, el⟩ | ⟨h, x, hx, nx, ex, cx, el⟩ | ⟨h, x, y, hx, ex, cx, hy, ey, cy, el⟩ | ⟨h, x, y, hx, ex, cx, hy, ey, cy, el⟩ | ⟨h, x, y, hx, ex, cx, hy, ey, cy, el⟩ | ⟨h, x, hx, ex, cx, el⟩ | ⟨h, x, hx, ex, cx, el⟩ | ⟨h, x, y, z, hx, ex, cx, hy, ey, cy, hz, ez, cz, el⟩ | ⟨h, x, hx, ex, cx, el⟩ | ⟨h, x, hx, ex, cx, el⟩ | ⟨h, x, y, z, hx, ex, cx, hy, ey, cy, hz, ez, cz, el⟩ | ⟨h, x, hx, ex, cx, el⟩
  · -- kind 0
    have b0 := k0 (Or.inl h)
    have hF : T n = sg_g (kp n) (kg n) := by rw [hTn]; simp [sg_F, h]
    refine ⟨i, nm_r h ⟨i, nm_e (br_t rfl (?_))⟩⟩
    unfold wX_lookAtEvent_24
    simp only [e]
    refine sg_bz (by omega) (fun b => hp0 ?_) (fun b => ⟨i, sx_give i24 (br_f sg_10 (P1 ?_ _ ?_))⟩)
    · rw [sg_g1 hF, ← b0.1]; exact b
    · rw [sg_g1 hF, ← b0.1]; exact b
    · rw [b0.2 (by rw [← b0.1]; exact b)]; exact sg_g2 hF (by rw [sg_g1 hF, ← b0.1]; exact b)
  · -- kind 1
    obtain ⟨hb, hv⟩ := hE x hx (by rw [el]; simp) cx
    have ix : vp_in (nI x) 24 := sg_i24 (show x < N by omega) hN
    have hF : T n = sg_g (T x).1 ((T x).2 * B n + C n) := by rw [hTn]; simp [sg_F, h, ex, q x hx]
    refine ⟨i, nm_r h ⟨i, nm_r ex (br_f (by decide) (br_f (by decide) (br_f (by decide) (br_f (by decide) (br_f (by decide) (sx_has (by omega) (fun b => br_t rfl (hp0 ?_)) (fun b => br_f sg_10 ?_)))))))⟩⟩
    · rw [sg_g1 hF, ← hb, b]
    · rw [hb] at b
      refine ⟨ix, nm_r (e' := (T x).2) (by rw [q x hx]; exact hv b) (br_t rfl (?_))⟩
      exact ⟨i, i, sx_give i24 ⟨sg_nw1, P1 (by rw [sg_g1 hF]; exact b) _ (sg_g2 hF (by rw [sg_g1 hF]; exact b))⟩⟩
  · -- kind 2
    obtain ⟨hb, hv⟩ := hE x hx (by rw [el]; simp) cx
    have ix : vp_in (nI x) 24 := sg_i24 (show x < N by omega) hN
    have hF : T n = sg_g ((T x).1 && !decide ((T x).2 < B n)) (T x).2 := by rw [hTn]; simp [sg_F, h, ex, q x hx]
    refine ⟨i, nm_r h ⟨i, nm_r ex (br_f (by decide) (br_f (by decide) (br_f (by decide) (br_f (by decide) (br_f (by decide) (sx_has (by omega) (fun b => br_t rfl (hp0 ?_)) (fun b => br_f sg_10 ?_)))))))⟩⟩
    · rw [sg_g1 hF, ← hb, b]; rfl
    · rw [hb] at b
      refine ⟨ix, nm_r (e' := (T x).2) (by rw [q x hx]; exact hv b) (br_f (by decide) (br_t rfl (?_)))⟩
      refine ⟨i, ?_⟩
      by_cases z : (T x).2 < B n
      · exact br_t z (hp0 (by rw [sg_g1 hF]; simp [z]))
      · exact br_f z (sx_give i24 (br_f sg_10 (P1 (by rw [sg_g1 hF]; simp [z, b]) _ (sg_g2 hF (by rw [sg_g1 hF]; simp [z, b])))))
  · -- kind 3
    obtain ⟨hb, hv⟩ := hE x hx (by rw [el]; simp) cx
    obtain ⟨hb2, hv2⟩ := hE y hy (by rw [el]; simp) cy
    have ix : vp_in (nI x) 24 := sg_i24 (show x < N by omega) hN
    have iy : vp_in (nI y) 24 := sg_i24 (show y < N by omega) hN
    have hF : T n = sg_g ((T x).1 || (T y).1) ((T x).2 + (T y).2) := by rw [hTn]; simp [sg_F, h, ex, ey, q x hx, q y hy]
    refine ⟨i, nm_r h ⟨i, nm_r ex (br_f (by decide) (br_f (by decide) (br_f (by decide) (br_f (by decide) (br_t rfl (⟨i, ?_⟩))))))⟩⟩
    rw [ey]
    exact sx_merge i24 (by omega) (by omega) hb hb2 hv hv2 (hZ x (by omega) cx) (hZ y (by omega) cy) (fun z => ⟨sg_nw0, hp0 (by rw [sg_g1 hF]; exact z)⟩) (fun z v ev => ⟨sg_nw1, P1 (by rw [sg_g1 hF]; exact z) v (ev.trans (sg_g2 hF (by rw [sg_g1 hF]; exact z)))⟩)
  · rw [h] at hc; exact absurd hc (by decide)
  · rw [h] at hc; exact absurd hc (by decide)
  · -- kind 5
    obtain ⟨hb, hv⟩ := hE x hx (by rw [el]; simp) cx
    have ix : vp_in (nI x) 24 := sg_i24 (show x < N by omega) hN
    have hF : T n = sg_g (T x).1 ((T x).2 + vb y) := by rw [hTn]; simp [sg_F, h, ex, q x hx, ey, q y hy]
    refine ⟨i, nm_r h ⟨i, nm_r ex (br_f (by decide) (br_f (by decide) (br_f (by decide) (br_f (by decide) (br_f (by decide) (sx_has (by omega) (fun b => br_t rfl (hp0 ?_)) (fun b => br_f sg_10 ?_)))))))⟩⟩
    · rw [sg_g1 hF, ← hb, b]
    · rw [hb] at b
      refine ⟨ix, nm_r (e' := (T x).2) (by rw [q x hx]; exact hv b) (br_f (by decide) (br_f (by decide) (br_t rfl (?_))))⟩
      have iy : vp_in (nI y) 24 := sg_i24 (show y < N by omega) hN
      rw [ey, q y hy, hV y hy cy]
      exact ⟨i, iy, sx_give i24 ⟨sg_nw1, P1 (by rw [sg_g1 hF]; exact b) _ (sg_g2 hF (by rw [sg_g1 hF]; exact b))⟩⟩
  · rw [h] at hc; exact absurd hc (by decide)
  · -- kind 7
    obtain ⟨hb, hv⟩ := hE x hx (by rw [el]; simp) cx
    have ix : vp_in (nI x) 24 := sg_i24 (show x < N by omega) hN
    have hF : T n = sg_g ((T x).1 && !decide (vb y = 0)) (T x).2 := by rw [hTn]; simp [sg_F, h, ex, q x hx, ey, q y hy]
    refine ⟨i, nm_r h ⟨i, nm_r ex (br_f (by decide) (br_f (by decide) (br_f (by decide) (br_f (by decide) (br_f (by decide) (sx_has (by omega) (fun b => br_t rfl (hp0 ?_)) (fun b => br_f sg_10 ?_)))))))⟩⟩
    · rw [sg_g1 hF, ← hb, b]; rfl
    · rw [hb] at b
      refine ⟨ix, nm_r (e' := (T x).2) (by rw [q x hx]; exact hv b) (br_f (by decide) (br_f (by decide) (br_f (by decide) (br_t rfl (?_)))))⟩
      have iy : vp_in (nI y) 24 := sg_i24 (show y < N by omega) hN
      rw [ey, q y hy, hV y hy cy]
      refine ⟨i, iy, ?_⟩
      by_cases z : vb y = 0
      · exact br_t z (hp0 (by rw [sg_g1 hF]; simp [z]))
      · exact br_f z (sx_give i24 (br_f sg_10 (P1 (by rw [sg_g1 hF]; simp [z, b]) _ (sg_g2 hF (by rw [sg_g1 hF]; simp [z, b])))))
  · -- kind 8
    obtain ⟨hb, hv⟩ := hE x hx (by rw [el]; simp) cx
    have ix : vp_in (nI x) 24 := sg_i24 (show x < N by omega) hN
    have hF : T n = sg_g (T x).1 (kg n + (T x).2) := by rw [hTn]; simp [sg_F, h, ex, q x hx]
    refine ⟨i, nm_r h ⟨i, nm_r ex (br_f (by decide) (br_f (by decide) (br_f (by decide) (br_f (by decide) (br_f (by decide) (sx_has (by omega) (fun b => br_t rfl (hp0 ?_)) (fun b => br_f sg_10 ?_)))))))⟩⟩
    · rw [sg_g1 hF, ← hb, b]
    · rw [hb] at b
      refine ⟨ix, nm_r (e' := (T x).2) (by rw [q x hx]; exact hv b) (br_f (by decide) (br_f (by decide) (br_f (by decide) (br_f (by decide) (br_t rfl (?_))))))⟩
      rw [k8 h]
      exact ⟨i, sx_give i24 ⟨sg_nw1, P1 (by rw [sg_g1 hF]; exact b) _ (sg_g2 hF (by rw [sg_g1 hF]; exact b))⟩⟩
  · -- kind 9
    have ix : vp_in (nI x) 24 := sg_i24 (show x < N by omega) hN
    obtain ⟨_, _, hx1, _⟩ := (hX x (by omega)).1 cx
    obtain ⟨hb, hv⟩ := hx1 (hD x (by rw [el]; simp))
    have hF : T n = sg_g (!decide ((T x).2 = vb x)) (T x).2 := by rw [hTn]; simp [sg_F, h, ex, q x hx]
    have ht : sg_tl K vb T x = !decide ((T x).2 = vb x) := by simp [sg_tl, cx]
    rw [ht] at hb hv
    refine ⟨i, nm_r h ⟨i, nm_r ex (br_f (by decide) (br_f (by decide) (br_t rfl (sg_bz (by omega) (fun b => hp0 ?_) (fun b => ⟨ix, ?_⟩)))))⟩⟩
    · rw [sg_g1 hF, ← hb]; exact b
    · rw [q x hx, hv (by rw [← hb]; exact b)]
      exact sx_give i24 (br_f sg_10 (P1 (by rw [sg_g1 hF, ← hb]; exact b) _ (sg_g2 hF (by rw [sg_g1 hF, ← hb]; exact b))))
  · -- kind 10
    obtain ⟨hb, hv⟩ := hE y hy (by rw [el]; simp) cy
    obtain ⟨hb2, hv2⟩ := hE z hz (by rw [el]; simp) cz
    have ix : vp_in (nI x) 24 := sg_i24 (show x < N by omega) hN
    have iy : vp_in (nI y) 24 := sg_i24 (show y < N by omega) hN
    have iz : vp_in (nI z) 24 := sg_i24 (show z < N by omega) hN
    refine ⟨i, nm_r h ⟨i, nm_r ex (br_f (by decide) (br_f (by decide) (br_f (by decide) (br_t rfl (⟨ix, ?_⟩)))))⟩⟩
    rw [q x hx, hV x hx cx, ey, ez]
    by_cases v0 : vb x = 0
    · have hF : T n = sg_g (T z).1 (T z).2 := by rw [hTn]; simp [sg_F, h, ex, ey, ez, q x hx, q z hz, v0]
      refine br_t v0 ⟨i, ?_⟩
      unfold wX_lookAtEvent_122
      rw [q z hz]
      refine sx_has (by omega) (fun b => br_t rfl (hp0 ?_)) (fun b => br_f sg_10 ⟨iz, ?_⟩)
      · rw [sg_g1 hF, ← hb2]; exact b
      · rw [hb2] at b
        rw [hv2 b]
        exact sx_give i24 (br_f sg_10 (P1 (by rw [sg_g1 hF]; exact b) _ (sg_g2 hF (by rw [sg_g1 hF]; exact b))))
    · have hF : T n = sg_g (T y).1 (T y).2 := by rw [hTn]; simp [sg_F, h, ex, ey, ez, q x hx, q y hy, v0]
      refine br_f v0 ⟨i, ?_⟩
      unfold wX_lookAtEvent_122
      rw [q y hy]
      refine sx_has (by omega) (fun b => br_t rfl (hp0 ?_)) (fun b => br_f sg_10 ⟨iy, ?_⟩)
      · rw [sg_g1 hF, ← hb]; exact b
      · rw [hb] at b
        rw [hv b]
        exact sx_give i24 (br_f sg_10 (P1 (by rw [sg_g1 hF]; exact b) _ (sg_g2 hF (by rw [sg_g1 hF]; exact b))))
  · -- kind 11
    have b0 := k0 (Or.inr h)
    have hF : T n = sg_g (kp n) (kg n) := by rw [hTn]; simp [sg_F, h]
    refine ⟨i, nm_r h ⟨i, nm_e (br_f (by decide) (br_t rfl (?_)))⟩⟩
    unfold wX_lookAtEvent_24
    simp only [e]
    refine sg_bz (by omega) (fun b => hp0 ?_) (fun b => ⟨i, sx_give i24 (br_f sg_10 (P1 ?_ _ ?_))⟩)
    · rw [sg_g1 hF, ← b0.1]; exact b
    · rw [sg_g1 hF, ← b0.1]; exact b
    · rw [b0.2 (by rw [← b0.1]; exact b)]; exact sg_g2 hF (by rw [sg_g1 hF, ← b0.1]; exact b)
  · -- kind 12
    obtain ⟨hb, hv⟩ := hE x hx (by rw [el]; simp) cx
    have ix : vp_in (nI x) 24 := sg_i24 (show x < N by omega) hN
    have hF : T n = sg_g ((T x).1 && !kp n) (T x).2 := by rw [hTn]; simp [sg_F, h, ex, q x hx]
    refine ⟨i, nm_r h ⟨i, nm_r ex (br_f (by decide) (br_f (by decide) (br_f (by decide) (br_f (by decide) (br_f (by decide) (sx_has (by omega) (fun b => br_t rfl (hp0 ?_)) (fun b => br_f sg_10 ?_)))))))⟩⟩
    · rw [sg_g1 hF, ← hb, b]; rfl
    · rw [hb] at b
      refine ⟨ix, nm_r (e' := (T x).2) (by rw [q x hx]; exact hv b) (br_f (by decide) (br_f (by decide) (br_f (by decide) (br_f (by decide) (br_f (by decide) (?_))))))⟩
      refine sg_bz (by omega) (fun z => ?_) (fun z => ?_)
      · rw [k12 h] at z
        exact sx_give i24 (br_f sg_10 (P1 (by rw [sg_g1 hF]; simp [z, b]) _ (sg_g2 hF (by rw [sg_g1 hF]; simp [z, b]))))
      · rw [k12 h] at z
        exact hp0 (by rw [sg_g1 hF]; simp [z])
  · rw [h] at hc; exact absurd hc (by decide)
  · rw [h] at hc; exact absurd hc (by decide)
end SXL
end
section
/-! the sweep of a transaction by heights -/
section SXS
variable {N : Nat} {far fh fc fk fo ft fl fw : Int32} {K A B C H U V Q G M vb kg : Nat → Int32} {kp : Nat → Bool} {T : Nat → Bool × Int32}
theorem sg_XI_congr (hW : sg_WF K A B C N) (hN : N ≤ 24) {D D' : Nat → Prop} (h : ∀ m, m < N → (D m ↔ D' m)) (hX : sg_XI K A B C vb kp N T D fh fc fw V Q) : sg_XI K A B C vb kp N T D' fh fc fw V Q := by
  intro m hm
  obtain ⟨h1, h2, h3⟩ := hX m hm
  have hd := h m hm
  refine ⟨fun c => ?_, fun c => ?_, fun d b => ?_⟩
  · obtain ⟨a1, a2, a3, a4⟩ := h1 c
    exact ⟨a1, a2, fun d => a3 (hd.mpr d), fun d => a4 (fun z => d (hd.mp z))⟩
  · obtain ⟨a1, a2, a3⟩ := h2 c
    exact ⟨a1, fun d => a2 (hd.mpr d), fun d => a3 (fun z => d (hd.mp z))⟩
  · obtain ⟨a1, a2⟩ := h3 (fun z => d (hd.mp z)) b
    exact ⟨a1, fun p hp dp => a2 p hp ((h p (sg_pl_lt hW hN hm hp)).mpr dp)⟩
theorem sg_XI_step {D : Nat → Prop} {n : Nat} (hX : sg_XI K A B C vb kp N T D fh fc fw V Q) {fh' fc' fw' : Int32} {V' Q' : Nat → Int32}
    (ho : ∀ m, m < N → m ≠ n → bt fh' m = bt fh m ∧ bt fc' m = bt fc m ∧ V' m = V m ∧ Q' m = Q m)
    (hc : sg_cell (K n) = true → V' n = vb n ∧ bt fh' n = false ∧ bt fc' n = sg_tl K vb T n ∧ (sg_tl K vb T n = true → Q' n = (T n).2))
    (he : sg_cell (K n) = false → bt fc' n = false ∧ bt fh' n = (T n).1 ∧ ((T n).1 = true → V' n = (T n).2))
    (hw : ∀ m, m < N → m ≠ n → bt fw' m = false → bt fw m = false ∧ (sg_tl K vb T n = true → ¬ n ∈ sg_pl K A B C m)) :
    sg_XI K A B C vb kp N T (fun m => D m ∨ m = n) fh' fc' fw' V' Q' := by
  intro m hm
  by_cases z : m = n
  · subst z
    refine ⟨fun c => ?_, fun c => ?_, fun d => absurd (Or.inr rfl) d⟩
    · obtain ⟨a1, a2, a3, a4⟩ := hc c
      exact ⟨a1, a2, fun _ => ⟨a3, a4⟩, fun d => absurd (Or.inr rfl) d⟩
    · obtain ⟨a1, a2, a3⟩ := he c
      exact ⟨a1, fun _ => ⟨a2, a3⟩, fun d => absurd (Or.inr rfl) d⟩
  · obtain ⟨h1, h2, h3⟩ := hX m hm
    obtain ⟨o1, o2, o3, o4⟩ := ho m hm z
    rw [o1, o2, o3, o4]
    have dd : (D m ∨ m = n) → D m := fun d => d.elim id (fun y => absurd y z)
    refine ⟨fun c => ?_, fun c => ?_, fun d b => ?_⟩
    · obtain ⟨a1, a2, a3, a4⟩ := h1 c
      exact ⟨a1, a2, fun d => a3 (dd d), fun d => a4 (fun y => d (Or.inl y))⟩
    · obtain ⟨a1, a2, a3⟩ := h2 c
      exact ⟨a1, fun d => a2 (dd d), fun d => a3 (fun y => d (Or.inl y))⟩
    · obtain ⟨w1, w2⟩ := hw m hm z b
      obtain ⟨a1, a2⟩ := h3 (fun y => d (Or.inl y)) w1
      refine ⟨a1, fun p hp dp => ?_⟩
      rcases dp with dp | dp
      · exact a2 p hp dp
      · subst dp
        exact sg_nt (fun t => w2 t hp)
theorem sx_look (hW : sg_WF K A B C N) (hN : N ≤ 24) (hT : ∀ n, n < N → T n = sg_F K A B C vb kp kg n T) (hK : sg_XK K kp kg N fk fo G) (hU : ∀ p, p < N → ∀ m, m < N → (bt (U p) m = true ↔ p ∈ sg_pl K A B C m)) {D : Nat → Prop} (hX : sg_XI K A B C vb kp N T D fh fc fw V Q) {n : Nat} (hn : n < N) (hDn : ¬ D n) (hD : ∀ p, p ∈ sg_pl K A B C n → D p) {post : SX → Prop} (hp : ∀ fh fc fw V Q, sg_XI K A B C vb kp N T (fun m => D m ∨ m = n) fh fc fw V Q → post (nI N, far, fh, fc, fk, fo, ft, fl, fw, K, A, B, C, H, U, V, Q, G, M)) : wpX_look post (nI N, far, fh, fc, fk, fo, ft, fl, fw, K, A, B, C, H, U, V, Q, G, M) (nI n) := by
  have e : (nI n).toNatClampNeg = n := sg_cl (by omega)
  have i := sg_i24 hn hN
  have cl : ∀ m, m < N → m ≠ n → bt (fw &&& (((1 : Int32) <<< (nI n &&& 31)) ^^^ (-1))) m = bt fw m := by
    intro m hm z
    rw [sg_clr (by omega) (by omega)]
    simp [z]
  have w0 : ∀ m, m < N → m ≠ n → sg_tl K vb T n = false → bt (fw &&& (((1 : Int32) <<< (nI n &&& 31)) ^^^ (-1))) m = false → bt fw m = false ∧ (sg_tl K vb T n = true → ¬ n ∈ sg_pl K A B C m) := by
    intro m hm z t b
    rw [cl m hm z] at b
    exact ⟨b, fun t' => absurd (t.symm.trans t') (by decide)⟩
  have w1 : ∀ m, m < N → m ≠ n → bt ((fw &&& (((1 : Int32) <<< (nI n &&& 31)) ^^^ (-1))) ||| U n) m = false → bt fw m = false ∧ (sg_tl K vb T n = true → ¬ n ∈ sg_pl K A B C m) := by
    intro m hm z b
    rw [b_or, cl m hm z, Bool.or_eq_false_iff] at b
    refine ⟨b.1, fun _ hm' => ?_⟩
    rw [(hU n hn m hm).mpr hm'] at b
    exact absurd b.2 (by decide)
  obtain ⟨x1, x2, x3⟩ := hX n hn
  unfold wpX_look
  simp only [e]
  refine nm_e ⟨i, sx_ck (fun c => br_f sg_10 (sx_lookAtCell hW hN hT hX hn c hD (fun t => br_t rfl ?_) (fun t => br_f sg_10 ?_))) (fun c => br_t rfl (sx_lookAtEvent hW hN hT hX hK hn c hD (fun t => br_t rfl ?_) (fun t => br_f sg_10 ?_)))⟩
  · obtain ⟨a1, a2, a3, a4⟩ := x1 c
    refine hp _ _ _ _ _ (sg_XI_step hX (fun m hm z => ⟨rfl, rfl, rfl, rfl⟩) (fun _ => ⟨a1, a2, by rw [a4 hDn, t], fun t' => absurd (t.symm.trans t') (by decide)⟩) (fun c' => absurd (c.symm.trans c') (by decide)) (fun m hm z b => w0 m hm z t b))
  · obtain ⟨a1, a2, a3, a4⟩ := x1 c
    rw [e]
    refine ⟨i, nm_e (hp _ _ _ _ _ (sg_XI_step hX (fun m hm z => ⟨rfl, ?_, rfl, pk_un z⟩) (fun _ => ⟨a1, a2, ?_, fun _ => pk_us⟩) (fun c' => absurd (c.symm.trans c') (by decide)) (fun m hm z b => w1 m hm z b)))⟩
    · rw [sg_or (by omega) (by omega)]
      simp [z]
    · rw [sg_or (by omega) (by omega), t]
      simp
  · obtain ⟨a1, a2, a3⟩ := x2 c
    have t' : sg_tl K vb T n = false := by simp [sg_tl, c, t]
    refine hp _ _ _ _ _ (sg_XI_step hX (fun m hm z => ⟨rfl, rfl, rfl, rfl⟩) (fun c' => absurd (c.symm.trans c') (by decide)) (fun _ => ⟨a1, by rw [a3 hDn, t], fun t' => absurd (t.symm.trans t') (by decide)⟩) (fun m hm z b => w0 m hm z t' b))
  · obtain ⟨a1, a2, a3⟩ := x2 c
    rw [e]
    refine ⟨i, nm_e (hp _ _ _ _ _ (sg_XI_step hX (fun m hm z => ⟨?_, rfl, pk_un z, rfl⟩) (fun c' => absurd (c.symm.trans c') (by decide)) (fun _ => ⟨a1, ?_, fun _ => pk_us⟩) (fun m hm z b => w1 m hm z b)))⟩
    · rw [sg_or (by omega) (by omega)]
      simp [z]
    · rw [sg_or (by omega) (by omega), t]
      simp
def sg_Ds (hh : Nat → Nat) (l i m : Nat) : Prop := hh m < l ∨ (hh m = l ∧ m < i)
theorem sx_c100 (hW : sg_WF K A B C N) (hN : N ≤ 24) (hT : ∀ n, n < N → T n = sg_F K A B C vb kp kg n T) (hC : sg_CI K A B C vb N) (hK : sg_XK K kp kg N fk fo G) {hh : Nat → Nat} (hH : ∀ m, m < N → H m = nI (hh m) ∧ hh m < 24 ∧ ∀ p, p ∈ sg_pl K A B C m → hh p < hh m) (hU : ∀ p, p < N → ∀ m, m < N → (bt (U p) m = true ↔ p ∈ sg_pl K A B C m)) {l : Nat} (hl : l < 24) {post : Int32 → SX → Prop} {J : Int32 → Int32 → Int32 → Int32 → Int32 → Int32 → Int32 → Int32 → Int32 → Int32 → (Nat → Int32) → (Nat → Int32) → (Nat → Int32) → (Nat → Int32) → (Nat → Int32) → (Nat → Int32) → (Nat → Int32) → (Nat → Int32) → (Nat → Int32) → (Nat → Int32) → Prop}
    (hJ : ∀ fh fc fw V Q, sg_XI K A B C vb kp N T (sg_Ds hh (l + 1) 0) fh fc fw V Q → J (nI (l + 1)) (nI N) far fh fc fk fo ft fl fw K A B C H U V Q G M) :
    ∀ d i, i + d = N → ∀ m, d < m → ∀ fh fc fw V Q, sg_XI K A B C vb kp N T (sg_Ds hh l i) fh fc fw V Q → wX_commit_100 post J (nI l) m (nI i) (nI N) far fh fc fk fo ft fl fw K A B C H U V Q G M := by
  intro d
  induction d with
  | zero =>
    intro i hi m hm fh fc fw V Q hX
    obtain ⟨m, rfl⟩ : ∃ m', m = m' + 1 := ⟨m - 1, by omega⟩
    have e : i = N := by omega
    subst e
    refine br_t (nI_le (Nat.le_refl _) (by omega)) (nm_r (nI_1 l) (hJ fh fc fw V Q (sg_XI_congr hW hN (fun m hm => ?_) hX)))
    unfold sg_Ds
    omega
  | succ d ih =>
    intro i hi m hm fh fc fw V Q hX
    obtain ⟨m, rfl⟩ : ∃ m', m = m' + 1 := ⟨m - 1, by omega⟩
    have hi' : i < N := by omega
    have qi := sg_i24 hi' hN
    have ei : (nI i).toNatClampNeg = i := sg_cl (by omega)
    obtain ⟨h1, h2, h3⟩ := hH i hi'
    have heq : H (nI i).toNatClampNeg = nI l ↔ hh i = l := by
      rw [ei, h1, nI_eq (by omega) (by omega)]
    have hnD : hh i = l → ¬ sg_Ds hh l i i := by
      unfold sg_Ds
      omega
    have hpD : hh i = l → ∀ p, p ∈ sg_pl K A B C i → sg_Ds hh l i p := by
      intro z p hp
      have := h3 p hp
      unfold sg_Ds
      omega
    have hstep : hh i = l → ∀ k, k < N → ((sg_Ds hh l i k ∨ k = i) ↔ sg_Ds hh l (i + 1) k) := by
      intro z k hk
      unfold sg_Ds
      by_cases y : k = i
      · subst y
        omega
      · omega
    have hsame : hh i ≠ l → ∀ k, k < N → (sg_Ds hh l i k ↔ sg_Ds hh l (i + 1) k) := by
      intro z k hk
      unfold sg_Ds
      by_cases y : k = i
      · subst y
        omega
      · omega
    refine br_f (nI_ge hi' (by omega)) (sg_bz (by omega) (fun b => ?_) (fun b => ⟨qi, ?_⟩))
    · refine nm_r (nI_1 i) (ih (i + 1) (by omega) m (by omega) fh fc fw V Q ?_)
      by_cases z : hh i = l
      · obtain ⟨x1, x2, x3⟩ := hX i hi'
        obtain ⟨s1, s2⟩ := x3 (hnD z) b
        have tq : sg_tl K vb T i = false := sg_quiet hW hN hi' hC (hT i hi') s1 (fun p hp => s2 p hp (hpD z p hp))
        refine sg_XI_congr hW hN (hstep z) (sg_XI_step hX (fun m hm z => ⟨rfl, rfl, rfl, rfl⟩) (fun c => ?_) (fun c => ?_) (fun m hm z b => ⟨b, fun t' => absurd (tq.symm.trans t') (by decide)⟩))
        · obtain ⟨a1, a2, a3, a4⟩ := x1 c
          exact ⟨a1, a2, by rw [a4 (hnD z), tq], fun t' => absurd (tq.symm.trans t') (by decide)⟩
        · obtain ⟨a1, a2, a3⟩ := x2 c
          have t1 : (T i).1 = false := by simpa [sg_tl, c] using tq
          exact ⟨a1, by rw [a3 (hnD z), t1], fun t' => absurd (t1.symm.trans t') (by decide)⟩
      · exact sg_XI_congr hW hN (hsame z) hX
    · by_cases z : hh i = l
      · refine br_t (heq.mpr z) (sx_look hW hN hT hK hU hX hi' (hnD z) (hpD z) (fun fh fc fw V Q hX' => nm_r (nI_1 i) (ih (i + 1) (by omega) m (by omega) fh fc fw V Q (sg_XI_congr hW hN (hstep z) hX'))))
      · exact br_f (fun y => z (heq.mp y)) (nm_r (nI_1 i) (ih (i + 1) (by omega) m (by omega) fh fc fw V Q (sg_XI_congr hW hN (hsame z) hX)))
theorem sg_XI_idle (hW : sg_WF K A B C N) (hN : N ≤ 24) (hT : ∀ n, n < N → T n = sg_F K A B C vb kp kg n T) (hC : sg_CI K A B C vb N) {hh : Nat → Nat} (hH : ∀ m, m < N → ∀ p, p ∈ sg_pl K A B C m → hh p < hh m) {D : Nat → Prop} (hX : sg_XI K A B C vb kp N T D fh fc 0 V Q) : sg_XI K A B C vb kp N T (fun _ => True) fh fc 0 V Q := by
  have key : ∀ h m, m < N → hh m ≤ h → ¬ D m → sg_tl K vb T m = false := by
    intro h
    induction h with
    | zero =>
      intro m hm hz hD
      obtain ⟨s1, s2⟩ := (hX m hm).2.2 hD (b_0 m)
      refine sg_quiet hW hN hm hC (hT m hm) s1 (fun p hp => ?_)
      have := hH m hm p hp
      omega
    | succ h ih =>
      intro m hm hz hD
      obtain ⟨s1, s2⟩ := (hX m hm).2.2 hD (b_0 m)
      refine sg_quiet hW hN hm hC (hT m hm) s1 (fun p hp => ?_)
      have h1 := hH m hm p hp
      by_cases y : D p
      · exact s2 p hp y
      · exact ih p (sg_pl_lt hW hN hm hp) (by omega) y
  intro m hm
  obtain ⟨x1, x2, x3⟩ := hX m hm
  refine ⟨fun c => ?_, fun c => ?_, fun d => absurd trivial d⟩
  · obtain ⟨a1, a2, a3, a4⟩ := x1 c
    refine ⟨a1, a2, fun _ => ?_, fun d => absurd trivial d⟩
    by_cases y : D m
    · exact a3 y
    · have tq := key (hh m) m hm (Nat.le_refl _) y
      exact ⟨by rw [a4 y, tq], fun t' => absurd (tq.symm.trans t') (by decide)⟩
  · obtain ⟨a1, a2, a3⟩ := x2 c
    refine ⟨a1, fun _ => ?_, fun d => absurd trivial d⟩
    by_cases y : D m
    · exact a2 y
    · have tq := key (hh m) m hm (Nat.le_refl _) y
      have t1 : (T m).1 = false := by simpa [sg_tl, c] using tq
      exact ⟨by rw [a3 y, t1], fun t' => absurd (t1.symm.trans t') (by decide)⟩
theorem sx_c85 (hW : sg_WF K A B C N) (hN : N ≤ 24) (hT : ∀ n, n < N → T n = sg_F K A B C vb kp kg n T) (hC : sg_CI K A B C vb N) (hK : sg_XK K kp kg N fk fo G) {hh : Nat → Nat} (hH : ∀ m, m < N → H m = nI (hh m) ∧ hh m < 24 ∧ ∀ p, p ∈ sg_pl K A B C m → hh p < hh m) (hU : ∀ p, p < N → ∀ m, m < N → (bt (U p) m = true ↔ p ∈ sg_pl K A B C m)) {post : Int32 → SX → Prop}
    (hJ : ∀ fh fc fw V Q, sg_XI K A B C vb kp N T (fun _ => True) fh fc fw V Q → wX_commit_146 post (nI N) far fh fc fk fo ft fl fw K A B C H U V Q G M) :
    ∀ d l, l + d = 24 → ∀ m, d < m → ∀ fh fc fw V Q, sg_XI K A B C vb kp N T (sg_Ds hh l 0) fh fc fw V Q → wX_commit_85 post m (nI l) (nI N) far fh fc fk fo ft fl fw K A B C H U V Q G M := by
  intro d
  induction d with
  | zero =>
    intro l hl m hm fh fc fw V Q hX
    obtain ⟨m, rfl⟩ : ∃ m', m = m' + 1 := ⟨m - 1, by omega⟩
    have e : l = 24 := by omega
    subst e
    refine br_t (by decide) (hJ fh fc fw V Q (sg_XI_congr hW hN (fun m hm => ?_) hX))
    have := (hH m hm).2.1
    unfold sg_Ds
    exact ⟨fun _ => trivial, fun _ => Or.inl this⟩
  | succ d ih =>
    intro l hl m hm fh fc fw V Q hX
    obtain ⟨m, rfl⟩ : ∃ m', m = m' + 1 := ⟨m - 1, by omega⟩
    refine br_f (nI_ge (b := 24) (by omega) (by omega)) ?_
    by_cases z : fw = 0
    · subst z
      exact br_t rfl (hJ fh fc 0 V Q (sg_XI_idle hW hN hT hC (fun m hm p hp => (hH m hm).2.2 p hp) hX))
    · refine br_f z ⟨N + 1, sx_c100 hW hN hT hC hK hH hU (by omega) (fun fh fc fw V Q hX' => ih (l + 1) (by omega) m (by omega) fh fc fw V Q hX') N 0 (by omega) (N + 1) (by omega) fh fc fw V Q hX⟩
theorem sx_starts {n : Nat} (hN : N ≤ 24) (hn : n < N) (hK : sg_XK K kp kg N fk fo G) {post : Int32 → Prop} (h0 : ¬ ((K n = 0 ∨ K n = 11) ∧ kp n = true) → post 0) (h1 : post 1) : wpX_startsByItself post (nI N, far, fh, fc, fk, fo, ft, fl, fw, K, A, B, C, H, U, V, Q, G, M) (nI n) := by
  have e : (nI n).toNatClampNeg = n := sg_cl (by omega)
  have i := sg_i24 hn hN
  have k0 := (hK n hn).1
  have j20 : (K n = 0 ∨ K n = 11) → wX_startsByItself_20 post (nI n) (nI N) far fh fc fk fo ft fl fw K A B C H U V Q G M := by
    intro hk
    unfold wX_startsByItself_20
    refine sg_bz (by omega) (fun b => h0 ?_) (fun b => h1)
    rintro ⟨_, z⟩
    rw [(k0 hk).1, z] at b
    exact absurd b (by decide)
  unfold wpX_startsByItself
  simp only [e]
  refine ⟨i, ?_⟩
  by_cases a : K n = 0
  · exact br_t a (j20 (Or.inl a))
  · refine br_f a ⟨i, ?_⟩
    by_cases b : K n = 11
    · exact br_t b (j20 (Or.inr b))
    · exact br_f b (h0 (fun z => z.1.elim a b))
theorem sx_c49 (hW : sg_WF K A B C N) (hN : N ≤ 24) (hT : ∀ n, n < N → T n = sg_F K A B C vb kp kg n T) (hC : sg_CI K A B C vb N) (hK : sg_XK K kp kg N fk fo G) {hh : Nat → Nat} (hH : ∀ m, m < N → H m = nI (hh m) ∧ hh m < 24 ∧ ∀ p, p ∈ sg_pl K A B C m → hh p < hh m) (hU : ∀ p, p < N → ∀ m, m < N → (bt (U p) m = true ↔ p ∈ sg_pl K A B C m)) (hV : ∀ m, m < N → sg_cell (K m) = true → V m = vb m) {post : Int32 → SX → Prop}
    (hJ : ∀ fh fc fw V Q, sg_XI K A B C vb kp N T (fun _ => True) fh fc fw V Q → wX_commit_146 post (nI N) far fh fc fk fo ft fl fw K A B C H U V Q G M) :
    ∀ d i, i + d = N → ∀ m, d < m → ∀ fw, (∀ j, j < i → (K j = 0 ∨ K j = 11) → kp j = true → bt fw j = true) → wX_commit_49 post (nI N) far 0 0 fk fo ft fl K A B C H U V Q G M m (nI i) fw := by
  intro d
  induction d with
  | zero =>
    intro i hi m hm fw hw
    obtain ⟨m, rfl⟩ : ∃ m', m = m' + 1 := ⟨m - 1, by omega⟩
    have e : i = N := by omega
    subst e
    refine br_t (nI_le (Nat.le_refl _) (by omega)) ⟨25, sx_c85 hW hN hT hC hK hH hU hJ 24 0 (by omega) 25 (by omega) 0 0 fw V Q ?_⟩
    have nD : ∀ m, ¬ sg_Ds hh 0 0 m := by
      intro m
      unfold sg_Ds
      omega
    intro m hm
    refine ⟨fun c => ⟨hV m hm c, b_0 m, fun d => absurd d (nD m), fun _ => b_0 m⟩, fun c => ⟨b_0 m, fun d => absurd d (nD m), fun _ => b_0 m⟩, fun _ b => ⟨fun hk => sg_nt (fun t => ?_), fun p _ d => absurd d (nD p)⟩⟩
    rw [hw m hm hk t] at b
    exact absurd b (by decide)
  | succ d ih =>
    intro i hi m hm fw hw
    obtain ⟨m, rfl⟩ : ∃ m', m = m' + 1 := ⟨m - 1, by omega⟩
    have hi' : i < N := by omega
    refine br_f (nI_ge hi' (by omega)) (sx_starts hN hi' hK (fun h0 => br_t rfl (nm_r (nI_1 i) (ih (i + 1) (by omega) m (by omega) fw (fun j hj hk ht => ?_)))) (br_f sg_10 (nm_e (nm_r (nI_1 i) (ih (i + 1) (by omega) m (by omega) _ (fun j hj hk ht => ?_))))))
    · by_cases z : j = i
      · subst z
        exact absurd ⟨hk, ht⟩ h0
      · exact hw j (by omega) hk ht
    · rw [sg_or (by omega) (by omega), Bool.or_eq_true, decide_eq_true_eq]
      by_cases z : j = i
      · exact Or.inr z
      · exact Or.inl (hw j (by omega) hk ht)
end SXS
end
section
/-! the end of a transaction in the component -/
def sg_kp' (K A : Nat → Int32) (kp : Nat → Bool) (T : Nat → Bool × Int32) (j : Nat) : Bool := if K j = 0 then false else if K j = 11 then (T (A j).toNatClampNeg).1 else if K j = 12 then kp j || (T j).1 else kp j
def sg_kg' (K A kg : Nat → Int32) (T : Nat → Bool × Int32) (j : Nat) : Int32 := if K j = 11 then (T (A j).toNatClampNeg).2 else if K j = 8 then (if (T j).1 = true then (T j).2 else kg j) else kg j
/-- what the component's state is after a transaction -/
def sg_XE (K A : Nat → Int32) (kp : Nat → Bool) (kg : Nat → Int32) (N : Nat) (T : Nat → Bool × Int32) (fh fk fo : Int32) (V G M0 M : Nat → Int32) : Prop :=
  (∀ j, j < N → bt fh j = (T j).1 ∧ (sg_cell (K j) = true → V j = (T j).2) ∧ ((T j).1 = true → V j = (T j).2) ∧ M j = (if (T j).1 = true then M0 j + 1 else M0 j)) ∧ sg_XK K (sg_kp' K A kp T) (sg_kg' K A kg T) N fk fo G
section SXF
variable {N : Nat} {far fh fc fk fo ft fl fw : Int32} {K A B C H U V Q G M M0 vb kg : Nat → Int32} {kp : Nat → Bool} {T : Nat → Bool × Int32}
theorem sg_T1 (hW : sg_WF K A B C N) (hN : N ≤ 24) (hT : ∀ n, n < N → T n = sg_F K A B C vb kp kg n T) {n : Nat} (hn : n < N) (hc : sg_cell (K n) = true) : (T n).1 = false := by
  have hTn := hT n hn
  rcases sg_k15 (k := K n) (by rcases hW n hn with h | ⟨h, _⟩ | ⟨h, _⟩ | ⟨h, _⟩ | ⟨h, _⟩ | ⟨h, _⟩ | ⟨h, _⟩ | ⟨h, _⟩ | ⟨h, _⟩ | ⟨h, _⟩ | ⟨h, _⟩ | ⟨h, _⟩ | ⟨h, _⟩ | ⟨h, _⟩ | ⟨h, _⟩ <;> rw [h] <;> decide) (by rcases hW n hn with h | ⟨h, _⟩ | ⟨h, _⟩ | ⟨h, _⟩ | ⟨h, _⟩ | ⟨h, _⟩ | ⟨h, _⟩ | ⟨h, _⟩ | ⟨h, _⟩ | ⟨h, _⟩ | ⟨h, _⟩ | ⟨h, _⟩ | ⟨h, _⟩ | ⟨h, _⟩ | ⟨h, _⟩ <;> rw [h] <;> decide) with h | h | h | h | h | h | h | h | h | h | h | h | h | h | h <;> first | (exfalso; rw [h] at hc; exact absurd hc (by decide)) | (rw [hTn]; simp [sg_F, h])
theorem sx_f109 {i : Nat} (hi : i < N) (hN : N ≤ 24) {k x2 : Int32} (hx2 : x2 = (1 : Int32) <<< (nI i &&& 31)) {post : SX → Prop} {J : Int32 → Int32 → Int32 → (Nat → Int32) → (Nat → Int32) → (Nat → Int32) → (Nat → Int32) → (Nat → Int32) → (Nat → Int32) → (Nat → Int32) → (Nat → Int32) → (Nat → Int32) → (Nat → Int32) → Prop}
    (hJ : ∀ fo', (∀ j, j < N → j ≠ i → bt fo' j = bt fo j) → (k = 12 → bt fo' i = (bt fo i || bt fh i)) → J (nI (i + 1)) fk fo' K A B C H U V Q G M) : wX_finish_109 post J (nI i) x2 k (nI N) far fh fc fk fo ft fl fw K A B C H U V Q G M := by
  subst hx2
  unfold wX_finish_109
  by_cases z : k = 12
  · refine br_t z (sx_has (by omega) (fun b => br_t rfl (nm_r (nI_1 i) (hJ fo (fun _ _ _ => rfl) (fun _ => ?_)))) (fun b => br_f sg_10 (nm_e (nm_r (nI_1 i) (hJ _ (fun j hj hne => ?_) (fun _ => ?_))))))
    · rw [b, Bool.or_false]
    · rw [sg_or (by omega) (by omega)]
      simp [hne]
    · rw [sg_or (by omega) (by omega), b]
      simp
  · exact br_f z (nm_r (nI_1 i) (hJ fo (fun _ _ _ => rfl) (fun y => absurd y z)))
theorem sx_f54 {i : Nat} (hi : i < N) (hN : N ≤ 24) {x2 : Int32} (hx2 : x2 = (1 : Int32) <<< (nI i &&& 31)) {post : SX → Prop} {J : Int32 → Int32 → Int32 → (Nat → Int32) → (Nat → Int32) → (Nat → Int32) → (Nat → Int32) → (Nat → Int32) → (Nat → Int32) → (Nat → Int32) → (Nat → Int32) → (Nat → Int32) → (Nat → Int32) → Prop}
    (hJ : ∀ fk' fo' G', (∀ j, j < N → j ≠ i → bt fk' j = bt fk j ∧ bt fo' j = bt fo j ∧ G' j = G j) → (K i = 0 → bt fk' i = false) → (K i = 8 → G' i = (if bt fh i = true then V i else G i)) → (K i = 12 → bt fo' i = (bt fo i || bt fh i)) → J (nI (i + 1)) fk' fo' K A B C H U V Q G' M) : wX_finish_54 post J (nI i) x2 (nI N) far fh fc fk fo ft fl fw K A B C H U V Q G M := by
  have e : (nI i).toNatClampNeg = i := sg_cl (by omega)
  have q := sg_i24 hi hN
  unfold wX_finish_54
  simp only [e]
  refine ⟨q, nm_e ?_⟩
  by_cases k0 : K i = 0
  · subst hx2
    refine br_t k0 (nm_e (nm_r (nI_1 i) (hJ _ fo G (fun j hj hne => ⟨?_, rfl, rfl⟩) (fun _ => ?_) (fun y => ?_) (fun y => ?_))))
    · rw [sg_clr (by omega) (by omega)]
      simp [hne]
    · rw [sg_clr (by omega) (by omega)]
      simp
    · rw [k0] at y; exact absurd y (by decide)
    · rw [k0] at y; exact absurd y (by decide)
  · refine br_f k0 ?_
    by_cases k8 : K i = 8
    · refine br_t k8 (sx_has (by omega) (fun b => br_t rfl (sx_f109 hi hN hx2 (fun fo' h1 h2 => hJ fk fo' G (fun j hj hne => ⟨rfl, h1 j hj hne, rfl⟩) (fun y => absurd y k0) (fun _ => ?_) h2))) (fun b => br_f sg_10 ⟨q, q, nm_e (nm_r (nI_1 i) (hJ fk fo _ (fun j hj hne => ⟨rfl, rfl, pk_un hne⟩) (fun y => absurd y k0) (fun _ => ?_) (fun y => ?_)))⟩))
      · rw [b]; simp
      · rw [b, pk_us]; simp
      · rw [k8] at y; exact absurd y (by decide)
    · exact br_f k8 (sx_f109 hi hN hx2 (fun fo' h1 h2 => hJ fk fo' G (fun j hj hne => ⟨rfl, h1 j hj hne, rfl⟩) (fun y => absurd y k0) (fun y => absurd y k8) h2))
/-- within the first loop of the end -/
def sg_fI (K : Nat → Int32) (kp : Nat → Bool) (kg : Nat → Int32) (N : Nat) (T : Nat → Bool × Int32) (V0 M0 : Nat → Int32) (i : Nat) (fk fo : Int32) (V G M : Nat → Int32) : Prop := ∀ j, j < N →
  (j < i → (sg_cell (K j) = true → V j = (T j).2) ∧ ((T j).1 = true → V j = (T j).2) ∧ M j = (if (T j).1 = true then M0 j + 1 else M0 j) ∧ (K j = 0 → bt fk j = false) ∧ (K j = 8 → G j = (if (T j).1 = true then (T j).2 else kg j)) ∧ (K j = 12 → bt fo j = (kp j || (T j).1))) ∧
  (i ≤ j → V j = V0 j ∧ M j = M0 j ∧ (K j = 8 → G j = kg j) ∧ (K j = 12 → bt fo j = kp j))
theorem sx_f2 (hN : N ≤ 24) {V0 : Nat → Int32} (hX : sg_XI K A B C vb kp N T (fun _ => True) fh fc fw V0 Q) (hT1 : ∀ n, n < N → sg_cell (K n) = true → (T n).1 = false) {post : SX → Prop}
    (hp : ∀ fk fo V G M, sg_fI K kp kg N T V0 M0 N fk fo V G M → ∃ m, wX_finish_141 post m 0 (nI N) far fh fc fk fo ft fl fw K A B C H U V Q G M) :
    ∀ d i, i + d = N → ∀ m, d < m → ∀ fk fo V G M, sg_fI K kp kg N T V0 M0 i fk fo V G M → wX_finish_2 post (nI N) far fh fc ft fl fw m (nI i) fk fo K A B C H U V Q G M := by
  intro d
  induction d with
  | zero =>
    intro i hi m hm fk fo V G M hI
    obtain ⟨m, rfl⟩ : ∃ m', m = m' + 1 := ⟨m - 1, by omega⟩
    have e : i = N := by omega
    subst e
    exact br_t (nI_le (Nat.le_refl _) (by omega)) (hp fk fo V G M hI)
  | succ d ih =>
    intro i hi m hm fk fo V G M hI
    obtain ⟨m, rfl⟩ : ∃ m', m = m' + 1 := ⟨m - 1, by omega⟩
    have hi' : i < N := by omega
    have e : (nI i).toNatClampNeg = i := sg_cl (by omega)
    have q := sg_i24 hi' hN
    obtain ⟨x1, x2, _⟩ := hX i hi'
    obtain ⟨o1, o2, o3, o4⟩ := (hI i hi').2 (Nat.le_refl _)
    have hbt : bt fh i = (T i).1 := by
      by_cases c : sg_cell (K i) = true
      · rw [hT1 i hi' c]; exact (x1 c).2.1
      · exact ((x2 (sg_nt c)).2.1 trivial).1
    -- what stands at i once the value is set
    have fin : ∀ V', (∀ j, j < N → j ≠ i → V' j = V j) → (sg_cell (K i) = true → V' i = (T i).2) → ((T i).1 = true → V' i = (T i).2) → wX_finish_35 post (wX_finish_2 post (nI N) far fh fc ft fl fw m) (nI i) ((1 : Int32) <<< (nI i &&& 31)) (nI N) far fh fc fk fo ft fl fw K A B C H U V' Q G M := by
      intro V' hV hc hv
      have fin2 : ∀ M', (∀ j, j < N → j ≠ i → M' j = M j) → M' i = (if (T i).1 = true then M0 i + 1 else M0 i) → wX_finish_54 post (wX_finish_2 post (nI N) far fh fc ft fl fw m) (nI i) ((1 : Int32) <<< (nI i &&& 31)) (nI N) far fh fc fk fo ft fl fw K A B C H U V' Q G M' := by
        intro M' hM hm'
        refine sx_f54 hi' hN rfl (fun fk' fo' G' g1 g2 g3 g4 => ih (i + 1) (by omega) m (by omega) fk' fo' V' G' M' (fun j hj => ?_))
        by_cases z : j = i
        · subst z
          refine ⟨fun _ => ⟨hc, hv, hm', g2, fun k8 => ?_, fun k12 => ?_⟩, fun y => by omega⟩
          · rw [g3 k8, hbt, o3 k8]
            by_cases t : (T j).1 = true
            · rw [if_pos t, if_pos t, hv t]
            · rw [if_neg t, if_neg t]
          · rw [g4 k12, hbt, o4 k12]
        · obtain ⟨y1, y2, y3⟩ := g1 j hj z
          obtain ⟨p1, p2⟩ := hI j hj
          rw [y1, y2, y3, hV j hj z, hM j hj z]
          exact ⟨fun y => p1 (by omega), fun y => p2 (by omega)⟩
      unfold wX_finish_35
      simp only [e]
      refine sg_ba (by omega) (fun b => fin2 M (fun _ _ _ => rfl) ?_) (fun b => ⟨q, q, nm_e (fin2 _ (fun j hj z => pk_un z) ?_)⟩)
      · rw [hbt] at b
        rw [o2, b]
        rfl
      · rw [hbt] at b
        rw [pk_us, o2, b]
        rfl
    refine br_f (nI_ge hi' (by omega)) (nm_e (sg_ba (by omega) (fun b => fin V (fun _ _ _ => rfl) (fun c => ?_) (fun t => ?_)) (fun b => ⟨q, q, nm_r (e' := upd V i (Q i)) (by rw [e]) (fin _ (fun j hj z => pk_un z) (fun c => ?_) (fun t => ?_))⟩)))
    · obtain ⟨a1, _, a2, _⟩ := x1 c
      have a3 := (a2 trivial).1
      rw [b] at a3
      have : (T i).2 = vb i := by simpa [sg_tl, c] using a3.symm
      rw [o1, a1, this]
    · have c : sg_cell (K i) = false := sg_nt (fun c => absurd ((hT1 i hi' c).symm.trans t) (by decide))
      rw [o1]
      exact ((x2 c).2.1 trivial).2 t
    · obtain ⟨a1, _, a2, _⟩ := x1 c
      obtain ⟨a3, a4⟩ := a2 trivial
      rw [pk_us]
      exact a4 (by rw [← a3]; exact b)
    · have c : sg_cell (K i) = false := sg_nt (fun c => absurd ((hT1 i hi' c).symm.trans t) (by decide))
      rw [(x2 c).1] at b
      exact absurd b (by decide)
theorem sx_f141 (hW : sg_WF K A B C N) (hN : N ≤ 24) (hV : ∀ j, j < N → sg_cell (K j) = false → bt fh j = (T j).1 ∧ ((T j).1 = true → V j = (T j).2)) {post : SX → Prop} {fk0 : Int32} {G0 : Nat → Int32}
    (hp : ∀ fk G, (∀ j, j < N → (K j = 11 → bt fk j = (T (A j).toNatClampNeg).1 ∧ ((T (A j).toNatClampNeg).1 = true → G j = (T (A j).toNatClampNeg).2)) ∧ (¬ K j = 11 → bt fk j = bt fk0 j ∧ G j = G0 j)) → post (nI N, far, fh, fc, fk, fo, ft, fl, fw, K, A, B, C, H, U, V, Q, G, M)) :
    ∀ d i, i + d = N → ∀ m, d < m → ∀ fk G, (∀ j, j < N → (K j = 11 → j < i → bt fk j = (T (A j).toNatClampNeg).1 ∧ ((T (A j).toNatClampNeg).1 = true → G j = (T (A j).toNatClampNeg).2)) ∧ (¬ K j = 11 → bt fk j = bt fk0 j ∧ G j = G0 j)) → wX_finish_141 post m (nI i) (nI N) far fh fc fk fo ft fl fw K A B C H U V Q G M := by
  intro d
  induction d with
  | zero =>
    intro i hi m hm fk G hI
    obtain ⟨m, rfl⟩ : ∃ m', m = m' + 1 := ⟨m - 1, by omega⟩
    have e : i = N := by omega
    subst e
    exact br_t (nI_le (Nat.le_refl _) (by omega)) (hp fk G (fun j hj => ⟨fun k => (hI j hj).1 k hj, (hI j hj).2⟩))
  | succ d ih =>
    intro i hi m hm fk G hI
    obtain ⟨m, rfl⟩ : ∃ m', m = m' + 1 := ⟨m - 1, by omega⟩
    have hi' : i < N := by omega
    have e : (nI i).toNatClampNeg = i := sg_cl (by omega)
    have q := sg_i24 hi' hN
    by_cases k11 : K i = 11
    · have hx : ∃ x, x < N ∧ A i = nI x ∧ sg_cell (K x) = false := by
        have hf := hW i hi'
        rw [k11, sg_fit11] at hf
        obtain ⟨x, h1, h2, h3⟩ := hf
        exact ⟨x, by omega, h2, h3⟩
      obtain ⟨x, hx, ex, cx⟩ := hx
      have eq : (nI x).toNatClampNeg = x := sg_cl (by omega)
      have qx := sg_i24 hx hN
      obtain ⟨v1, v2⟩ := hV x hx cx
      refine br_f (nI_ge hi' (by omega)) ⟨q, br_t (by rw [e]; exact k11) ⟨q, ?_⟩⟩
      rw [e, ex]
      unfold wpX_keep
      simp only [e, eq]
      refine sx_has (by omega) (fun b => br_t rfl (nm_e (nm_r (nI_1 i) (ih (i + 1) (by omega) m (by omega) _ _ (fun j hj => ?_))))) (fun b => br_f sg_10 ⟨qx, q, nm_e (nm_e (nm_r (nI_1 i) (ih (i + 1) (by omega) m (by omega) _ _ (fun j hj => ?_))))⟩)
      · obtain ⟨p1, p2⟩ := hI j hj
        rw [sg_clr (by omega) (by omega)]
        by_cases z : j = i
        · subst z
          refine ⟨fun _ _ => ?_, fun y => absurd k11 y⟩
          rw [ex, eq, ← v1, b]
          simp
        · refine ⟨fun k hl => ?_, fun k => ?_⟩
          · have := p1 k (by omega)
            simpa [z] using this
          · simpa [z] using p2 k
      · obtain ⟨p1, p2⟩ := hI j hj
        rw [sg_or (by omega) (by omega)]
        by_cases z : j = i
        · subst z
          refine ⟨fun _ _ => ?_, fun y => absurd k11 y⟩
          rw [v1] at b
          rw [ex, eq, b, pk_us, v2 b]
          simp
        · rw [pk_un z]
          refine ⟨fun k hl => ?_, fun k => ?_⟩
          · have := p1 k (by omega)
            simpa [z] using this
          · simpa [z] using p2 k
    · refine br_f (nI_ge hi' (by omega)) ⟨q, br_f (by rw [e]; exact k11) (nm_r (nI_1 i) (ih (i + 1) (by omega) m (by omega) fk G (fun j hj => ?_)))⟩
      obtain ⟨p1, p2⟩ := hI j hj
      refine ⟨fun k hl => p1 k ?_, p2⟩
      by_cases z : j = i
      · subst z
        exact absurd k k11
      · omega
theorem sx_c154 (hN : N ≤ 24) {f : Nat → Bool} (hf : ∀ j, j < N → bt fh j = f j) {post : Int32 → SX → Prop} (hp : post (nI (sg_cn f N)) (nI N, far, fh, fc, fk, fo, ft, fl, fw, K, A, B, C, H, U, V, Q, G, M)) :
    ∀ d i, i + d = N → ∀ m, d < m → wX_commit_154 post (nI N) far fh fc fk fo ft fl fw K A B C H U V Q G M m (nI (sg_cn f i)) (nI i) := by
  intro d
  induction d with
  | zero =>
    intro i hi m hm
    obtain ⟨m, rfl⟩ : ∃ m', m = m' + 1 := ⟨m - 1, by omega⟩
    have e : i = N := by omega
    subst e
    exact br_t (nI_le (Nat.le_refl _) (by omega)) hp
  | succ d ih =>
    intro i hi m hm
    obtain ⟨m, rfl⟩ : ∃ m', m = m' + 1 := ⟨m - 1, by omega⟩
    have hi' : i < N := by omega
    have hs := ih (i + 1) (by omega) m (by omega)
    rw [sg_cn_s] at hs
    refine br_f (nI_ge hi' (by omega)) (sg_bz (by omega) (fun b => ?_) (fun b => ?_))
    · rw [hf i hi'] at b
      rw [b] at hs
      exact nm_r (nI_1 i) hs
    · rw [hf i hi'] at b
      rw [b] at hs
      exact nm_r (nI_1 _) (nm_r (nI_1 i) hs)
theorem sx_finish (hW : sg_WF K A B C N) (hN : N ≤ 24) (hT : ∀ n, n < N → T n = sg_F K A B C vb kp kg n T) (hK : sg_XK K kp kg N fk fo G) (hX : sg_XI K A B C vb kp N T (fun _ => True) fh fc fw V Q) {post : SX → Prop}
    (hp : ∀ fk fo V G M', sg_XE K A kp kg N T fh fk fo V G M M' → post (nI N, far, fh, fc, fk, fo, ft, fl, fw, K, A, B, C, H, U, V, Q, G, M')) : wpX_finish post (nI N, far, fh, fc, fk, fo, ft, fl, fw, K, A, B, C, H, U, V, Q, G, M) := by
  have hT1 : ∀ n, n < N → sg_cell (K n) = true → (T n).1 = false := fun n hn hc => sg_T1 hW hN hT hn hc
  have hbt : ∀ j, j < N → bt fh j = (T j).1 := by
    intro j hj
    obtain ⟨x1, x2, _⟩ := hX j hj
    by_cases c : sg_cell (K j) = true
    · rw [hT1 j hj c]; exact (x1 c).2.1
    · exact ((x2 (sg_nt c)).2.1 trivial).1
  unfold wpX_finish
  refine ⟨N + 1, sx_f2 (M0 := M) hN hX hT1 (fun fk1 fo1 V1 G1 M1 h1 => ⟨N + 1, sx_f141 (T := T) (fk0 := fk1) (G0 := G1) hW hN (fun j hj c => ⟨hbt j hj, ((h1 j hj).1 hj).2.1⟩) (fun fk2 G2 h2 => hp fk2 fo1 V1 G2 M1 ⟨fun j hj => ?_, fun j hj => ?_⟩) N 0 (by omega) (N + 1) (by omega) fk1 G1 (fun j hj => ⟨fun _ y => by omega, fun _ => ⟨rfl, rfl⟩⟩)⟩) N 0 (by omega) (N + 1) (by omega) fk fo V G M (fun j hj => ⟨fun y => by omega, fun _ => ⟨rfl, rfl, (hK j hj).2.1, (hK j hj).2.2⟩⟩)⟩
  · obtain ⟨a1, a2, a3, _⟩ := (h1 j hj).1 hj
    exact ⟨hbt j hj, a1, a2, a3⟩
  · obtain ⟨_, _, _, a4, a5, a6⟩ := (h1 j hj).1 hj
    obtain ⟨b1, b2⟩ := h2 j hj
    refine ⟨fun k => ?_, fun k => ?_, fun k => ?_⟩
    · rcases k with k | k
      · have n11 : ¬ K j = 11 := by rw [k]; decide
        rw [(b2 n11).1, a4 k]
        simp [sg_kp', k]
      · obtain ⟨c1, c2⟩ := b1 k
        rw [c1]
        simp only [sg_kp', sg_kg', k]
        simpa using c2
    · have n11 : ¬ K j = 11 := by rw [k]; decide
      rw [(b2 n11).2, a5 k]
      simp [sg_kg', k]
    · rw [a6 k]
      simp [sg_kp', k]
theorem sx_commit (hW : sg_WF K A B C N) (hN : N ≤ 24) (hR : sg_RK K A B C N) (hT : ∀ n, n < N → T n = sg_F K A B C vb kp kg n T) (hC : sg_CI K A B C vb N) (hK : sg_XK K kp kg N fk fo G) (hHU : ¬ far = 0 → sg_HU K A B C N H U) (hV : ∀ m, m < N → sg_cell (K m) = true → V m = vb m) {post : Int32 → SX → Prop}
    (hp : ∀ far fh fc fk fo fw H U V Q G M', ¬ far = 0 → sg_HU K A B C N H U → sg_XE K A kp kg N T fh fk fo V G M M' → post (nI (sg_cn (fun j => (T j).1) N)) (nI N, far, fh, fc, fk, fo, ft + 1, fl, fw, K, A, B, C, H, U, V, Q, G, M')) : wpX_commit post (nI N, far, fh, fc, fk, fo, ft, fl, fw, K, A, B, C, H, U, V, Q, G, M) := by
  unfold wpX_commit
  refine sx_arrange hW hN hR hHU (fun far H U hf hU => ?_)
  obtain ⟨hh, h1, h2⟩ := hU
  have body : ∀ w, ∃ m, wX_commit_49 post (nI N) far 0 0 fk fo (ft + 1) fl K A B C H U V Q G M m 0 w := by
    intro w
    refine ⟨N + 1, sx_c49 hW hN hT hC hK h1 h2 hV (fun fh fc fw V Q hX => ?_) N 0 (by omega) (N + 1) (by omega) w (fun j hj => by omega)⟩
    unfold wX_commit_146
    exact sx_finish hW hN hT hK hX (fun fk fo V G M' hE => ⟨N + 1, sx_c154 (f := fun j => (T j).1) hN (fun j hj => (hE.1 j hj).1) (hp far fh fc fk fo fw H U V Q G M' hf ⟨hh, h1, h2⟩ hE) N 0 (by omega) (N + 1) (by omega)⟩)
  refine nm_e ?_
  by_cases z : fl = 0
  · exact br_t z (nm_e (body _))
  · exact br_f z (body 0)
end SXF
end
section
/-! one node worked out in the reference -/
section SYW
variable {N : Nat} {ft : Int32} {K A B C ha va af tm dn kt kg vb kg0 : Nat → Int32} {kp : Nat → Bool} {T : Nat → Bool × Int32}
theorem sy_give {n : Nat} (hn : n < 24) {b : Bool} {v : Int32} {post : SY → Prop} (h : post (nI N, ft, K, A, B, C, upd ha n (sg_b b), upd va n (if b = true then v else 0), af, tm, dn, kt, kg)) : wpY_give post (nI N, ft, K, A, B, C, ha, va, af, tm, dn, kt, kg) (nI n) (sg_b b) v := by
  have e : (nI n).toNatClampNeg = n := sg_cl (by omega)
  have i : vp_in (nI n) 24 := vp_in_nI hn (by omega)
  unfold wpY_give
  simp only [e, sg_b_nar]
  refine ⟨i, nm_e ?_⟩
  cases b
  · exact br_t rfl ⟨i, nm_e h⟩
  · exact br_f sg_10 ⟨i, nm_e h⟩
theorem sy_copy {n x : Nat} (hn : n < 24) (hx : x < 24) {b c : Bool} (hc : ha x = sg_b c) {post : SY → Prop} (h : post (nI N, ft, K, A, B, C, upd ha n (sg_b (b && c)), upd va n (if (b && c) = true then va x else 0), af, tm, dn, kt, kg)) : wpY_copy post (nI N, ft, K, A, B, C, ha, va, af, tm, dn, kt, kg) (nI n) (nI x) (sg_b b) := by
  have ex : (nI x).toNatClampNeg = x := sg_cl (by omega)
  have ix : vp_in (nI x) 24 := vp_in_nI hx (by omega)
  unfold wpY_copy
  simp only [ex, hc]
  cases b
  · refine br_t rfl ?_
    unfold wY_copy_19 wY_copy_20
    simp only [ex]
    exact ⟨ix, sy_give (b := false) hn h⟩
  · refine br_f sg_10 ⟨ix, ?_⟩
    cases c
    · refine br_t rfl ?_
      unfold wY_copy_19 wY_copy_20
      simp only [ex]
      exact ⟨ix, sy_give (b := false) hn h⟩
    · refine br_f sg_10 ?_
      unfold wY_copy_20
      simp only [ex]
      exact ⟨ix, sy_give (b := true) hn h⟩
theorem sy_s1 {n x : Nat} (hn : n < 24) (hx : x < 24) {c : Bool} (hc : ha x = sg_b c) {post : SY → Prop} (h : post (nI N, ft, K, A, B, C, upd ha n (sg_b c), upd va n (if c = true then va x * B n + C n else 0), af, tm, dn, kt, kg)) : wpY_single post (nI N, ft, K, A, B, C, ha, va, af, tm, dn, kt, kg) (nI n) 1 (nI x) := by
  have e : (nI n).toNatClampNeg = n := sg_cl (by omega)
  have ex : (nI x).toNatClampNeg = x := sg_cl (by omega)
  have i : vp_in (nI n) 24 := vp_in_nI hn (by omega)
  have ix : vp_in (nI x) 24 := vp_in_nI hx (by omega)
  unfold wpY_single
  simp only [e, ex, hc]
  exact ⟨i, nm_e (br_t trivial ⟨ix, ix, i, sy_give hn (br_f (by decide) (br_f (by decide) (br_f (by decide) (br_f (by decide) (br_f (by decide) h)))))⟩)⟩
theorem sy_s2 {n x : Nat} (hn : n < 24) (hx : x < 24) {c : Bool} (hc : ha x = sg_b c) {post : SY → Prop} (h : post (nI N, ft, K, A, B, C, upd ha n (sg_b (!decide (va x < B n) && c)), upd va n (if (!decide (va x < B n) && c) = true then va x else 0), af, tm, dn, kt, kg)) : wpY_single post (nI N, ft, K, A, B, C, ha, va, af, tm, dn, kt, kg) (nI n) 2 (nI x) := by
  have e : (nI n).toNatClampNeg = n := sg_cl (by omega)
  have ex : (nI x).toNatClampNeg = x := sg_cl (by omega)
  have i : vp_in (nI n) 24 := vp_in_nI hn (by omega)
  have ix : vp_in (nI x) 24 := vp_in_nI hx (by omega)
  unfold wpY_single
  refine ⟨i, nm_r (e' := B n) (by rw [e]) (br_f (by decide) ?_)⟩
  unfold wY_single_40
  simp only [ex]
  refine br_t trivial ⟨ix, ?_⟩
  by_cases z : va x < B n
  · refine br_t z ?_
    unfold wY_single_64
    refine sy_copy (b := false) hn hx hc (br_f (by decide) (br_f (by decide) (br_f (by decide) (br_f (by decide) ?_))))
    simpa [z] using h
  · refine br_f z ?_
    unfold wY_single_64
    refine sy_copy (b := true) hn hx hc (br_f (by decide) (br_f (by decide) (br_f (by decide) (br_f (by decide) ?_))))
    simpa [z] using h
theorem sy_s5 {n x y : Nat} (hn : n < 24) (hx : x < 24) (hy : y < 24) (ey : B n = nI y) {c : Bool} (hc : ha x = sg_b c) {post : SY → Prop} (h : post (nI N, ft, K, A, B, C, upd ha n (sg_b c), upd va n (if c = true then va x + va y else 0), af, tm, dn, kt, kg)) : wpY_single post (nI N, ft, K, A, B, C, ha, va, af, tm, dn, kt, kg) (nI n) 5 (nI x) := by
  have e : (nI n).toNatClampNeg = n := sg_cl (by omega)
  have ex : (nI x).toNatClampNeg = x := sg_cl (by omega)
  have eq : (nI y).toNatClampNeg = y := sg_cl (by omega)
  have i : vp_in (nI n) 24 := vp_in_nI hn (by omega)
  have ix : vp_in (nI x) 24 := vp_in_nI hx (by omega)
  have iy : vp_in (nI y) 24 := vp_in_nI hy (by omega)
  unfold wpY_single
  refine ⟨i, nm_r (e' := nI y) (by rw [e, ey]) (br_f (by decide) (br_f (by decide) ?_))⟩
  unfold wY_single_67
  simp only [ex, eq, hc]
  exact br_t trivial ⟨ix, ix, iy, sy_give hn (br_f (by decide) (br_f (by decide) (br_f (by decide) h)))⟩
theorem sy_s7 {n x y : Nat} (hn : n < 24) (hx : x < 24) (hy : y < 24) (ey : B n = nI y) {c : Bool} (hc : ha x = sg_b c) {post : SY → Prop} (h : post (nI N, ft, K, A, B, C, upd ha n (sg_b (!decide (va y = 0) && c)), upd va n (if (!decide (va y = 0) && c) = true then va x else 0), af, tm, dn, kt, kg)) : wpY_single post (nI N, ft, K, A, B, C, ha, va, af, tm, dn, kt, kg) (nI n) 7 (nI x) := by
  have e : (nI n).toNatClampNeg = n := sg_cl (by omega)
  have ex : (nI x).toNatClampNeg = x := sg_cl (by omega)
  have eq : (nI y).toNatClampNeg = y := sg_cl (by omega)
  have i : vp_in (nI n) 24 := vp_in_nI hn (by omega)
  have ix : vp_in (nI x) 24 := vp_in_nI hx (by omega)
  have iy : vp_in (nI y) 24 := vp_in_nI hy (by omega)
  unfold wpY_single
  refine ⟨i, nm_r (e' := nI y) (by rw [e, ey]) (br_f (by decide) (br_f (by decide) (br_f (by decide) ?_)))⟩
  unfold wY_single_97
  simp only [eq]
  refine br_t trivial ⟨iy, ?_⟩
  by_cases z : va y = 0
  · refine br_t z ?_
    unfold wY_single_121
    refine sy_copy (b := false) hn hx hc (br_f (by decide) (br_f (by decide) ?_))
    simpa [z] using h
  · refine br_f z ?_
    unfold wY_single_121
    refine sy_copy (b := true) hn hx hc (br_f (by decide) (br_f (by decide) ?_))
    simpa [z] using h
theorem sy_s8 {n x : Nat} (hn : n < 24) (hx : x < 24) (hnx : x ≠ n) {c : Bool} (hc : ha x = sg_b c) {post : SY → Prop} (h : post (nI N, ft, K, A, B, C, upd ha n (sg_b c), upd va n (if c = true then kg n + va x else 0), af, tm, dn, kt, if c = true then upd kg n (kg n + va x) else kg)) : wpY_single post (nI N, ft, K, A, B, C, ha, va, af, tm, dn, kt, kg) (nI n) 8 (nI x) := by
  have e : (nI n).toNatClampNeg = n := sg_cl (by omega)
  have ex : (nI x).toNatClampNeg = x := sg_cl (by omega)
  have i : vp_in (nI n) 24 := vp_in_nI hn (by omega)
  have ix : vp_in (nI x) 24 := vp_in_nI hx (by omega)
  unfold wpY_single
  refine ⟨i, nm_e (br_f (by decide) (br_f (by decide) (br_f (by decide) (br_f (by decide) ?_))))⟩
  unfold wY_single_124
  simp only [e, ex, hc]
  refine br_t trivial ⟨ix, ?_⟩
  cases c
  · refine br_t rfl ?_
    unfold wY_single_154
    simp only [e, ex, hc]
    exact ⟨ix, i, sy_give (b := false) hn (br_f (by decide) h)⟩
  · refine br_f sg_10 ⟨i, ix, i, nm_e ?_⟩
    unfold wY_single_154
    simp only [e, ex, hc, pk_us]
    exact ⟨ix, i, sy_give (b := true) hn (br_f (by decide) h)⟩
theorem sy_s12 {n x : Nat} (hn : n < 24) (hx : x < 24) {c k : Bool} (hc : ha x = sg_b c) (hk : kt n = sg_b k) {post : SY → Prop} (h : post (nI N, ft, K, A, B, C, upd ha n (sg_b (c && !k)), upd va n (if (c && !k) = true then va x else 0), af, tm, dn, if (c && !k) = true then upd kt n 1 else kt, kg)) : wpY_single post (nI N, ft, K, A, B, C, ha, va, af, tm, dn, kt, kg) (nI n) 12 (nI x) := by
  have e : (nI n).toNatClampNeg = n := sg_cl (by omega)
  have ex : (nI x).toNatClampNeg = x := sg_cl (by omega)
  have i : vp_in (nI n) 24 := vp_in_nI hn (by omega)
  have ix : vp_in (nI x) 24 := vp_in_nI hx (by omega)
  unfold wpY_single
  refine ⟨i, nm_e (br_f (by decide) (br_f (by decide) (br_f (by decide) (br_f (by decide) (br_f (by decide) ?_)))))⟩
  unfold wY_single_171
  simp only [e, ex, hc, hk]
  refine br_t trivial ⟨ix, ?_⟩
  cases c
  · refine br_t rfl ?_
    unfold wY_single_199 wY_single_200
    exact sy_copy (b := false) hn hx hc (br_t rfl h)
  · refine br_f sg_10 ⟨i, ?_⟩
    cases k
    · refine br_t rfl ?_
      unfold wY_single_200
      refine sy_copy (b := true) hn hx hc (br_f sg_10 ⟨i, nm_r (e' := upd kt n 1) (by rw [e, sg_nar1]) h⟩)
    · refine br_f sg_10 ?_
      unfold wY_single_199 wY_single_200
      exact sy_copy (b := false) hn hx hc (br_t rfl h)
/-- made, as work and refresh ask it -/
theorem sy_made6 {n : Nat} (hn : n < 24) (h6 : K n = 6) {a b c : Int32} {post : Int32 → Prop} (h : post (a + b)) : wpY_made post (nI N, ft, K, A, B, C, ha, va, af, tm, dn, kt, kg) (nI n) a b c := by
  have e : (nI n).toNatClampNeg = n := sg_cl (by omega)
  have i : vp_in (nI n) 24 := vp_in_nI hn (by omega)
  unfold wpY_made
  simp only [e]
  exact ⟨i, br_t h6 h⟩
theorem sy_made13 {n : Nat} (hn : n < 24) (h13 : K n = 13) {a b c : Int32} {post : Int32 → Prop} (h : post (if a = 0 then c else b)) : wpY_made post (nI N, ft, K, A, B, C, ha, va, af, tm, dn, kt, kg) (nI n) a b c := by
  have e : (nI n).toNatClampNeg = n := sg_cl (by omega)
  have i : vp_in (nI n) 24 := vp_in_nI hn (by omega)
  unfold wpY_made
  simp only [e]
  refine ⟨i, br_f (by rw [h13]; decide) ⟨i, br_t h13 ?_⟩⟩
  by_cases z : a = 0
  · rw [if_pos z] at h
    exact br_t z h
  · rw [if_neg z] at h
    exact br_f z h
theorem sy_made14 {n : Nat} (hn : n < 24) (h14 : K n = 14) {a b c : Int32} {post : Int32 → Prop} (h : post (a * B n + C n)) : wpY_made post (nI N, ft, K, A, B, C, ha, va, af, tm, dn, kt, kg) (nI n) a b c := by
  have e : (nI n).toNatClampNeg = n := sg_cl (by omega)
  have i : vp_in (nI n) 24 := vp_in_nI hn (by omega)
  unfold wpY_made
  simp only [e]
  exact ⟨i, br_f (by rw [h14]; decide) ⟨i, br_f (by rw [h14]; decide) ⟨i, i, h⟩⟩⟩
end SYW
end
section
/-! a transaction in the reference -/
def sg_YI (K vb : Nat → Int32) (kp : Nat → Bool) (kg0 : Nat → Int32) (N : Nat) (T : Nat → Bool × Int32) (d : Nat → Bool) (ha va af kt kg : Nat → Int32) : Prop := ∀ m, m < N →
  (sg_cell (K m) = true → va m = vb m ∧ ha m = sg_b false ∧ (d m = true → af m = (T m).2)) ∧
  (sg_cell (K m) = false → d m = true → ha m = sg_b (T m).1 ∧ va m = (T m).2) ∧
  kt m = sg_b (if K m = 12 ∧ d m = true then (kp m || (T m).1) else kp m) ∧
  kg m = (if K m = 8 ∧ d m = true then (if (T m).1 = true then (T m).2 else kg0 m) else kg0 m)
/-- what work changes at n -/
def sg_YW (K : Nat → Int32) (kp : Nat → Bool) (kg0 : Nat → Int32) (T : Nat → Bool × Int32) (n : Nat) (ha va af kt kg ha' va' af' kt' kg' : Nat → Int32) : Prop :=
  (∀ j, j ≠ n → ha' j = ha j ∧ va' j = va j ∧ af' j = af j ∧ kt' j = kt j ∧ kg' j = kg j) ∧
  (sg_cell (K n) = true → va' n = va n ∧ ha' n = ha n ∧ af' n = (T n).2) ∧
  (sg_cell (K n) = false → ha' n = sg_b (T n).1 ∧ va' n = (T n).2) ∧
  kt' n = sg_b (if K n = 12 then (kp n || (T n).1) else kp n) ∧
  kg' n = (if K n = 8 then (if (T n).1 = true then (T n).2 else kg0 n) else kg0 n)
section SYC
variable {N : Nat} {ft : Int32} {K A B C ha va af tm dn kt kg vb kg0 : Nat → Int32} {kp d : Nat → Bool} {T : Nat → Bool × Int32}
theorem sg_YW_step {n : Nat} (hY : sg_YI K vb kp kg0 N T d ha va af kt kg) {ha' va' af' kt' kg' : Nat → Int32} (hw : sg_YW K kp kg0 T n ha va af kt kg ha' va' af' kt' kg') : sg_YI K vb kp kg0 N T (fun j => d j || decide (j = n)) ha' va' af' kt' kg' := by
  obtain ⟨w1, w2, w3, w4, w5⟩ := hw
  intro m hm
  obtain ⟨y1, y2, y3, y4⟩ := hY m hm
  by_cases z : m = n
  · subst z
    refine ⟨fun c => ?_, fun c _ => w3 c, ?_, ?_⟩
    · obtain ⟨a1, a2, a3⟩ := w2 c
      obtain ⟨b1, b2, _⟩ := y1 c
      exact ⟨by rw [a1, b1], by rw [a2, b2], fun _ => a3⟩
    · rw [w4]; simp
    · rw [w5]; simp
  · obtain ⟨o1, o2, o3, o4, o5⟩ := w1 m z
    have ed : (d m || decide (m = n)) = d m := by simp [z]
    rw [o1, o2, o3, o4, o5]
    simp only [ed]
    exact ⟨y1, y2, y3, y4⟩
/-- events: only has and value at n -/
theorem sg_YW_e {n : Nat} (hc : sg_cell (K n) = false) (hk12 : ¬ K n = 12) (hk8 : ¬ K n = 8) (hkt : kt n = sg_b (kp n)) (hkg : kg n = kg0 n) {b : Bool} {v : Int32} (hb : b = (T n).1) (hv : v = (T n).2) : sg_YW K kp kg0 T n ha va af kt kg (upd ha n (sg_b b)) (upd va n v) af kt kg := by
  refine ⟨fun j hj => ⟨pk_un hj, pk_un hj, rfl, rfl, rfl⟩, fun c => absurd (hc.symm.trans c) (by decide), fun _ => ⟨by rw [pk_us, hb], by rw [pk_us, hv]⟩, ?_, ?_⟩
  · rw [if_neg hk12, hkt]
  · rw [if_neg hk8, hkg]
/-- cells: only the value after at n -/
theorem sg_YW_c {n : Nat} (hc : sg_cell (K n) = true) (hkt : kt n = sg_b (kp n)) (hkg : kg n = kg0 n) {v : Int32} (hv : v = (T n).2) : sg_YW K kp kg0 T n ha va af kt kg ha va (upd af n v) kt kg := by
  have hk12 : ¬ K n = 12 := fun y => by rw [y] at hc; exact absurd hc (by decide)
  have hk8 : ¬ K n = 8 := fun y => by rw [y] at hc; exact absurd hc (by decide)
  refine ⟨fun j hj => ⟨rfl, rfl, pk_un hj, rfl, rfl⟩, fun _ => ⟨rfl, rfl, by rw [pk_us, hv]⟩, fun c => absurd (hc.symm.trans c) (by decide), ?_, ?_⟩
  · rw [if_neg hk12, hkt]
  · rw [if_neg hk8, hkg]
theorem sg_g3 {t : Bool × Int32} {b : Bool} {v : Int32} (h : t = sg_g b v) : (if b = true then v else 0) = t.2 := by rw [h]; rfl
theorem sy_work (hW : sg_WF K A B C N) (hN : N ≤ 24) (hT : ∀ n, n < N → T n = sg_F K A B C vb kp kg0 n T) (hY : sg_YI K vb kp kg0 N T d ha va af kt kg) {n : Nat} (hn : n < N) (hd : d n = false) (hD : ∀ p, p ∈ sg_pl K A B C n → d p = true) {post : SY → Prop}
    (hp : ∀ ha' va' af' kt' kg', sg_YW K kp kg0 T n ha va af kt kg ha' va' af' kt' kg' → post (nI N, ft, K, A, B, C, ha', va', af', tm, dn, kt', kg')) : wpY_work post (nI N, ft, K, A, B, C, ha, va, af, tm, dn, kt, kg) (nI n) := by
  have e : (nI n).toNatClampNeg = n := sg_cl (by omega)
  have i := sg_i24 hn hN
  have i24 : n < 24 := by omega
  have q : ∀ x, x < N → (nI x).toNatClampNeg = x := fun x hx => sg_cl (by omega)
  have ii : ∀ x, x < N → vp_in (nI x) 24 := fun x hx => sg_i24 hx hN
  have hTn := hT n hn
  have hE : ∀ p, p < N → p ∈ sg_pl K A B C n → sg_cell (K p) = false → ha p = sg_b (T p).1 ∧ va p = (T p).2 := by
    intro p hpN hp hpc
    exact (hY p hpN).2.1 hpc (hD p hp)
  have hV : ∀ p, p < N → sg_cell (K p) = true → va p = vb p := fun p hpN hpc => ((hY p hpN).1 hpc).1
  have hA : ∀ p, p < N → p ∈ sg_pl K A B C n → sg_cell (K p) = true → af p = (T p).2 := by
    intro p hpN hp hpc
    exact ((hY p hpN).1 hpc).2.2 (hD p hp)
  have hZ : ∀ p, p < N → sg_cell (K p) = false → (T p).1 = false → (T p).2 = 0 := fun p hp hpc h0 => sg_T0 hW hN hT hp hpc h0
  have hkt : kt n = sg_b (kp n) := by rw [(hY n hn).2.2.1, hd]; simp
  have hkg : kg n = kg0 n := by rw [(hY n hn).2.2.2, hd]; simp
  unfold wpY_work
  simp only [e]
  rcases sg_view hW hN hn with ⟨h, el⟩ | ⟨h, x, hx, ex, cx, el⟩ | ⟨h, x, hx, ex, cx, el⟩ | ⟨h, x, y, hx, ex, cx, hy, ey, cy, el⟩ | ⟨h, ex, el⟩ | ⟨h, x, hx, nx, ex, cx, el⟩ | ⟨h, x, y, hx, ex, cx, hy, ey, cy, el⟩ | ⟨h, x, y, hx, ex, cx, hy, ey, cy, el⟩ | ⟨h, x, y, hx, ex, cx, hy, ey, cy, el⟩ | ⟨h, x, hx, ex, cx, el⟩ | ⟨h, x, hx, ex, cx, el⟩ | ⟨h, x, y, z, hx, ex, cx, hy, ey, cy, hz, ez, cz, el⟩ | ⟨h, x, hx, ex, cx, el⟩ | ⟨h, x, hx, ex, cx, el⟩ | ⟨h, x, y, z, hx, ex, cx, hy, ey, cy, hz, ez, cz, el⟩ | ⟨h, x, hx, ex, cx, el⟩
  · -- 0
    have hF : T n = sg_g (kp n) (kg0 n) := by rw [hTn]; simp [sg_F, h]
    refine ⟨i, nm_r h ⟨i, nm_e ⟨i, nm_e (br_t rfl ?_)⟩⟩⟩
    unfold wY_work_32
    simp only [e, hkt, hkg]
    exact ⟨i, i, sy_give i24 (hp _ _ _ _ _ (sg_YW_e (by rw [h]; decide) (by rw [h]; decide) (by rw [h]; decide) hkt hkg (sg_g1 hF).symm (sg_g3 hF)))⟩
  · -- 1
    obtain ⟨a1, a2⟩ := hE x (by omega) (by rw [el]; simp) cx
    have hF : T n = sg_g (T x).1 ((T x).2 * B n + C n) := by rw [hTn]; simp [sg_F, h, ex, q x (by omega)]
    refine ⟨i, nm_r h ⟨i, nm_r ex ⟨i, nm_e (br_f (by decide) (br_f (by decide) (br_f (by decide) (br_f (by decide) (br_f (by decide) (br_f (by decide) (br_f (by decide) (br_f (by decide) (br_f (by decide) (sy_s1 i24 (by omega) a1 ?_))))))))))⟩⟩⟩
    dsimp only
    rw [a2]
    exact hp _ _ _ _ _ (sg_YW_e (by rw [h]; decide) (by rw [h]; decide) (by rw [h]; decide) hkt hkg (sg_g1 hF).symm (sg_g3 hF))
  · -- 2
    obtain ⟨a1, a2⟩ := hE x (by omega) (by rw [el]; simp) cx
    have hF : T n = sg_g (!decide ((T x).2 < B n) && (T x).1) (T x).2 := by rw [hTn]; simp [sg_F, h, ex, q x (by omega), Bool.and_comm]
    refine ⟨i, nm_r h ⟨i, nm_r ex ⟨i, nm_e (br_f (by decide) (br_f (by decide) (br_f (by decide) (br_f (by decide) (br_f (by decide) (br_f (by decide) (br_f (by decide) (br_f (by decide) (br_f (by decide) (sy_s2 i24 (by omega) a1 ?_))))))))))⟩⟩⟩
    dsimp only
    rw [a2]
    exact hp _ _ _ _ _ (sg_YW_e (by rw [h]; decide) (by rw [h]; decide) (by rw [h]; decide) hkt hkg (sg_g1 hF).symm (sg_g3 hF))
  · -- 3
    obtain ⟨a1, a2⟩ := hE x (by omega) (by rw [el]; simp) cx
    obtain ⟨b1, b2⟩ := hE y (by omega) (by rw [el]; simp) cy
    have hF : T n = sg_g ((T x).1 || (T y).1) ((T x).2 + (T y).2) := by rw [hTn]; simp [sg_F, h, ex, ey, q x (by omega), q y (by omega)]
    have ix := ii x (by omega)
    have iy := ii y (by omega)
    have w83 : ∀ b, b = ((T x).1 || (T y).1) → wY_work_83 post (nI x) (nI y) (sg_b b) (nI n) (nI N) ft K A B C ha va af tm dn kt kg := by
      intro b hb
      unfold wY_work_83
      simp only [q x (by omega), q y (by omega), a2, b2]
      refine ⟨ix, iy, sy_give i24 (hp _ _ _ _ _ (sg_YW_e (by rw [h]; decide) (by rw [h]; decide) (by rw [h]; decide) hkt hkg (hb.trans (sg_g1 hF).symm) ?_))⟩
      rw [hb]
      exact sg_g3 hF
    refine ⟨i, nm_r h ⟨i, nm_r ex ⟨i, nm_r ey (br_f (by decide) (br_f (by decide) (br_t rfl ⟨ix, ?_⟩)))⟩⟩⟩
    rw [q x (by omega), q y (by omega), a1, b1]
    refine sg_bb (fun z => ⟨iy, sg_bb (fun z' => ?_) (fun z' => ?_)⟩) (fun z => ?_)
    · exact w83 false (by rw [z, z']; rfl)
    · unfold wY_work_78
      exact w83 true (by rw [z, z']; rfl)
    · unfold wY_work_78
      exact w83 true (by rw [z]; rfl)
  · -- 4, none
    have hv : va n = (T n).2 := by rw [hV n hn (by rw [h]; decide), hTn]; simp [sg_F, h, ex, sg_m1n]
    exact ⟨i, nm_r h ⟨i, nm_r ex ⟨i, nm_e (br_f (by decide) (br_f (by decide) (br_f (by decide) (br_t rfl (br_t (by decide) ⟨i, i, nm_e (hp _ _ _ _ _ (sg_YW_c (by rw [h]; decide) hkt hkg hv))⟩)))))⟩⟩⟩
  · -- 4
    obtain ⟨a1, a2⟩ := hE x hx (by rw [el]; simp) cx
    have ix := ii x hx
    have hx0 : ¬ nI x < 0 := nI_pos (by omega)
    refine ⟨i, nm_r h ⟨i, nm_r ex ⟨i, nm_e (br_f (by decide) (br_f (by decide) (br_f (by decide) (br_t rfl (br_f hx0 ⟨ix, ?_⟩)))))⟩⟩⟩
    rw [q x hx, a1]
    refine sg_bb (fun z => ⟨i, i, nm_e (hp _ _ _ _ _ (sg_YW_c (by rw [h]; decide) hkt hkg ?_))⟩) (fun z => ⟨ix, i, nm_e (hp _ _ _ _ _ (sg_YW_c (by rw [h]; decide) hkt hkg ?_))⟩)
    · rw [hV n hn (by rw [h]; decide), hTn]; simp [sg_F, h, ex, q x hx, z]
    · rw [a2, hTn]; simp [sg_F, h, ex, q x hx, z, hx0]
  · -- 5
    obtain ⟨a1, a2⟩ := hE x (by omega) (by rw [el]; simp) cx
    have hF : T n = sg_g (T x).1 ((T x).2 + vb y) := by rw [hTn]; simp [sg_F, h, ex, ey, q x (by omega), q y (by omega)]
    refine ⟨i, nm_r h ⟨i, nm_r ex ⟨i, nm_e (br_f (by decide) (br_f (by decide) (br_f (by decide) (br_f (by decide) (br_f (by decide) (br_f (by decide) (br_f (by decide) (br_f (by decide) (br_f (by decide) (sy_s5 i24 (by omega) (by omega) ey a1 ?_))))))))))⟩⟩⟩
    dsimp only
    rw [a2, hV y (by omega) cy]
    exact hp _ _ _ _ _ (sg_YW_e (by rw [h]; decide) (by rw [h]; decide) (by rw [h]; decide) hkt hkg (sg_g1 hF).symm (sg_g3 hF))
  · -- 6
    have hv : (T x).2 + (T y).2 = (T n).2 := by rw [hTn]; simp [sg_F, h, ex, ey, q x (by omega), q y (by omega)]
    refine ⟨i, nm_r h ⟨i, nm_r ex ⟨i, nm_r ey (br_f (by decide) (br_f (by decide) (br_f (by decide) (br_f (by decide) (br_t rfl ⟨ii x (by omega), br_f (by decide) ⟨ii y (by omega), br_f (by decide) ?_⟩⟩)))))⟩⟩⟩
    unfold wY_work_214
    rw [q x (by omega), q y (by omega), hA x (by omega) (by rw [el]; simp) cx, hA y (by omega) (by rw [el]; simp) cy, e]
    exact sy_made6 i24 h ⟨i, nm_e (hp _ _ _ _ _ (sg_YW_c (by rw [h]; decide) hkt hkg hv))⟩
  · -- 7
    obtain ⟨a1, a2⟩ := hE x (by omega) (by rw [el]; simp) cx
    have hF : T n = sg_g (!decide (vb y = 0) && (T x).1) (T x).2 := by rw [hTn]; simp [sg_F, h, ex, ey, q x (by omega), q y (by omega), Bool.and_comm]
    refine ⟨i, nm_r h ⟨i, nm_r ex ⟨i, nm_e (br_f (by decide) (br_f (by decide) (br_f (by decide) (br_f (by decide) (br_f (by decide) (br_f (by decide) (br_f (by decide) (br_f (by decide) (br_f (by decide) (sy_s7 i24 (by omega) (by omega) ey a1 ?_))))))))))⟩⟩⟩
    dsimp only
    rw [a2, hV y (by omega) cy]
    exact hp _ _ _ _ _ (sg_YW_e (by rw [h]; decide) (by rw [h]; decide) (by rw [h]; decide) hkt hkg (sg_g1 hF).symm (sg_g3 hF))
  · -- 8
    obtain ⟨a1, a2⟩ := hE x (by omega) (by rw [el]; simp) cx
    have hF : T n = sg_g (T x).1 (kg0 n + (T x).2) := by rw [hTn]; simp [sg_F, h, ex, q x (by omega)]
    refine ⟨i, nm_r h ⟨i, nm_r ex ⟨i, nm_e (br_f (by decide) (br_f (by decide) (br_f (by decide) (br_f (by decide) (br_f (by decide) (br_f (by decide) (br_f (by decide) (br_f (by decide) (br_f (by decide) (sy_s8 i24 (by omega) (by omega) a1 ?_))))))))))⟩⟩⟩
    dsimp only
    refine hp _ _ _ _ _ ⟨fun j hj => ⟨pk_un hj, pk_un hj, rfl, rfl, ?_⟩, fun c => ?_, fun _ => ⟨?_, ?_⟩, ?_, ?_⟩
    · split
      · exact pk_un hj
      · rfl
    · rw [h] at c; exact absurd c (by decide)
    · rw [pk_us, sg_g1 hF]
    · rw [pk_us, a2, hkg]; exact sg_g3 hF
    · rw [hkt, if_neg (by rw [h]; decide)]
    · rw [if_pos h, sg_g1 hF]
      by_cases t : (T x).1 = true
      · rw [if_pos t, if_pos t, pk_us, a2, hkg]
        have := sg_g3 hF
        rw [if_pos t] at this
        exact this
      · rw [if_neg t, if_neg t, hkg]
  · -- 9
    have a1 := hA x (by omega) (by rw [el]; simp) cx
    have a2 := hV x (by omega) cx
    have ix := ii x (by omega)
    have hF : T n = sg_g (!decide ((T x).2 = vb x)) (T x).2 := by rw [hTn]; simp [sg_F, h, ex, q x (by omega)]
    have w249 : ∀ b, b = (!decide ((T x).2 = vb x)) → wY_work_249 post (nI x) (sg_b b) (nI n) (nI N) ft K A B C ha va af tm dn kt kg := by
      intro b hb
      unfold wY_work_249
      simp only [q x (by omega), a1]
      refine ⟨ix, sy_give i24 (hp _ _ _ _ _ (sg_YW_e (by rw [h]; decide) (by rw [h]; decide) (by rw [h]; decide) hkt hkg (hb.trans (sg_g1 hF).symm) ?_))⟩
      rw [hb]
      exact sg_g3 hF
    refine ⟨i, nm_r h ⟨i, nm_r ex ⟨i, nm_e (br_f (by decide) (br_f (by decide) (br_f (by decide) (br_f (by decide) (br_f (by decide) (br_f (by decide) (br_f (by decide) (br_t rfl ⟨ix, ix, ?_⟩))))))))⟩⟩⟩
    rw [q x (by omega), a1, a2]
    by_cases z : (T x).2 = vb x
    · exact br_t z (w249 false (by simp [z]))
    · exact br_f z (w249 true (by simp [z]))
  · -- 10
    obtain ⟨a1, a2⟩ := hE y (by omega) (by rw [el]; simp) cy
    obtain ⟨b1, b2⟩ := hE z (by omega) (by rw [el]; simp) cz
    have ix := ii x (by omega)
    refine ⟨i, nm_r h ⟨i, nm_r ex ⟨i, nm_r ey (br_f (by decide) (br_f (by decide) (br_f (by decide) (br_f (by decide) (br_f (by decide) (br_f (by decide) (br_f (by decide) (br_f (by decide) (br_t rfl ⟨ix, ?_⟩)))))))))⟩⟩⟩
    rw [q x (by omega), hV x (by omega) cx, ez]
    by_cases v0 : vb x = 0
    · have hF : T n = sg_g (T z).1 (T z).2 := by rw [hTn]; simp [sg_F, h, ex, ez, q x (by omega), q z (by omega), v0]
      refine br_t v0 ⟨i, sy_copy (b := true) i24 (by omega) b1 ?_⟩
      rw [Bool.true_and, b2]
      exact hp _ _ _ _ _ (sg_YW_e (by rw [h]; decide) (by rw [h]; decide) (by rw [h]; decide) hkt hkg (sg_g1 hF).symm (sg_g3 hF))
    · have hF : T n = sg_g (T y).1 (T y).2 := by rw [hTn]; simp [sg_F, h, ex, ey, q x (by omega), q y (by omega), v0]
      refine br_f v0 (sy_copy (b := true) i24 (by omega) a1 ?_)
      rw [Bool.true_and, a2]
      exact hp _ _ _ _ _ (sg_YW_e (by rw [h]; decide) (by rw [h]; decide) (by rw [h]; decide) hkt hkg (sg_g1 hF).symm (sg_g3 hF))
  · -- 11
    have hF : T n = sg_g (kp n) (kg0 n) := by rw [hTn]; simp [sg_F, h]
    refine ⟨i, nm_r h ⟨i, nm_e ⟨i, nm_e (br_f (by decide) (br_t rfl ?_))⟩⟩⟩
    unfold wY_work_32
    simp only [e, hkt, hkg]
    exact ⟨i, i, sy_give i24 (hp _ _ _ _ _ (sg_YW_e (by rw [h]; decide) (by rw [h]; decide) (by rw [h]; decide) hkt hkg (sg_g1 hF).symm (sg_g3 hF)))⟩
  · -- 12
    obtain ⟨a1, a2⟩ := hE x (by omega) (by rw [el]; simp) cx
    have hF : T n = sg_g ((T x).1 && !kp n) (T x).2 := by rw [hTn]; simp [sg_F, h, ex, q x (by omega)]
    refine ⟨i, nm_r h ⟨i, nm_r ex ⟨i, nm_e (br_f (by decide) (br_f (by decide) (br_f (by decide) (br_f (by decide) (br_f (by decide) (br_f (by decide) (br_f (by decide) (br_f (by decide) (br_f (by decide) (sy_s12 i24 (by omega) a1 hkt ?_))))))))))⟩⟩⟩
    dsimp only
    refine hp _ _ _ _ _ ⟨fun j hj => ⟨pk_un hj, pk_un hj, rfl, ?_, rfl⟩, fun c => ?_, fun _ => ⟨?_, ?_⟩, ?_, ?_⟩
    · split
      · exact pk_un hj
      · rfl
    · rw [h] at c; exact absurd c (by decide)
    · rw [pk_us, sg_g1 hF]
    · rw [pk_us, a2]; exact sg_g3 hF
    · rw [if_pos h, sg_g1 hF]
      by_cases t : ((T x).1 && !kp n) = true
      · rw [if_pos t, pk_us, t, Bool.or_true]; rfl
      · rw [if_neg t, hkt, sg_nt t, Bool.or_false]
    · rw [if_neg (by rw [h]; decide), hkg]
  · -- 13
    have hv : (if (T x).2 = 0 then (T z).2 else (T y).2) = (T n).2 := by rw [hTn]; simp [sg_F, h, ex, ey, ez, q x (by omega), q y (by omega), q z (by omega)]
    refine ⟨i, nm_r h ⟨i, nm_r ex ⟨i, nm_r ey (br_f (by decide) (br_f (by decide) (br_f (by decide) (br_f (by decide) (br_f (by decide) (br_t rfl ⟨ii x (by omega), br_f (by decide) ⟨ii y (by omega), ?_⟩⟩))))))⟩⟩⟩
    unfold wY_work_193
    rw [e, ez]
    refine br_t rfl ⟨i, ii z (by omega), ?_⟩
    unfold wY_work_214
    rw [q x (by omega), q y (by omega), q z (by omega), hA x (by omega) (by rw [el]; simp) cx, hA y (by omega) (by rw [el]; simp) cy, hA z (by omega) (by rw [el]; simp) cz, e]
    exact sy_made13 i24 h ⟨i, nm_e (hp _ _ _ _ _ (sg_YW_c (by rw [h]; decide) hkt hkg hv))⟩
  · -- 14
    have hv : (T x).2 * B n + C n = (T n).2 := by rw [hTn]; simp [sg_F, h, ex, q x (by omega)]
    refine ⟨i, nm_r h ⟨i, nm_r ex ⟨i, nm_e (br_f (by decide) (br_f (by decide) (br_f (by decide) (br_f (by decide) (br_f (by decide) (br_f (by decide) (br_t rfl ⟨ii x (by omega), br_t rfl (br_f (by decide) ?_)⟩)))))))⟩⟩⟩
    unfold wY_work_214
    rw [q x (by omega), hA x (by omega) (by rw [el]; simp) cx, e]
    exact sy_made14 i24 h ⟨i, nm_e (hp _ _ _ _ _ (sg_YW_c (by rw [h]; decide) hkt hkg hv))⟩
end SYC
end
section
/-! the reference's transaction: its loops -/
def sg_YE (K A : Nat → Int32) (kp : Nat → Bool) (kg0 : Nat → Int32) (N : Nat) (T : Nat → Bool × Int32) (tm0 ha va tm kt kg : Nat → Int32) : Prop := ∀ j, j < N → ha j = sg_b (T j).1 ∧ va j = (T j).2 ∧ tm j = (if (T j).1 = true then tm0 j + 1 else tm0 j) ∧ kt j = sg_b (sg_kp' K A kp T j) ∧ kg j = sg_kg' K A kg0 T j
section SYL
variable {N : Nat} {ft : Int32} {K A B C ha va af tm dn kt kg vb kg0 tm0 : Nat → Int32} {kp d : Nat → Bool} {T : Nat → Bool × Int32}
theorem sy_ready2 (hW : sg_WF K A B C N) (hN : N ≤ 24) (hdn : ∀ m, m < N → dn m = sg_b (d m)) {n : Nat} (hn : n < N) {post : Int32 → Prop} (h1 : (∀ p, p ∈ sg_pl K A B C n → d p = true) → d n = false → post 1) (h0 : ¬ ((∀ p, p ∈ sg_pl K A B C n → d p = true) ∧ d n = false) → post 0) :
    ∀ dd i, i + dd = 3 → ∀ m, dd < m → (∀ j, j < i → ∀ p, p < 32 → sg_pt K A B C n j = nI p → d p = true) → wY_isReady_2 post (nI n) (nI N) ft K A B C ha va af tm dn kt kg m (nI i) := by
  have e : (nI n).toNatClampNeg = n := sg_cl (by omega)
  have q := sg_i24 hn hN
  intro dd
  induction dd with
  | zero =>
    intro i hi m hm hp
    obtain ⟨m, rfl⟩ : ∃ m', m = m' + 1 := ⟨m - 1, by omega⟩
    have ei : i = 3 := by omega
    subst ei
    refine br_t (by decide) ⟨q, ?_⟩
    rw [e, hdn n hn]
    refine sg_bb (fun b => h1 (fun p hp' => ?_) b) (fun b => h0 (fun z => absurd (z.2.symm.trans b) (by decide)))
    obtain ⟨j, hj, hpt⟩ := sg_pt_2 hW hN hn hp'
    have := sg_pl_lt hW hN hn hp'
    exact hp j hj p (by omega) hpt
  | succ dd ih =>
    intro i hi m hm hp
    obtain ⟨m, rfl⟩ : ∃ m', m = m' + 1 := ⟨m - 1, by omega⟩
    refine br_f (nI_ge (b := 3) (by omega) (by omega)) (sy_part (by omega) (by omega) (br_c (fun l => ?_) (fun l => sy_part (by omega) (by omega) ?_)))
    · refine nm_r (nI_1 i) (ih (i + 1) (by omega) m (by omega) (fun j hj p hp' hpt => ?_))
      by_cases z : j = i
      · subst z
        rw [hpt] at l
        exact absurd l (nI_pos (by omega))
      · exact hp j (by omega) p hp' hpt
    · obtain ⟨p, ep, hpp⟩ := sg_pt_1 hW hN hn (by omega) l
      have hpN := sg_pl_lt hW hN hn hpp
      have epc : (nI p).toNatClampNeg = p := sg_cl (by omega)
      rw [ep, epc, hdn p hpN]
      refine ⟨sg_i24 hpN hN, sg_bb (fun b => h0 (fun z => absurd ((z.1 p hpp).symm.trans b) (by decide))) (fun b => nm_r (nI_1 i) (ih (i + 1) (by omega) m (by omega) (fun j hj p' hp' hpt => ?_)))⟩
      by_cases z : j = i
      · subst z
        rw [ep] at hpt
        have := sg_inj hpt (by omega) hp'
        subst this
        exact b
      · exact hp j (by omega) p' hp' hpt
theorem sy_ready (hW : sg_WF K A B C N) (hN : N ≤ 24) (hdn : ∀ m, m < N → dn m = sg_b (d m)) {n : Nat} (hn : n < N) {post : Int32 → Prop} (h1 : (∀ p, p ∈ sg_pl K A B C n → d p = true) → d n = false → post 1) (h0 : ¬ ((∀ p, p ∈ sg_pl K A B C n → d p = true) ∧ d n = false) → post 0) : wpY_isReady post (nI N, ft, K, A, B, C, ha, va, af, tm, dn, kt, kg) (nI n) := by
  unfold wpY_isReady
  exact ⟨4, sy_ready2 hW hN hdn hn h1 h0 3 0 (by omega) 4 (by omega) (fun j hj => by omega)⟩
theorem sy_c33 (hW : sg_WF K A B C N) (hN : N ≤ 24) (hT : ∀ n, n < N → T n = sg_F K A B C vb kp kg0 n T) {rk : Nat → Nat} (hr : ∀ m, m < N → ∀ p, p ∈ sg_pl K A B C m → rk p < rk m) {r : Nat} {post : Int32 → SY → Prop} {J : Int32 → Int32 → Int32 → (Nat → Int32) → (Nat → Int32) → (Nat → Int32) → (Nat → Int32) → (Nat → Int32) → (Nat → Int32) → (Nat → Int32) → (Nat → Int32) → (Nat → Int32) → (Nat → Int32) → (Nat → Int32) → Prop}
    (hJ : ∀ d ha va af dn kt kg, (∀ m, m < N → dn m = sg_b (d m)) → sg_YI K vb kp kg0 N T d ha va af kt kg → (∀ m, m < N → rk m < r + 1 → d m = true) → J (nI (r + 1)) (nI N) ft K A B C ha va af tm dn kt kg) :
    ∀ dd i, i + dd = N → ∀ m, dd < m → ∀ (d : Nat → Bool) ha va af dn kt kg, (∀ m, m < N → dn m = sg_b (d m)) → sg_YI K vb kp kg0 N T d ha va af kt kg → (∀ m, m < N → (rk m < r ∨ (rk m < r + 1 ∧ m < i)) → d m = true) → wY_commit_33 post J (nI r) m (nI i) (nI N) ft K A B C ha va af tm dn kt kg := by
  intro dd
  induction dd with
  | zero =>
    intro i hi m hm d ha va af dn kt kg h1 h2 h3
    obtain ⟨m, rfl⟩ : ∃ m', m = m' + 1 := ⟨m - 1, by omega⟩
    have e : i = N := by omega
    subst e
    exact br_t (nI_le (Nat.le_refl _) (by omega)) (nm_r (nI_1 r) (hJ d ha va af dn kt kg h1 h2 (fun m hm hk => h3 m hm (Or.inr ⟨hk, hm⟩))))
  | succ dd ih =>
    intro i hi m hm d ha va af dn kt kg h1 h2 h3
    obtain ⟨m, rfl⟩ : ∃ m', m = m' + 1 := ⟨m - 1, by omega⟩
    have hi' : i < N := by omega
    have e : (nI i).toNatClampNeg = i := sg_cl (by omega)
    have q := sg_i24 hi' hN
    refine br_f (nI_ge hi' (by omega)) (sy_ready hW hN h1 hi' (fun hd hdi => br_f sg_10 (sy_work hW hN hT h2 hi' hdi hd (fun ha' va' af' kt' kg' hw => ⟨q, nm_r (e' := upd dn i 1) (by rw [e, sg_nar1]) (nm_r (nI_1 i) (ih (i + 1) (by omega) m (by omega) (fun j => d j || decide (j = i)) ha' va' af' (upd dn i 1) kt' kg' (fun k hk => ?_) (sg_YW_step h2 hw) (fun k hk hl => ?_)))⟩))) (fun hn => br_t rfl (nm_r (nI_1 i) (ih (i + 1) (by omega) m (by omega) d ha va af dn kt kg h1 h2 (fun k hk hl => ?_)))))
    · by_cases z : k = i
      · subst z
        rw [pk_us]
        simp [sg_b]
      · rw [pk_un z, h1 k hk]
        simp [z]
    · by_cases z : k = i
      · simp [z]
      · have := h3 k hk (by omega)
        simp [this]
    · by_cases z : k = i
      · subst z
        by_cases y : d k = true
        · exact y
        · refine absurd ⟨fun p hp => ?_, sg_nt y⟩ hn
          have h4 := hr k hk p hp
          exact h3 p (sg_pl_lt hW hN hk hp) (Or.inl (by omega))
      · exact h3 k hk (by omega)
theorem sy_c143 (hW : sg_WF K A B C N) (hN : N ≤ 24) (hha : ∀ m, m < N → ha m = sg_b (T m).1) (hva : ∀ m, m < N → va m = (T m).2) {c : Int32} {post : Int32 → SY → Prop}
    (hp : ∀ kt kg, (∀ j, j < N → kt j = sg_b (sg_kp' K A kp T j) ∧ kg j = sg_kg' K A kg0 T j) → post c (nI N, ft + 1, K, A, B, C, ha, va, af, tm, dn, kt, kg)) :
    ∀ dd i, i + dd = N → ∀ m, dd < m → ∀ kt kg, (∀ j, j < N → (j < i → kt j = sg_b (sg_kp' K A kp T j) ∧ kg j = sg_kg' K A kg0 T j) ∧ (i ≤ j → kt j = sg_b (if K j = 12 then (kp j || (T j).1) else kp j) ∧ kg j = (if K j = 8 then (if (T j).1 = true then (T j).2 else kg0 j) else kg0 j))) → wY_commit_143 post c (nI N) ft m (nI i) K A B C ha va af tm dn kt kg := by
  intro dd
  induction dd with
  | zero =>
    intro i hi m hm kt kg hI
    obtain ⟨m, rfl⟩ : ∃ m', m = m' + 1 := ⟨m - 1, by omega⟩
    have e : i = N := by omega
    subst e
    exact br_t (nI_le (Nat.le_refl _) (by omega)) (nm_e (hp kt kg (fun j hj => (hI j hj).1 hj)))
  | succ dd ih =>
    intro i hi m hm kt kg hI
    obtain ⟨m, rfl⟩ : ∃ m', m = m' + 1 := ⟨m - 1, by omega⟩
    have hi' : i < N := by omega
    have e : (nI i).toNatClampNeg = i := sg_cl (by omega)
    have q := sg_i24 hi' hN
    obtain ⟨o1, o2⟩ := (hI i hi').2 (Nat.le_refl _)
    have next : ∀ kt' kg', (∀ j, j ≠ i → kt' j = kt j ∧ kg' j = kg j) → kt' i = sg_b (sg_kp' K A kp T i) → kg' i = sg_kg' K A kg0 T i → wY_commit_143 post c (nI N) ft m (nI (i + 1)) K A B C ha va af tm dn kt' kg' := by
      intro kt' kg' g1 g2 g3
      refine ih (i + 1) (by omega) m (by omega) kt' kg' (fun j hj => ?_)
      by_cases z : j = i
      · subst z
        exact ⟨fun _ => ⟨g2, g3⟩, fun y => by omega⟩
      · obtain ⟨a1, a2⟩ := g1 j z
        rw [a1, a2]
        exact ⟨fun y => (hI j hj).1 (by omega), fun y => (hI j hj).2 (by omega)⟩
    by_cases k0 : K i = 0
    · have n11 : ¬ K i = 11 := by rw [k0]; decide
      refine br_f (nI_ge hi' (by omega)) ⟨q, br_t (by rw [e]; exact k0) ⟨q, nm_r (e' := upd kt i 0) (by rw [e, sg_nar0]) ⟨q, br_f (by rw [e]; exact n11) (nm_r (nI_1 i) (next _ _ (fun j hj => ⟨pk_un hj, rfl⟩) ?_ ?_))⟩⟩⟩
      · rw [pk_us]; simp [sg_kp', k0, sg_b]
      · rw [o2]; simp [sg_kg', k0]
    · by_cases k11 : K i = 11
      · have hx : ∃ x, x < N ∧ A i = nI x ∧ sg_cell (K x) = false := by
          have hf := hW i hi'
          rw [k11, sg_fit11] at hf
          obtain ⟨x, h1, h2, h3⟩ := hf
          exact ⟨x, by omega, h2, h3⟩
        obtain ⟨x, hx, ex, cx⟩ := hx
        have eq : (nI x).toNatClampNeg = x := sg_cl (by omega)
        have qx : vp_in (A (nI i).toNatClampNeg) 24 := by rw [e, ex]; exact sg_i24 hx hN
        refine br_f (nI_ge hi' (by omega)) ⟨q, br_f (by rw [e]; exact k0) ⟨q, br_t (by rw [e]; exact k11) ⟨q, qx, q, nm_r (e' := upd kt i (sg_b (T x).1)) (by rw [e, ex, eq, hha x hx, sg_b_nar]) ⟨q, qx, q, nm_r (e' := upd kg i (T x).2) (by rw [e, ex, eq, hva x hx]) (nm_r (nI_1 i) (next _ _ (fun j hj => ⟨pk_un hj, pk_un hj⟩) ?_ ?_))⟩⟩⟩⟩
        · rw [pk_us]; simp [sg_kp', k11, ex, eq]
        · rw [pk_us]; simp [sg_kg', k11, ex, eq]
      · refine br_f (nI_ge hi' (by omega)) ⟨q, br_f (by rw [e]; exact k0) ⟨q, br_f (by rw [e]; exact k11) (nm_r (nI_1 i) (next kt kg (fun j hj => ⟨rfl, rfl⟩) ?_ ?_))⟩⟩
        · rw [o1]; simp [sg_kp', k0, k11]
        · rw [o2]; simp [sg_kg', k11]
theorem sy_c77 (hN : N ≤ 24) (hT1 : ∀ n, n < N → sg_cell (K n) = true → (T n).1 = false) (hha : ∀ m, m < N → ha m = sg_b (T m).1) (haf : ∀ m, m < N → sg_cell (K m) = true → af m = (T m).2) {post : Int32 → SY → Prop}
    (hp : ∀ va tm, (∀ j, j < N → va j = (T j).2 ∧ tm j = (if (T j).1 = true then tm0 j + 1 else tm0 j)) → ∃ m, wY_commit_143 post (nI (sg_cn (fun j => (T j).1) N)) (nI N) ft m 0 K A B C ha va af tm dn kt kg) :
    ∀ dd i, i + dd = N → ∀ m, dd < m → ∀ va tm, (∀ j, j < N → (j < i → va j = (T j).2 ∧ tm j = (if (T j).1 = true then tm0 j + 1 else tm0 j)) ∧ (i ≤ j → (sg_cell (K j) = false → va j = (T j).2) ∧ tm j = tm0 j)) → wY_commit_77 post (nI N) ft m (nI (sg_cn (fun j => (T j).1) i)) (nI i) K A B C ha va af tm dn kt kg := by
  intro dd
  induction dd with
  | zero =>
    intro i hi m hm va tm hI
    obtain ⟨m, rfl⟩ : ∃ m', m = m' + 1 := ⟨m - 1, by omega⟩
    have e : i = N := by omega
    subst e
    exact br_t (nI_le (Nat.le_refl _) (by omega)) (hp va tm (fun j hj => (hI j hj).1 hj))
  | succ dd ih =>
    intro i hi m hm va tm hI
    obtain ⟨m, rfl⟩ : ∃ m', m = m' + 1 := ⟨m - 1, by omega⟩
    have hi' : i < N := by omega
    have e : (nI i).toNatClampNeg = i := sg_cl (by omega)
    have q := sg_i24 hi' hN
    obtain ⟨o1, o2⟩ := (hI i hi').2 (Nat.le_refl _)
    have next : ∀ va' tm', (∀ j, j ≠ i → va' j = va j ∧ tm' j = tm j) → va' i = (T i).2 → tm' i = (if (T i).1 = true then tm0 i + 1 else tm0 i) → wY_commit_77 post (nI N) ft m (nI (sg_cn (fun j => (T j).1) (i + 1))) (nI (i + 1)) K A B C ha va' af tm' dn kt kg := by
      intro va' tm' g1 g2 g3
      refine ih (i + 1) (by omega) m (by omega) va' tm' (fun j hj => ?_)
      by_cases z : j = i
      · subst z
        exact ⟨fun _ => ⟨g2, g3⟩, fun y => by omega⟩
      · obtain ⟨a1, a2⟩ := g1 j z
        rw [a1, a2]
        exact ⟨fun y => (hI j hj).1 (by omega), fun y => (hI j hj).2 (by omega)⟩
    simp only [sg_cn_s] at next
    refine br_f (nI_ge hi' (by omega)) ⟨q, ?_⟩
    rw [e]
    refine sy_ck (fun c => br_f sg_10 ⟨q, q, nm_e (nm_r (nI_1 i) ?_)⟩) (fun c => br_t rfl ⟨q, ?_⟩)
    · have t := hT1 i hi' c
      have := next (upd va i (af i)) tm (fun j hj => ⟨pk_un hj, rfl⟩) (by rw [pk_us, haf i hi' c]) (by rw [o2, t]; simp)
      rw [t] at this
      exact this
    · rw [hha i hi']
      refine sg_bb (fun b => nm_r (nI_1 i) ?_) (fun b => nm_r (nI_1 _) ⟨q, q, nm_e (nm_r (nI_1 i) ?_)⟩)
      · have := next va tm (fun j hj => ⟨rfl, rfl⟩) (o1 c) (by rw [o2, b]; simp)
        rw [b] at this
        exact this
      · have := next va (upd tm i (tm i + 1)) (fun j hj => ⟨rfl, pk_un hj⟩) (o1 c) (by rw [pk_us, o2, b]; simp)
        rw [b] at this
        exact this
theorem sy_c25 (hW : sg_WF K A B C N) (hN : N ≤ 24) (hT : ∀ n, n < N → T n = sg_F K A B C vb kp kg0 n T) {rk : Nat → Nat} (hr0 : ∀ m, m < N → rk m < N) (hr : ∀ m, m < N → ∀ p, p ∈ sg_pl K A B C m → rk p < rk m) {post : Int32 → SY → Prop}
    (hp : ∀ ha va af tm' dn kt kg, sg_YE K A kp kg0 N T tm ha va tm' kt kg → post (nI (sg_cn (fun j => (T j).1) N)) (nI N, ft + 1, K, A, B, C, ha, va, af, tm', dn, kt, kg)) :
    ∀ dd r, r + dd = 24 → ∀ m, dd < m → ∀ (d : Nat → Bool) ha va af dn kt kg, (∀ m, m < N → dn m = sg_b (d m)) → sg_YI K vb kp kg0 N T d ha va af kt kg → (∀ m, m < N → rk m < r → d m = true) → wY_commit_25 post m (nI r) (nI N) ft K A B C ha va af tm dn kt kg := by
  intro dd
  induction dd with
  | zero =>
    intro r hr' m hm d ha va af dn kt kg h1 h2 h3
    obtain ⟨m, rfl⟩ : ∃ m', m = m' + 1 := ⟨m - 1, by omega⟩
    have e : r = 24 := by omega
    subst e
    have hd : ∀ m, m < N → d m = true := fun m hm => h3 m hm (by have := hr0 m hm; omega)
    have hT1 : ∀ n, n < N → sg_cell (K n) = true → (T n).1 = false := fun n hn hc => sg_T1 hW hN hT hn hc
    have hha : ∀ m, m < N → ha m = sg_b (T m).1 := by
      intro m hm
      by_cases c : sg_cell (K m) = true
      · rw [hT1 m hm c]; exact ((h2 m hm).1 c).2.1
      · exact ((h2 m hm).2.1 (sg_nt c) (hd m hm)).1
    refine br_t (by decide) ⟨N + 1, sy_c77 (tm0 := tm) hN hT1 hha (fun m hm c => ((h2 m hm).1 c).2.2 (hd m hm)) (fun va' tm' hv => ⟨N + 1, sy_c143 (kp := kp) (kg0 := kg0) (T := T) hW hN hha (fun m hm => (hv m hm).1) (fun kt' kg' hk => hp ha va' af tm' dn kt' kg' (fun j hj => ⟨hha j hj, (hv j hj).1, (hv j hj).2, (hk j hj).1, (hk j hj).2⟩)) N 0 (by omega) (N + 1) (by omega) kt kg (fun j hj => ⟨fun y => by omega, fun _ => ?_⟩)⟩) N 0 (by omega) (N + 1) (by omega) va tm (fun j hj => ⟨fun y => by omega, fun _ => ⟨fun c => ((h2 j hj).2.1 c (hd j hj)).2, rfl⟩⟩)⟩
    obtain ⟨_, _, a3, a4⟩ := h2 j hj
    have hdj := hd j hj
    constructor
    · rw [a3, hdj]; simp
    · rw [a4, hdj]; simp
  | succ dd ih =>
    intro r hr' m hm d ha va af dn kt kg h1 h2 h3
    obtain ⟨m, rfl⟩ : ∃ m', m = m' + 1 := ⟨m - 1, by omega⟩
    exact br_f (nI_ge (b := 24) (by omega) (by omega)) ⟨N + 1, sy_c33 hW hN hT hr (fun d ha va af dn kt kg g1 g2 g3 => ih (r + 1) (by omega) m (by omega) d ha va af dn kt kg g1 g2 g3) N 0 (by omega) (N + 1) (by omega) d ha va af dn kt kg h1 h2 (fun m hm hl => h3 m hm (by omega))⟩
theorem sy_c2 (hW : sg_WF K A B C N) (hN : N ≤ 24) (hR : sg_RK K A B C N) (hT : ∀ n, n < N → T n = sg_F K A B C vb kp kg0 n T) (hY : sg_YI K vb kp kg0 N T (fun _ => false) ha va af kt kg) {post : Int32 → SY → Prop}
    (hp : ∀ ha va af tm' dn kt kg, sg_YE K A kp kg0 N T tm ha va tm' kt kg → post (nI (sg_cn (fun j => (T j).1) N)) (nI N, ft + 1, K, A, B, C, ha, va, af, tm', dn, kt, kg)) :
    ∀ dd i, i + dd = N → ∀ m, dd < m → ∀ dn : Nat → Int32, (∀ j, j < i → dn j = 0) → wY_commit_2 post (nI N) ft m (nI i) K A B C ha va af tm dn kt kg := by
  intro dd
  induction dd with
  | zero =>
    intro i hi m hm dn h1
    obtain ⟨m, rfl⟩ : ∃ m', m = m' + 1 := ⟨m - 1, by omega⟩
    have e : i = N := by omega
    subst e
    obtain ⟨rk, hr0, hr⟩ := sg_rk24 hW hN hR
    exact br_t (nI_le (Nat.le_refl _) (by omega)) ⟨25, sy_c25 hW hN hT hr0 hr hp 24 0 (by omega) 25 (by omega) (fun _ => false) ha va af dn kt kg h1 hY (fun m hm hl => by omega)⟩
  | succ dd ih =>
    intro i hi m hm dn h1
    obtain ⟨m, rfl⟩ : ∃ m', m = m' + 1 := ⟨m - 1, by omega⟩
    have hi' : i < N := by omega
    have e : (nI i).toNatClampNeg = i := sg_cl (by omega)
    have q := sg_i24 hi' hN
    refine br_f (nI_ge hi' (by omega)) ⟨q, nm_r (e' := upd dn i 0) (by rw [e, sg_nar0]) (nm_r (nI_1 i) (ih (i + 1) (by omega) m (by omega) _ (fun j hj => ?_)))⟩
    by_cases z : j = i
    · subst z
      exact pk_us
    · rw [pk_un z]
      exact h1 j (by omega)
theorem sy_commit (hW : sg_WF K A B C N) (hN : N ≤ 24) (hR : sg_RK K A B C N) (hT : ∀ n, n < N → T n = sg_F K A B C va kp kg n T) (hc : ∀ j, j < N → sg_cell (K j) = true → ha j = sg_b false) (hk : ∀ j, j < N → kt j = sg_b (kp j)) {post : Int32 → SY → Prop}
    (hp : ∀ ha' va' af' tm' dn' kt' kg', sg_YE K A kp kg N T tm ha' va' tm' kt' kg' → post (nI (sg_cn (fun j => (T j).1) N)) (nI N, ft + 1, K, A, B, C, ha', va', af', tm', dn', kt', kg')) : wpY_commit post (nI N, ft, K, A, B, C, ha, va, af, tm, dn, kt, kg) := by
  unfold wpY_commit
  refine ⟨N + 1, sy_c2 (vb := va) (kg0 := kg) hW hN hR hT (fun m hm => ⟨fun c => ⟨rfl, hc m hm c, fun y => absurd y Bool.false_ne_true⟩, fun _ y => absurd y Bool.false_ne_true, ?_, ?_⟩) hp N 0 (by omega) (N + 1) (by omega) dn (fun j hj => by omega)⟩
  · rw [hk m hm]; simp
  · simp
end SYL
end
section
/-! what the calls keep of the graph -/
section SGK
variable {K A B C : Nat → Int32} {N n : Nat}
theorem sg_Ev_m {K' : Nat → Int32} {b b' : Nat} (hb : b ≤ b') (hK : ∀ j, j < b → K' j = K j) {v : Int32} (h : sg_Ev K b v) : sg_Ev K' b' v := by
  obtain ⟨j, h1, h2, h3⟩ := h
  exact ⟨j, by omega, h2, by rw [hK j h1]; exact h3⟩
theorem sg_Ce_m {K' : Nat → Int32} {b b' : Nat} (hb : b ≤ b') (hK : ∀ j, j < b → K' j = K j) {v : Int32} (h : sg_Ce K b v) : sg_Ce K' b' v := by
  obtain ⟨j, h1, h2, h3⟩ := h
  exact ⟨j, by omega, h2, by rw [hK j h1]; exact h3⟩
/-- a fitting node that is no HOLD fits by the nodes below it alone -/
theorem sg_fit_m {K' : Nat → Int32} {b b' N' : Nat} (hb : b ≤ b') (hK : ∀ j, j < b → K' j = K j) {k x y z x' : Int32} (h : sg_fit K b N k x y z) (h4 : k = 4 → x' = -1 ∨ sg_Ev K' N' x') (hx : ¬ k = 4 → x' = x) : sg_fit K' b' N' k x' y z := by
  have E : ∀ v, sg_Ev K b v → sg_Ev K' b' v := fun v => sg_Ev_m hb hK
  have D : ∀ v, sg_Ce K b v → sg_Ce K' b' v := fun v => sg_Ce_m hb hK
  rcases h with h | ⟨h, a⟩ | ⟨h, a⟩ | ⟨h, a, b⟩ | ⟨h, a⟩ | ⟨h, a, b⟩ | ⟨h, a, b⟩ | ⟨h, a, b⟩ | ⟨h, a⟩ | ⟨h, a⟩ | ⟨h, a, b, c⟩ | ⟨h, a⟩ | ⟨h, a⟩ | ⟨h, a, b, c⟩ | ⟨h, a⟩ <;> subst h
  · rw [sg_fit0]; trivial
  · rw [sg_fit1, hx (by decide)]; exact E _ a
  · rw [sg_fit2, hx (by decide)]; exact E _ a
  · rw [sg_fit3, hx (by decide)]; exact ⟨E _ a, E _ b⟩
  · rw [sg_fit4]; exact h4 rfl
  · rw [sg_fit5, hx (by decide)]; exact ⟨E _ a, D _ b⟩
  · rw [sg_fit6, hx (by decide)]; exact ⟨D _ a, D _ b⟩
  · rw [sg_fit7, hx (by decide)]; exact ⟨E _ a, D _ b⟩
  · rw [sg_fit8, hx (by decide)]; exact E _ a
  · rw [sg_fit9, hx (by decide)]; exact D _ a
  · rw [sg_fit10, hx (by decide)]; exact ⟨D _ a, E _ b, E _ c⟩
  · rw [sg_fit11, hx (by decide)]; exact E _ a
  · rw [sg_fit12, hx (by decide)]; exact E _ a
  · rw [sg_fit13, hx (by decide)]; exact ⟨D _ a, D _ b, D _ c⟩
  · rw [sg_fit14, hx (by decide)]; exact D _ a
theorem sg_pl_ne (hW : sg_WF K A B C N) (hN : N ≤ 24) (hn : n < N) {p : Nat} (hp : p ∈ sg_pl K A B C n) : p ≠ n := by
  rcases sg_view hW hN hn with ⟨h, el⟩ | ⟨h, x, hx, ex, cx, el⟩ | ⟨h, x, hx, ex, cx, el⟩ | ⟨h, x, y, hx, ex, cx, hy, ey, cy, el⟩ | ⟨h, ex, el⟩ | ⟨h, x, hx, nx, ex, cx, el⟩ | ⟨h, x, y, hx, ex, cx, hy, ey, cy, el⟩ | ⟨h, x, y, hx, ex, cx, hy, ey, cy, el⟩ | ⟨h, x, y, hx, ex, cx, hy, ey, cy, el⟩ | ⟨h, x, hx, ex, cx, el⟩ | ⟨h, x, hx, ex, cx, el⟩ | ⟨h, x, y, z, hx, ex, cx, hy, ey, cy, hz, ez, cz, el⟩ | ⟨h, x, hx, ex, cx, el⟩ | ⟨h, x, hx, ex, cx, el⟩ | ⟨h, x, y, z, hx, ex, cx, hy, ey, cy, hz, ez, cz, el⟩ | ⟨h, x, hx, ex, cx, el⟩ <;> (rw [el] at hp; first | (simp only [List.mem_cons, List.not_mem_nil, or_false] at hp; omega) | (cases hp))
theorem sg_pl_c {K' A' B' C' : Nat → Int32} (h1 : K' n = K n) (h2 : A' n = A n) (h3 : B' n = B n) (h4 : C' n = C n) : sg_pl K' A' B' C' n = sg_pl K A B C n := by
  unfold sg_pl
  rw [h1, h2, h3, h4]
theorem sg_mk_c {K' A' B' C' c : Nat → Int32} (h1 : K' n = K n) (h2 : A' n = A n) (h3 : B' n = B n) (h4 : C' n = C n) : sg_mk K' A' B' C' c n = sg_mk K A B C c n := by
  unfold sg_mk
  rw [h1, h2, h3, h4]
/-- made cells by the values of their parts alone -/
theorem sg_mk_v (hW : sg_WF K A B C N) (hN : N ≤ 24) (hn : n < N) (hk : K n = 6 ∨ K n = 13 ∨ K n = 14) {c c' : Nat → Int32} (h : ∀ p, p < n → c p = c' p) : sg_mk K A B C c n = sg_mk K A B C c' n := by
  have q : ∀ x, x < n → (nI x).toNatClampNeg = x := fun x hx => sg_cl (by omega)
  rcases sg_view hW hN hn with ⟨h, el⟩ | ⟨h, x, hx, ex, cx, el⟩ | ⟨h, x, hx, ex, cx, el⟩ | ⟨h, x, y, hx, ex, cx, hy, ey, cy, el⟩ | ⟨h, ex, el⟩ | ⟨h, x, hx, nx, ex, cx, el⟩ | ⟨h, x, y, hx, ex, cx, hy, ey, cy, el⟩ | ⟨h, x, y, hx, ex, cx, hy, ey, cy, el⟩ | ⟨h, x, y, hx, ex, cx, hy, ey, cy, el⟩ | ⟨h, x, hx, ex, cx, el⟩ | ⟨h, x, hx, ex, cx, el⟩ | ⟨h, x, y, z, hx, ex, cx, hy, ey, cy, hz, ez, cz, el⟩ | ⟨h, x, hx, ex, cx, el⟩ | ⟨h, x, hx, ex, cx, el⟩ | ⟨h, x, y, z, hx, ex, cx, hy, ey, cy, hz, ez, cz, el⟩ | ⟨h, x, hx, ex, cx, el⟩
  · rw [h] at hk; exact absurd hk (by decide)
  · rw [h] at hk; exact absurd hk (by decide)
  · rw [h] at hk; exact absurd hk (by decide)
  · rw [h] at hk; exact absurd hk (by decide)
  · rw [h] at hk; exact absurd hk (by decide)
  · rw [h] at hk; exact absurd hk (by decide)
  · rw [h] at hk; exact absurd hk (by decide)
  · simp only [sg_mk, ex, ey, q x hx, q y hy]
    rename_i h'
    rw [h' x hx, h' y hy, h]
    simp
  · rw [h] at hk; exact absurd hk (by decide)
  · rw [h] at hk; exact absurd hk (by decide)
  · rw [h] at hk; exact absurd hk (by decide)
  · rw [h] at hk; exact absurd hk (by decide)
  · rw [h] at hk; exact absurd hk (by decide)
  · rw [h] at hk; exact absurd hk (by decide)
  · simp only [sg_mk, ex, ey, ez, q x hx, q y hy, q z hz]
    rename_i h'
    rw [h' x hx, h' y hy, h' z hz]
  · simp only [sg_mk, ex, q x hx]
    rename_i h'
    rw [h' x hx, h]
    simp
theorem sg_CI_mk {vb : Nat → Int32} (hC : sg_CI K A B C vb N) (hn : n < N) (hk : K n = 6 ∨ K n = 13 ∨ K n = 14) : vb n = sg_mk K A B C vb n := by
  obtain ⟨c6, c13, c14⟩ := hC n hn
  rcases hk with k | k | k
  · rw [c6 k]; simp [sg_mk, k]
  · rw [c13 k]; simp [sg_mk, k]
  · rw [c14 k]; simp [sg_mk, k]
theorem sg_CI_of {vb : Nat → Int32} (h : ∀ n, n < N → (K n = 6 ∨ K n = 13 ∨ K n = 14) → vb n = sg_mk K A B C vb n) : sg_CI K A B C vb N := by
  intro n hn
  refine ⟨fun k => ?_, fun k => ?_, fun k => ?_⟩
  · rw [h n hn (Or.inl k)]; simp [sg_mk, k]
  · rw [h n hn (Or.inr (Or.inl k))]; simp [sg_mk, k]
  · rw [h n hn (Or.inr (Or.inr k))]; simp [sg_mk, k]
/-- a new node -/
theorem sg_WF_node (hW : sg_WF K A B C N) {k x y z : Int32} (hf : sg_fit K N N k x y z) : sg_WF (upd K N k) (upd A N x) (upd B N y) (upd C N z) (N + 1) := by
  have hK : ∀ j, j < N → upd K N k j = K j := fun j hj => pk_un (by omega)
  intro n hn
  by_cases e : n = N
  · subst e
    rw [pk_us, pk_us, pk_us, pk_us]
    refine sg_fit_m (Nat.le_refl _) hK hf (fun k4 => ?_) (fun _ => rfl)
    subst k4
    rw [sg_fit4] at hf
    exact hf.elim Or.inl (fun a => Or.inr (sg_Ev_m (by omega) hK a))
  · rw [pk_un e, pk_un e, pk_un e, pk_un e]
    refine sg_fit_m (Nat.le_refl _) (fun j hj => hK j (by omega)) (hW n (by omega)) (fun k4 => ?_) (fun _ => rfl)
    have hf' := hW n (by omega)
    rw [k4, sg_fit4] at hf'
    exact hf'.elim Or.inl (fun a => Or.inr (sg_Ev_m (by omega) hK a))
theorem sg_RK_node (hW : sg_WF K A B C N) (hN : N + 1 ≤ 24) (hR : sg_RK K A B C N) {k x y z : Int32} (hf : sg_fit K N N k x y z) : sg_RK (upd K N k) (upd A N x) (upd B N y) (upd C N z) (N + 1) := by
  have hW' := sg_WF_node hW hf
  obtain ⟨rk, hr0, hr⟩ := sg_rk24 hW (by omega) hR
  refine ⟨fun j => if j = N then N else rk j, fun n hn p hp => ?_⟩
  have hpN := sg_pl_lt hW' hN hn hp
  have hpn := sg_pl_ne hW' hN hn hp
  dsimp only
  by_cases e : n = N
  · subst e
    have hp' : p ≠ n := hpn
    have := hr0 p (by omega)
    rw [if_neg hp', if_pos rfl]
    exact this
  · rw [sg_pl_c (K := K) (A := A) (B := B) (C := C) (pk_un e) (pk_un e) (pk_un e) (pk_un e)] at hp
    have h1 := sg_pl_lt hW (by omega) (show n < N by omega) hp
    rw [if_neg (show ¬ p = N by omega), if_neg e]
    exact hr n (by omega) p hp
/-- a HOLD tied anew -/
theorem sg_WF_tie (hW : sg_WF K A B C N) {t : Nat} (h4 : K t = 4) {e : Int32} (he : e = -1 ∨ sg_Ev K N e) : sg_WF K (upd A t e) B C N := by
  intro n hn
  by_cases z : n = t
  · subst z
    rw [pk_us, h4, sg_fit4]
    exact he
  · rw [pk_un z]
    exact hW n hn
theorem sg_pl_tie {t : Nat} {e : Int32} (hn : n ≠ t) : sg_pl K (upd A t e) B C n = sg_pl K A B C n := sg_pl_c rfl (pk_un hn) rfl rfl
theorem sg_RK_tie0 (hR : sg_RK K A B C N) {t : Nat} (h4 : K t = 4) : sg_RK K (upd A t (-1)) B C N := by
  obtain ⟨rk, hr⟩ := hR
  refine ⟨rk, fun n hn p hp => ?_⟩
  by_cases z : n = t
  · subst z
    have : sg_pl K (upd A n (-1)) B C n = [] := by simp [sg_pl, h4, pk_us, sg_m1n]
    rw [this] at hp
    cases hp
  · rw [sg_pl_tie z] at hp
    exact hr n hn p hp
theorem sg_RK_tie (hW : sg_WF K A B C N) (hN : N ≤ 24) (hR : sg_RK K A B C N) {t e : Nat} (h4 : K t = 4) (he : e < N) (hne : e ≠ t) (hr' : ¬ sg_Rc K A B C e t) : sg_RK K (upd A t (nI e)) B C N := by
  obtain ⟨rk, hr0, hr⟩ := sg_rk24 hW hN hR
  obtain ⟨s, hs⟩ : ∃ s : Nat → Bool, ∀ n, s n = true ↔ (n = t ∨ sg_Rc K A B C n t) := ⟨fun n => @decide _ (Classical.propDecidable (n = t ∨ sg_Rc K A B C n t)), fun n => @decide_eq_true_iff _ (Classical.propDecidable _)⟩
  have se : s e = false := sg_nt (fun z => ((hs e).mp z).elim hne hr')
  refine ⟨fun n => if s n = true then rk n + N else rk n, fun n hn p hp => ?_⟩
  dsimp only
  by_cases z : n = t
  · subst z
    have hpl : sg_pl K (upd A n (nI e)) B C n = [e] := by
      have h0 : ¬ nI e < 0 := nI_pos (by omega)
      have hc : (nI e).toNatClampNeg = e := sg_cl (by omega)
      simp [sg_pl, h4, pk_us, h0, hc]
    rw [hpl] at hp
    have hp : p = e := by simpa using hp
    subst hp
    have := hr0 p he
    rw [se, (hs n).mpr (Or.inl rfl)]
    simp
    omega
  · rw [sg_pl_tie z] at hp
    have h1 := hr n hn p hp
    have h2 := sg_pl_lt hW hN hn hp
    have h3 := hr0 p h2
    by_cases y : s p = true
    · have : s n = true := by
        rw [hs]
        rcases (hs p).mp y with w | w
        · subst w
          exact Or.inr (sg_Rc_p hp)
        · exact Or.inr (sg_Rc_c hp w)
      rw [if_pos y, if_pos this]
      omega
    · rw [if_neg y]
      split <;> omega
/-- the last node taken away -/
def sg_rt (K A : Nat → Int32) (N i : Nat) : Nat → Int32 := fun j => if j < i ∧ K j = 4 ∧ A j = nI N then -1 else A j
theorem sg_rt0 : sg_rt K A N 0 = A := by
  funext j
  unfold sg_rt
  rw [if_neg (by omega)]
theorem sg_rt_i {i : Nat} : sg_rt K A N i i = A i := by
  unfold sg_rt
  rw [if_neg (by omega)]
theorem sg_rt_y {i : Nat} (h1 : K i = 4) (h2 : A i = nI N) : upd (sg_rt K A N i) i (-1) = sg_rt K A N (i + 1) := by
  funext j
  by_cases z : j = i
  · subst z
    rw [pk_us]
    unfold sg_rt
    rw [if_pos ⟨by omega, h1, h2⟩]
  · rw [pk_un z]
    unfold sg_rt
    by_cases y : j < i ∧ K j = 4 ∧ A j = nI N
    · rw [if_pos y, if_pos ⟨by omega, y.2⟩]
    · rw [if_neg y, if_neg (fun w => y ⟨by omega, w.2⟩)]
theorem sg_rt_n {i : Nat} (h : ¬ (K i = 4 ∧ A i = nI N)) : sg_rt K A N i = sg_rt K A N (i + 1) := by
  funext j
  unfold sg_rt
  by_cases y : j < i ∧ K j = 4 ∧ A j = nI N
  · rw [if_pos y, if_pos ⟨by omega, y.2⟩]
  · rw [if_neg y, if_neg]
    rintro ⟨w1, w2⟩
    by_cases z : j = i
    · subst z
      exact h w2
    · exact y ⟨by omega, w2⟩
theorem sg_rt_4 (h : ¬ K n = 4) : sg_rt K A N N n = A n := by
  unfold sg_rt
  rw [if_neg (fun w => h w.2.1)]
theorem sg_WF_rt (hW : sg_WF K A B C (N + 1)) (hN : N + 1 ≤ 24) : sg_WF K (sg_rt K A N N) B C N := by
  intro n hn
  refine sg_fit_m (Nat.le_refl _) (fun _ _ => rfl) (hW n (by omega)) (fun k4 => ?_) (fun k4 => sg_rt_4 k4)
  have hf := hW n (by omega)
  rw [k4, sg_fit4] at hf
  by_cases z : A n = nI N
  · left
    unfold sg_rt
    rw [if_pos ⟨hn, k4, z⟩]
  · have e : sg_rt K A N N n = A n := by
      unfold sg_rt
      rw [if_neg (fun w => z w.2.2)]
    rw [e]
    rcases hf with w | ⟨j, h1, h2, h3⟩
    · exact Or.inl w
    · right
      refine ⟨j, ?_, h2, h3⟩
      by_cases y : j = N
      · subst y
        exact absurd h2 z
      · omega
theorem sg_RK_rt (hR : sg_RK K A B C (N + 1)) : sg_RK K (sg_rt K A N N) B C N := by
  obtain ⟨rk, hr⟩ := hR
  refine ⟨rk, fun n hn p hp => ?_⟩
  by_cases z : K n = 4 ∧ A n = nI N
  · have e : sg_rt K A N N n = -1 := by
      unfold sg_rt
      rw [if_pos ⟨hn, z⟩]
    have : sg_pl K (sg_rt K A N N) B C n = [] := by simp [sg_pl, z.1, e, sg_m1n]
    rw [this] at hp
    cases hp
  · have e : sg_rt K A N N n = A n := by
      unfold sg_rt
      rw [if_neg (fun w => z w.2)]
    rw [sg_pl_c (A := A) rfl e rfl rfl] at hp
    exact hr n (by omega) p hp
end SGK
end
section
/-! the relation -/
def sg_Fa (N : Nat) (hs kp : Nat → Bool) (far fh fk fo : Int32) (K A B C H U V G M ha va tm kt kg : Nat → Int32) : Prop :=
  N ≤ 24 ∧ sg_WF K A B C N ∧ sg_RK K A B C N ∧ sg_CI K A B C va N ∧ (¬ far = 0 → sg_HU K A B C N H U) ∧ sg_XK K kp kg N fk fo G ∧
  (∀ j, j < N → bt fh j = hs j ∧ (sg_cell (K j) = true → V j = va j) ∧ (hs j = true → V j = va j) ∧ M j = tm j ∧ ha j = sg_b (hs j) ∧ kt j = sg_b (kp j) ∧ (sg_cell (K j) = true → hs j = false) ∧ (sg_cell (K j) = false → hs j = false → va j = 0))
/-- the relation at the head of a turn whose first cell is k -/
def i_Rel (k : Nat) (u : SX) (v : SY) : Prop := match u, v with
  | (fn, far, fh, _, fk, fo, ft, _, _, K, A, B, C, H, U, V, _, G, M), (gn, gt, K', A', B', C', ha, va, _, tm, _, kt, kg) => ∃ (N : Nat) (hs kp : Nat → Bool), fn = nI N ∧ gn = nI N ∧ gt = ft ∧ K' = K ∧ A' = A ∧ B' = B ∧ C' = C ∧ sg_Fa N hs kp far fh fk fo K A B C H U V G M ha va tm kt kg
theorem sg_el {k : Nat} {u : SX} {v : SY} {P : SX → SY → Prop} (h : ∀ (N : Nat) (hs kp : Nat → Bool) (far fh fc fk fo ft fl fw : Int32) (K A B C H U V Q G M ha va af tm dn kt kg : Nat → Int32), sg_Fa N hs kp far fh fk fo K A B C H U V G M ha va tm kt kg → P (nI N, far, fh, fc, fk, fo, ft, fl, fw, K, A, B, C, H, U, V, Q, G, M) (nI N, ft, K, A, B, C, ha, va, af, tm, dn, kt, kg)) (I : i_Rel k u v) : P u v := by
  obtain ⟨fn, far, fh, fc, fk, fo, ft, fl, fw, K, A, B, C, H, U, V, Q, G, M⟩ := u
  obtain ⟨gn, gt, K', A', B', C', ha, va, af, tm, dn, kt, kg⟩ := v
  obtain ⟨N, hs, kp, rfl, rfl, rfl, rfl, rfl, rfl, rfl, hF⟩ := I
  exact h N hs kp far fh fc fk fo gt fl fw K' A' B' C' H U V Q G M ha va af tm dn kt kg hF
section SGO
variable {N k : Nat} {hs kp : Nat → Bool} {far fh fc fk fo ft fl fw : Int32} {K A B C H U V Q G M ha va af tm dn kt kg : Nat → Int32}
theorem sg_mkR (h : sg_Fa N hs kp far fh fk fo K A B C H U V G M ha va tm kt kg) : i_Rel k (nI N, far, fh, fc, fk, fo, ft, fl, fw, K, A, B, C, H, U, V, Q, G, M) (nI N, ft, K, A, B, C, ha, va, af, tm, dn, kt, kg) := ⟨N, hs, kp, rfl, rfl, rfl, rfl, rfl, rfl, rfl, h⟩
end SGO
theorem i_up {k : Nat} {u : SX} {v : SY} (h : i_Rel k u v) : i_Rel (k + 5) u v := h
theorem i_vc0 : wpX_init (fun u => wpY_init (fun v => i_Rel 0 u v)) := by
  unfold wpX_init wpY_init
  refine ⟨0, fun _ => false, fun _ => false, rfl, rfl, rfl, rfl, rfl, rfl, rfl, by omega, ?_, ⟨fun _ => 0, ?_⟩, ?_, fun z => absurd rfl z, ?_, ?_⟩
  · intro n hn; omega
  · intro n hn; omega
  · intro n hn; omega
  · intro n hn; omega
  · intro n hn; omega
theorem i_vc_transactions {k : Nat} {u : SX} {v : SY} (I : i_Rel k u v) (hk : k + 5 ≤ 2560) : wpX_transactions (fun r => wpY_transactions (fun r' => r' = r ∧ i_Rel (k + 5) u v) v) u := by
  refine sg_el (P := fun u v => wpX_transactions (fun r => wpY_transactions (fun r' => r' = r ∧ i_Rel (k + 5) u v) v) u) ?_ I
  intro N hs kp far fh fc fk fo ft fl fw K A B C H U V Q G M ha va af tm dn kt kg hF
  exact ⟨rfl, sg_mkR hF⟩
theorem sg_lev {p : Int32} (h0 : ¬ p < 0) (h1 : p ≤ 1) : p = 0 ∨ p = 1 := by
  obtain ⟨j, hj, rfl⟩ := nI_of2 (M := 1) (n := 1) (by decide) h0 h1
  rcases (by omega : j = 0 ∨ j = 1) with rfl | rfl
  · exact Or.inl rfl
  · exact Or.inr rfl
theorem i_vc_level {k : Nat} {u : SX} {v : SY} (I : i_Rel k u v) (hk : k + 5 ≤ 2560) (v1 : Int32) : wpX_level (fun r u' => wpY_level (fun r' => r' = r ∧ i_Rel (k + 5) u' v) v v1) u v1 := by
  refine sg_el (P := fun u v => wpX_level (fun r u' => wpY_level (fun r' => r' = r ∧ i_Rel (k + 5) u' v) v v1) u v1) ?_ I
  intro N hs kp far fh fc fk fo ft fl fw K A B C H U V Q G M ha va af tm dn kt kg hF
  unfold wpX_level wpY_level
  dsimp only
  by_cases a : v1 < 0
  · have n0 : ¬ v1 = 0 := fun z => by rw [z] at a; exact absurd a (by decide)
    have n1 : ¬ v1 = 1 := fun z => by rw [z] at a; exact absurd a (by decide)
    exact br_t a (br_f n0 (br_f n1 ⟨rfl, sg_mkR hF⟩))
  · by_cases b : v1 ≤ 1
    · refine br_f a (br_t b ?_)
      rcases sg_lev a b with z | z
      · exact br_t z ⟨rfl, sg_mkR hF⟩
      · exact br_f (by rw [z]; decide) (br_t z ⟨rfl, sg_mkR hF⟩)
    · have n0 : ¬ v1 = 0 := fun z => b (by rw [z]; decide)
      have n1 : ¬ v1 = 1 := fun z => b (by rw [z]; decide)
      exact br_f a (br_f b (br_f n0 (br_f n1 ⟨rfl, sg_mkR hF⟩)))
theorem i_vc_had {k : Nat} {u : SX} {v : SY} (I : i_Rel k u v) (hk : k + 5 ≤ 2560) (v1 : Int32) : wpX_had (fun r => wpY_had (fun r' => r' = r ∧ i_Rel (k + 5) u v) v v1) u v1 := by
  refine sg_el (P := fun u v => wpX_had (fun r => wpY_had (fun r' => r' = r ∧ i_Rel (k + 5) u v) v v1) u v1) ?_ I
  intro N hs kp far fh fc fk fo ft fl fw K A B C H U V Q G M ha va af tm dn kt kg hF
  have hR : i_Rel (k + 5) (nI N, far, fh, fc, fk, fo, ft, fl, fw, K, A, B, C, H, U, V, Q, G, M) (nI N, ft, K, A, B, C, ha, va, af, tm, dn, kt, kg) := sg_mkR hF
  obtain ⟨hN, _, _, _, _, _, hJ⟩ := hF
  generalize i_Rel (k + 5) (nI N, far, fh, fc, fk, fo, ft, fl, fw, K, A, B, C, H, U, V, Q, G, M) (nI N, ft, K, A, B, C, ha, va, af, tm, dn, kt, kg) = R at hR ⊢
  have yh : ∀ r, (sg_Ev K N v1 → ∃ j, j < N ∧ v1 = nI j ∧ r = sg_b (hs j)) → (¬ sg_Ev K N v1 → r = 0) → wpY_had (fun r' => r' = r ∧ R) (nI N, ft, K, A, B, C, ha, va, af, tm, dn, kt, kg) v1 := by
    intro r h1 h0
    unfold wpY_had
    refine sy_isEvent hN (fun a => br_f sg_10 ?_) (fun a => br_t rfl ⟨(h0 a).symm, hR⟩)
    obtain ⟨j, hj, rfl, hr⟩ := h1 a
    have e : (nI j).toNatClampNeg = j := sg_cl (by omega)
    rw [e, (hJ j hj).2.2.2.2.1]
    refine ⟨sg_i24 hj hN, sg_bb (fun b => ⟨?_, hR⟩) (fun b => ⟨?_, hR⟩)⟩
    · rw [hr, b]; rfl
    · rw [hr, b]; rfl
  unfold wpX_had
  refine sx_isEvent hN (fun a => br_f sg_10 ?_) (fun a => br_t rfl (yh 0 (fun z => absurd z a) (fun _ => rfl)))
  obtain ⟨j, hj, rfl, c⟩ := a
  refine sx_has (by omega) (fun b => br_t rfl (yh 0 (fun _ => ⟨j, hj, rfl, ?_⟩) (fun z => absurd ⟨j, hj, rfl, c⟩ z))) (fun b => br_f sg_10 (yh 1 (fun _ => ⟨j, hj, rfl, ?_⟩) (fun z => absurd ⟨j, hj, rfl, c⟩ z)))
  · rw [(hJ j hj).1] at b
    rw [b]; rfl
  · rw [(hJ j hj).1] at b
    rw [b]; rfl
theorem i_vc_value {k : Nat} {u : SX} {v : SY} (I : i_Rel k u v) (hk : k + 5 ≤ 2560) (v1 : Int32) : wpX_value (fun r => wpY_value (fun r' => r' = r ∧ i_Rel (k + 5) u v) v v1) u v1 := by
  refine sg_el (P := fun u v => wpX_value (fun r => wpY_value (fun r' => r' = r ∧ i_Rel (k + 5) u v) v v1) u v1) ?_ I
  intro N hs kp far fh fc fk fo ft fl fw K A B C H U V Q G M ha va af tm dn kt kg hF
  have hR : i_Rel (k + 5) (nI N, far, fh, fc, fk, fo, ft, fl, fw, K, A, B, C, H, U, V, Q, G, M) (nI N, ft, K, A, B, C, ha, va, af, tm, dn, kt, kg) := sg_mkR hF
  obtain ⟨hN, _, _, _, _, _, hJ⟩ := hF
  generalize i_Rel (k + 5) (nI N, far, fh, fc, fk, fo, ft, fl, fw, K, A, B, C, H, U, V, Q, G, M) (nI N, ft, K, A, B, C, ha, va, af, tm, dn, kt, kg) = R at hR ⊢
  have yh : ∀ r, (sg_in N v1 → ∃ j, j < N ∧ v1 = nI j ∧ r = va j) → (¬ sg_in N v1 → r = 0) → wpY_value (fun r' => r' = r ∧ R) (nI N, ft, K, A, B, C, ha, va, af, tm, dn, kt, kg) v1 := by
    intro r h1 h0
    unfold wpY_value
    refine sy_isNode hN (fun a => br_f sg_10 ?_) (fun a => br_t rfl ⟨(h0 a).symm, hR⟩)
    obtain ⟨j, hj, rfl, hr⟩ := h1 a
    have e : (nI j).toNatClampNeg = j := sg_cl (by omega)
    rw [e]
    exact ⟨sg_i24 hj hN, hr.symm, hR⟩
  unfold wpX_value
  refine sx_isNode hN (fun a => br_f sg_10 ?_) (fun a => br_t rfl (yh 0 (fun z => absurd z a) (fun _ => rfl)))
  obtain ⟨j, hj, rfl⟩ := a
  have e : (nI j).toNatClampNeg = j := sg_cl (by omega)
  have q := sg_i24 hj hN
  have nin : ∀ {r : Int32}, ¬ sg_in N (nI j) → r = 0 := fun z => absurd ⟨j, hj, rfl⟩ z
  obtain ⟨h1, h2, h3, _, _, _, _, h8⟩ := hJ j hj
  refine sx_isEvent hN (fun a => br_f sg_10 (sx_has (by omega) (fun b => br_t rfl (yh 0 (fun _ => ⟨j, hj, rfl, ?_⟩) nin)) (fun b => br_f sg_10 ⟨q, yh _ (fun _ => ⟨j, hj, rfl, ?_⟩) nin⟩))) (fun a => br_t rfl ⟨q, yh _ (fun _ => ⟨j, hj, rfl, ?_⟩) nin⟩)
  · obtain ⟨i, hi, ei, c⟩ := a
    have ej := sg_inj ei (by omega) (by omega)
    subst ej
    rw [h1] at b
    exact (h8 c b).symm
  · rw [h1] at b
    rw [e]
    exact h3 b
  · rw [e]
    by_cases c : sg_cell (K j) = true
    · exact h2 c
    · exact absurd ⟨j, hj, rfl, sg_nt c⟩ a
theorem i_vc_times {k : Nat} {u : SX} {v : SY} (I : i_Rel k u v) (hk : k + 5 ≤ 2560) (v1 : Int32) : wpX_times (fun r => wpY_times (fun r' => r' = r ∧ i_Rel (k + 5) u v) v v1) u v1 := by
  refine sg_el (P := fun u v => wpX_times (fun r => wpY_times (fun r' => r' = r ∧ i_Rel (k + 5) u v) v v1) u v1) ?_ I
  intro N hs kp far fh fc fk fo ft fl fw K A B C H U V Q G M ha va af tm dn kt kg hF
  have hR : i_Rel (k + 5) (nI N, far, fh, fc, fk, fo, ft, fl, fw, K, A, B, C, H, U, V, Q, G, M) (nI N, ft, K, A, B, C, ha, va, af, tm, dn, kt, kg) := sg_mkR hF
  obtain ⟨hN, _, _, _, _, _, hJ⟩ := hF
  generalize i_Rel (k + 5) (nI N, far, fh, fc, fk, fo, ft, fl, fw, K, A, B, C, H, U, V, Q, G, M) (nI N, ft, K, A, B, C, ha, va, af, tm, dn, kt, kg) = R at hR ⊢
  unfold wpX_times wpY_times
  refine sx_isNode hN (fun a => br_f sg_10 ?_) (fun a => br_t rfl (sy_isNode hN (fun b => absurd b a) (fun _ => br_t rfl ⟨rfl, hR⟩)))
  refine ⟨?_, sy_isNode hN (fun _ => br_f sg_10 ⟨?_, ?_, hR⟩) (fun b => absurd a b)⟩
  · obtain ⟨j, hj, rfl⟩ := a
    exact sg_i24 hj hN
  · obtain ⟨j, hj, rfl⟩ := a
    exact sg_i24 hj hN
  · obtain ⟨j, hj, rfl⟩ := a
    rw [show (nI j).toNatClampNeg = j from sg_cl (by omega)]
    exact (hJ j hj).2.2.2.1.symm
theorem i_vc_sort {k : Nat} {u : SX} {v : SY} (I : i_Rel k u v) (hk : k + 5 ≤ 2560) (v1 : Int32) : wpX_sort (fun r => wpY_sort (fun r' => r' = r ∧ i_Rel (k + 5) u v) v v1) u v1 := by
  refine sg_el (P := fun u v => wpX_sort (fun r => wpY_sort (fun r' => r' = r ∧ i_Rel (k + 5) u v) v v1) u v1) ?_ I
  intro N hs kp far fh fc fk fo ft fl fw K A B C H U V Q G M ha va af tm dn kt kg hF
  have hR : i_Rel (k + 5) (nI N, far, fh, fc, fk, fo, ft, fl, fw, K, A, B, C, H, U, V, Q, G, M) (nI N, ft, K, A, B, C, ha, va, af, tm, dn, kt, kg) := sg_mkR hF
  obtain ⟨hN, _, _, _, _, _, hJ⟩ := hF
  generalize i_Rel (k + 5) (nI N, far, fh, fc, fk, fo, ft, fl, fw, K, A, B, C, H, U, V, Q, G, M) (nI N, ft, K, A, B, C, ha, va, af, tm, dn, kt, kg) = R at hR ⊢
  unfold wpX_sort wpY_sort
  refine sx_isNode hN (fun a => br_f sg_10 ?_) (fun a => br_t rfl (sy_isNode hN (fun b => absurd b a) (fun _ => br_t rfl ⟨rfl, hR⟩)))
  obtain ⟨j, hj, rfl⟩ := a
  have e : (nI j).toNatClampNeg = j := sg_cl (by omega)
  have nin : ¬ ¬ sg_in N (nI j) := fun z => z ⟨j, hj, rfl⟩
  rw [e]
  refine ⟨sg_i24 hj hN, sx_ck (fun c => br_f sg_10 (sy_isNode hN (fun _ => br_f sg_10 (sy_isCell hN (fun _ => br_f sg_10 ⟨rfl, hR⟩) (fun z => absurd ⟨j, hj, rfl, c⟩ z))) (fun z => absurd z nin))) (fun c => br_t rfl (sy_isNode hN (fun _ => br_f sg_10 (sy_isCell hN (fun z => ?_) (fun _ => br_t rfl ⟨rfl, hR⟩))) (fun z => absurd z nin)))⟩
  obtain ⟨i, hi, ei, ci⟩ := z
  have ej := sg_inj ei (by omega) (by omega)
  subst ej
  exact absurd (c.symm.trans ci) (by decide)
theorem i_vc_leads {k : Nat} {u : SX} {v : SY} (I : i_Rel k u v) (hk : k + 5 ≤ 2560) (v1 : Int32) (v2 : Int32) : wpX_leads (fun r => wpY_leads (fun r' => r' = r ∧ i_Rel (k + 5) u v) v v1 v2) u v1 v2 := by
  refine sg_el (P := fun u v => wpX_leads (fun r => wpY_leads (fun r' => r' = r ∧ i_Rel (k + 5) u v) v v1 v2) u v1 v2) ?_ I
  intro N hs kp far fh fc fk fo ft fl fw K A B C H U V Q G M ha va af tm dn kt kg hF
  have hR : i_Rel (k + 5) (nI N, far, fh, fc, fk, fo, ft, fl, fw, K, A, B, C, H, U, V, Q, G, M) (nI N, ft, K, A, B, C, ha, va, af, tm, dn, kt, kg) := sg_mkR hF
  obtain ⟨hN, hW, hK, _, _, _, hJ⟩ := hF
  generalize i_Rel (k + 5) (nI N, far, fh, fc, fk, fo, ft, fl, fw, K, A, B, C, H, U, V, Q, G, M) (nI N, ft, K, A, B, C, ha, va, af, tm, dn, kt, kg) = R at hR ⊢
  have yl : ∀ r, (sg_in N v1 → sg_in N v2 → ∃ n m, n < N ∧ m < N ∧ v1 = nI n ∧ v2 = nI m ∧ ((sg_Rc K A B C n m ∧ r = 1) ∨ (¬ sg_Rc K A B C n m ∧ r = 0))) → (¬ (sg_in N v1 ∧ sg_in N v2) → r = 0) → wpY_leads (fun r' => r' = r ∧ R) (nI N, ft, K, A, B, C, ha, va, af, tm, dn, kt, kg) v1 v2 := by
    intro r h1 h0
    unfold wpY_leads
    refine sy_isNode hN (fun a => br_f sg_10 (sy_isNode hN (fun b => br_f sg_10 ?_) (fun b => br_t rfl ⟨(h0 (fun z => b z.2)).symm, hR⟩))) (fun a => br_t rfl ⟨(h0 (fun z => a z.1)).symm, hR⟩)
    obtain ⟨n, m, hn, hm, rfl, rfl, hr⟩ := h1 a b
    refine sy_reached hW hN hK hn (fun S hS => sg_bo (by omega) (fun b => ⟨?_, hR⟩) (fun b => ⟨?_, hR⟩))
    · rcases hr with ⟨_, hr⟩ | ⟨z, _⟩
      · exact hr.symm
      · exact absurd ((hS m (by omega)).mp b) z
    · rcases hr with ⟨z, _⟩ | ⟨_, hr⟩
      · rw [(hS m (by omega)).mpr z] at b
        exact absurd b (by decide)
      · exact hr.symm
  unfold wpX_leads
  refine sx_isNode hN (fun a => br_f sg_10 (sx_isNode hN (fun b => br_f sg_10 ?_) (fun b => br_t rfl (yl 0 (fun _ z => absurd z b) (fun _ => rfl))))) (fun a => br_t rfl (yl 0 (fun z => absurd z a) (fun _ => rfl)))
  obtain ⟨n, hn, rfl⟩ := a
  obtain ⟨m, hm, rfl⟩ := b
  have nin : ∀ {r : Int32}, ¬ (sg_in N (nI n) ∧ sg_in N (nI m)) → r = 0 := fun z => absurd ⟨⟨n, hn, rfl⟩, ⟨m, hm, rfl⟩⟩ z
  refine sx_below hW hN hK hn (fun S hS => sg_bz (by omega) (fun b => yl 0 (fun _ _ => ⟨n, m, hn, hm, rfl, rfl, Or.inr ⟨fun z => ?_, rfl⟩⟩) nin) (fun b => yl 1 (fun _ _ => ⟨n, m, hn, hm, rfl, rfl, Or.inl ⟨(hS m (by omega)).mp b, rfl⟩⟩) nin))
  rw [(hS m (by omega)).mpr z] at b
  exact absurd b (by decide)
end
section
/-! fire, tie, retract, commit -/
theorem i_vc_fire {k : Nat} {u : SX} {v : SY} (I : i_Rel k u v) (hk : k + 5 ≤ 2560) (v1 : Int32) (v2 : Int32) : wpX_fire (fun r u' => wpY_fire (fun r' v' => r' = r ∧ i_Rel (k + 5) u' v') v v1 v2) u v1 v2 := by
  refine sg_el (P := fun u v => wpX_fire (fun r u' => wpY_fire (fun r' v' => r' = r ∧ i_Rel (k + 5) u' v') v v1 v2) u v1 v2) ?_ I
  intro N hs kp far fh fc fk fo ft fl fw K A B C H U V Q G M ha va af tm dn kt kg hF
  have hF0 := hF
  obtain ⟨hN, hW, hK, hC, hU, hX, hJ⟩ := hF
  unfold wpX_fire wpY_fire
  refine sx_isNode hN (fun a => br_f sg_10 ?_) (fun a => br_t rfl (sy_isNode hN (fun b => absurd b a) (fun _ => br_t rfl ⟨by trivial, sg_mkR hF0⟩)))
  have a0 := a
  obtain ⟨j, hj, rfl⟩ := a
  have e : (nI j).toNatClampNeg = j := sg_cl (by omega)
  have q := sg_i24 hj hN
  simp only [e]
  by_cases h0 : K j = 0
  · refine ⟨q, br_t h0 ⟨q, nm_e (nm_e (sy_isNode hN (fun _ => br_f sg_10 ⟨q, br_t h0 ⟨q, nm_e ⟨q, nm_e ⟨by trivial, sg_mkR (hs := hs) (kp := fun i => if i = j then true else kp i) ⟨hN, hW, hK, hC, hU, fun i hi => ?_, fun i hi => ?_⟩⟩⟩⟩⟩) (fun z => absurd a0 z)))⟩⟩
    · obtain ⟨x0, x8, x12⟩ := hX i hi
      by_cases z : i = j
      · subst z
        refine ⟨fun _ => ⟨?_, fun _ => ?_⟩, fun y => ?_, fun y => ?_⟩
        · rw [sg_or (by omega) (by omega)]; simp
        · rw [pk_us, pk_us]
        · rw [h0] at y; exact absurd y (by decide)
        · rw [h0] at y; exact absurd y (by decide)
      · simp only [if_neg z, pk_un z]
        rw [sg_or (by omega) (by omega)]
        simpa [z] using ⟨x0, x8, x12⟩
    · obtain ⟨j1, j2, j3, j4, j5, j6, j7, j8⟩ := hJ i hi
      refine ⟨j1, j2, j3, j4, j5, ?_, j7, j8⟩
      dsimp only
      by_cases z : i = j
      · subst z
        rw [pk_us, if_pos rfl, sg_nar1]; rfl
      · rw [pk_un z, if_neg z, j6]
  · exact ⟨q, br_f h0 (sy_isNode hN (fun _ => br_f sg_10 ⟨q, br_f h0 ⟨by trivial, sg_mkR hF0⟩⟩) (fun z => absurd a0 z))⟩
theorem i_vc_commit {k : Nat} {u : SX} {v : SY} (I : i_Rel k u v) (hk : k + 5 ≤ 2560) : wpX_commit (fun r u' => wpY_commit (fun r' v' => r' = r ∧ i_Rel (k + 5) u' v') v) u := by
  refine sg_el (P := fun u v => wpX_commit (fun r u' => wpY_commit (fun r' v' => r' = r ∧ i_Rel (k + 5) u' v') v) u) ?_ I
  intro N hs kp far fh fc fk fo ft fl fw K A B C H U V Q G M ha va af tm dn kt kg hF
  obtain ⟨hN, hW, hK, hC, hU, hX, hJ⟩ := hF
  obtain ⟨T, hT⟩ := sg_T_ex hW hN hK va kp kg
  refine sx_commit hW hN hK hT hC hX hU (fun m hm c => (hJ m hm).2.1 c) (fun far' fh' fc' fk' fo' fw' H' U' V' Q' G' M' hfa hHU hE => ?_)
  refine sy_commit hW hN hK hT (fun j hj c => ?_) (fun j hj => (hJ j hj).2.2.2.2.2.1) (fun ha' va' af' tm' dn' kt' kg' hY => ⟨by trivial, sg_mkR (hs := fun j => (T j).1) (kp := sg_kp' K A kp T) ⟨hN, hW, hK, ?_, fun _ => hHU, ?_, ?_⟩⟩)
  · obtain ⟨_, _, _, _, j5, _, j7, _⟩ := hJ j hj
    rw [j5, j7 c]
  · refine sg_CI_of (fun n hn hk => ?_)
    have e1 : va' n = (T n).2 := (hY n hn).2.1
    have e2 : sg_mk K A B C va' n = sg_mk K A B C (fun p => (T p).2) n := sg_mk_v hW hN hn hk (fun p hp => (hY p (by omega)).2.1)
    rw [e1, e2, hT n hn]
    rcases hk with h | h | h <;> simp [sg_mk, sg_F, h]
  · intro j hj
    obtain ⟨x0, x8, x12⟩ := hE.2 j hj
    rw [(hY j hj).2.2.2.2]
    exact ⟨x0, x8, x12⟩
  · intro j hj
    obtain ⟨a1, a2, a3, a4⟩ := hE.1 j hj
    obtain ⟨b1, b2, b3, b4, b5⟩ := hY j hj
    refine ⟨a1, fun c => ?_, fun t => ?_, ?_, b1, b4, fun c => sg_T1 hW hN hT hj c, fun c t => ?_⟩
    · rw [a2 c, b2]
    · rw [a3 t, b2]
    · rw [a4, b3, (hJ j hj).2.2.2.1]
    · rw [b2]
      exact sg_T0 hW hN hT hj c t
theorem i_vc_tie {k : Nat} {u : SX} {v : SY} (I : i_Rel k u v) (hk : k + 5 ≤ 2560) (v1 : Int32) (v2 : Int32) : wpX_tie (fun r u' => wpY_tie (fun r' v' => r' = r ∧ i_Rel (k + 5) u' v') v v1 v2) u v1 v2 := by
  refine sg_el (P := fun u v => wpX_tie (fun r u' => wpY_tie (fun r' v' => r' = r ∧ i_Rel (k + 5) u' v') v v1 v2) u v1 v2) ?_ I
  intro N hs kp far fh fc fk fo ft fl fw K A B C H U V Q G M ha va af tm dn kt kg hF
  have hF0 := hF
  obtain ⟨hN, hW, hK, hC, hU, hX, hJ⟩ := hF
  unfold wpX_tie wpY_tie
  refine sx_isNode hN (fun a => br_f sg_10 ?_) (fun a => br_t rfl (sy_isNode hN (fun b => absurd b a) (fun _ => br_t rfl ⟨by trivial, sg_mkR hF0⟩)))
  have a0 := a
  obtain ⟨t, ht, rfl⟩ := a
  have e : (nI t).toNatClampNeg = t := sg_cl (by omega)
  have q := sg_i24 ht hN
  have keep : ∀ e', (e' = -1 ∨ sg_Ev K N e') → K t = 4 → sg_RK K (upd A t e') B C N → i_Rel (k + 5) (nI N, 0, fh, fc, fk, fo, ft, fl, fw, K, upd A t e', B, C, H, U, V, Q, G, M) (nI N, ft, K, upd A t e', B, C, ha, va, af, tm, dn, kt, kg) := by
    intro e' he h4 hK'
    refine sg_mkR ⟨hN, sg_WF_tie hW h4 he, hK', sg_CI_of (fun n hn hk => ?_), fun z => absurd rfl z, hX, hJ⟩
    have hne : n ≠ t := by
      intro z
      rw [z, h4] at hk
      exact absurd hk (by decide)
    rw [sg_mk_c (K := K) (A := A) (B := B) (C := C) rfl (pk_un hne) rfl rfl]
    exact sg_CI_mk hC hn hk
  simp only [e]
  by_cases h4 : K t = 4
  · refine ⟨q, br_t h4 ?_⟩
    by_cases m1 : v2 = -1
    · subst m1
      refine br_t rfl ?_
      unfold wX_tie_44
      simp only [e]
      refine ⟨q, nm_e (sy_isNode hN (fun _ => br_f sg_10 ⟨q, br_t h4 (br_t (by trivial) ?_)⟩) (fun z => absurd a0 z))⟩
      unfold wY_tie_33
      simp only [e]
      exact br_t sg_m1n ⟨q, nm_e ⟨by trivial, keep (-1) (Or.inl rfl) h4 (sg_RK_tie0 hK h4)⟩⟩
    · refine br_f m1 (sx_isEvent hN (fun b => br_f sg_10 ?_) (fun b => br_t rfl (sy_isNode hN (fun _ => br_f sg_10 ⟨q, br_t h4 (br_f m1 (sy_isEvent hN (fun c => absurd c b) (fun _ => br_t rfl ⟨by trivial, sg_mkR hF0⟩)))⟩) (fun z => absurd a0 z))))
      have b0 := b
      obtain ⟨x, hx, rfl, cx⟩ := b
      have hxt : x ≠ t := by
        intro z
        rw [z, h4] at cx
        exact absurd cx (by decide)
      have hne : ¬ nI x = nI t := fun z => hxt (sg_inj z (by omega) (by omega))
      have hx0 : ¬ nI x < 0 := nI_pos (by omega)
      unfold wpX_reaches
      refine br_f hne (sx_below hW hN hK hx (fun S hS => sg_bz (by omega) (fun b => br_t rfl ?_) (fun b => br_f sg_10 ?_)))
      · unfold wX_tie_44
        simp only [e]
        have nr : ¬ sg_Rc K A B C x t := by
          intro z
          rw [(hS t (by omega)).mpr z] at b
          exact absurd b (by decide)
        refine ⟨q, nm_e (sy_isNode hN (fun _ => br_f sg_10 ⟨q, br_t h4 (br_f m1 (sy_isEvent hN (fun _ => br_f sg_10 ?_) (fun z => absurd b0 z)))⟩) (fun z => absurd a0 z))⟩
        unfold wY_tie_33
        simp only [e]
        refine br_f hx0 (sy_reached hW hN hK hx (fun S' hS' => sg_bo (by omega) (fun b' => absurd ((hS' t (by omega)).mp b') nr) (fun b' => ⟨q, nm_e ⟨by trivial, keep (nI x) (Or.inr b0) h4 (sg_RK_tie hW hN hK h4 hx hxt nr)⟩⟩)))
      · have yr : sg_Rc K A B C x t := (hS t (by omega)).mp b
        refine sy_isNode hN (fun _ => br_f sg_10 ⟨q, br_t h4 (br_f m1 (sy_isEvent hN (fun _ => br_f sg_10 ?_) (fun z => absurd b0 z)))⟩) (fun z => absurd a0 z)
        unfold wY_tie_33
        refine br_f hx0 (sy_reached hW hN hK hx (fun S' hS' => sg_bo (by omega) (fun b' => ⟨by trivial, sg_mkR hF0⟩) (fun b' => ?_)))
        rw [(hS' t (by omega)).mpr yr] at b'
        exact absurd b' (by decide)
  · exact ⟨q, br_f h4 (sy_isNode hN (fun _ => br_f sg_10 ⟨q, br_f h4 ⟨by trivial, sg_mkR hF0⟩⟩) (fun z => absurd a0 z))⟩
section SXR
variable {N : Nat} {far fh fc fk fo ft fl fw : Int32} {K A B C H U V Q G M ha va af tm dn kt kg : Nat → Int32}
theorem sx_forget {n : Nat} (hn : n < 32) {post : SX → Prop} {fn : Int32} (hp : ∀ fh' fc' fk' fo', (∀ j, j < 32 → bt fh' j = (bt fh j && !decide (j = n)) ∧ bt fk' j = (bt fk j && !decide (j = n)) ∧ bt fo' j = (bt fo j && !decide (j = n))) → post (fn, far, fh', fc', fk', fo', ft, fl, fw, K, A, B, C, H, U, V, Q, G, M)) : wpX_forget post (fn, far, fh, fc, fk, fo, ft, fl, fw, K, A, B, C, H, U, V, Q, G, M) (nI n) := by
  unfold wpX_forget
  exact nm_e (nm_e (nm_e (nm_e (nm_e (hp _ _ _ _ (fun j hj => ⟨sg_clr hn hj _, sg_clr hn hj _, sg_clr hn hj _⟩))))))
theorem sx_ret21 (hN : N ≤ 24) {post : Int32 → SX → Prop} (hp : ∀ fh' fc' fk' fo', (∀ j, j < N → bt fh' j = bt fh j ∧ bt fk' j = bt fk j ∧ bt fo' j = bt fo j) → post (nI N) (nI N, 0, fh', fc', fk', fo', ft, fl, fw, K, sg_rt K A N N, B, C, H, U, V, Q, G, M)) :
    ∀ d i, i + d = N → ∀ m, d < m → wX_retract_21 post (nI N) far fh fc fk fo ft fl fw m (nI i) K (sg_rt K A N i) B C H U V Q G M := by
  intro d
  induction d with
  | zero =>
    intro i hi m hm
    obtain ⟨m, rfl⟩ : ∃ m', m = m' + 1 := ⟨m - 1, by omega⟩
    have e : i = N := by omega
    subst e
    refine br_t (nI_le (Nat.le_refl _) (by omega)) (sx_forget (by omega) (fun fh' fc' fk' fo' h => hp fh' fc' fk' fo' (fun j hj => ?_)))
    obtain ⟨h1, h2, h3⟩ := h j (by omega)
    have z : ¬ j = i := by omega
    rw [h1, h2, h3]
    simp [z]
  | succ d ih =>
    intro i hi m hm
    obtain ⟨m, rfl⟩ : ∃ m', m = m' + 1 := ⟨m - 1, by omega⟩
    have hi' : i < N := by omega
    have e : (nI i).toNatClampNeg = i := sg_cl (by omega)
    have q := sg_i24 hi' hN
    have ih' := ih (i + 1) (by omega) m (by omega)
    refine br_f (nI_ge hi' (by omega)) ⟨q, ?_⟩
    simp only [e, sg_rt_i]
    by_cases h4 : K i = 4
    · by_cases hA : A i = nI N
      · refine br_t h4 ⟨q, br_t hA ⟨q, nm_r (sg_rt_y h4 hA) (nm_r (nI_1 i) ih')⟩⟩
      · rw [← sg_rt_n (fun z => hA z.2)] at ih'
        exact br_t h4 ⟨q, br_f hA (nm_r (nI_1 i) ih')⟩
    · rw [← sg_rt_n (fun z => h4 z.1)] at ih'
      exact br_f h4 (nm_r (nI_1 i) ih')
theorem sy_ret21 (hN : N ≤ 24) {post : Int32 → SY → Prop} (hp : post (nI N) (nI N, ft, K, sg_rt K A N N, B, C, ha, va, af, tm, dn, kt, kg)) :
    ∀ d i, i + d = N → ∀ m, d < m → wY_retract_21 post (nI N) ft m (nI i) K (sg_rt K A N i) B C ha va af tm dn kt kg := by
  intro d
  induction d with
  | zero =>
    intro i hi m hm
    obtain ⟨m, rfl⟩ : ∃ m', m = m' + 1 := ⟨m - 1, by omega⟩
    have e : i = N := by omega
    subst e
    exact br_t (nI_le (Nat.le_refl _) (by omega)) hp
  | succ d ih =>
    intro i hi m hm
    obtain ⟨m, rfl⟩ : ∃ m', m = m' + 1 := ⟨m - 1, by omega⟩
    have hi' : i < N := by omega
    have e : (nI i).toNatClampNeg = i := sg_cl (by omega)
    have q := sg_i24 hi' hN
    have ih' := ih (i + 1) (by omega) m (by omega)
    refine br_f (nI_ge hi' (by omega)) ⟨q, ?_⟩
    simp only [e, sg_rt_i]
    by_cases h4 : K i = 4
    · by_cases hA : A i = nI N
      · refine br_t h4 ⟨q, br_t hA ⟨q, nm_r (sg_rt_y h4 hA) (nm_r (nI_1 i) ih')⟩⟩
      · rw [← sg_rt_n (fun z => hA z.2)] at ih'
        exact br_t h4 ⟨q, br_f hA (nm_r (nI_1 i) ih')⟩
    · rw [← sg_rt_n (fun z => h4 z.1)] at ih'
      exact br_f h4 (nm_r (nI_1 i) ih')
end SXR
theorem i_vc_retract {k : Nat} {u : SX} {v : SY} (I : i_Rel k u v) (hk : k + 5 ≤ 2560) : wpX_retract (fun r u' => wpY_retract (fun r' v' => r' = r ∧ i_Rel (k + 5) u' v') v) u := by
  refine sg_el (P := fun u v => wpX_retract (fun r u' => wpY_retract (fun r' v' => r' = r ∧ i_Rel (k + 5) u' v') v) u) ?_ I
  intro N hs kp far fh fc fk fo ft fl fw K A B C H U V Q G M ha va af tm dn kt kg hF
  have hF0 := hF
  obtain ⟨hN, hW, hK, hC, hU, hX, hJ⟩ := hF
  unfold wpX_retract wpY_retract
  cases N with
  | zero => exact br_t rfl (br_t rfl ⟨by trivial, sg_mkR hF0⟩)
  | succ N =>
    have n0 : ¬ nI (N + 1) = 0 := nI_ne0 (by omega) (by omega)
    have e1 : nI (N + 1) - 1 = nI N := nI_pred N
    have hA : sg_rt K A N 0 = A := sg_rt0
    refine br_f n0 (nm_r e1 ⟨N + 1, ?_⟩)
    have hx := sx_ret21 (N := N) (far := far) (fh := fh) (fc := fc) (fk := fk) (fo := fo) (ft := ft) (fl := fl) (fw := fw) (K := K) (A := A) (B := B) (C := C) (H := H) (U := U) (V := V) (Q := Q) (G := G) (M := M) (by omega) (post := fun r u' => wpY_retract (fun r' v' => r' = r ∧ i_Rel (k + 5) u' v') (nI (N + 1), ft, K, A, B, C, ha, va, af, tm, dn, kt, kg)) (fun fh' fc' fk' fo' hb => ?_) N 0 (by omega) (N + 1) (by omega)
    · rw [hA] at hx
      exact hx
    · have hy := sy_ret21 (N := N) (ft := ft) (K := K) (A := A) (B := B) (C := C) (ha := ha) (va := va) (af := af) (tm := tm) (dn := dn) (kt := kt) (kg := kg) (by omega) (post := fun r' v' => r' = nI N ∧ i_Rel (k + 5) (nI N, 0, fh', fc', fk', fo', ft, fl, fw, K, sg_rt K A N N, B, C, H, U, V, Q, G, M) v') ⟨rfl, sg_mkR (hs := hs) (kp := kp) ⟨by omega, sg_WF_rt hW hN, sg_RK_rt hK, sg_CI_of (fun n hn hk => ?_), fun z => absurd rfl z, fun j hj => ?_, fun j hj => ?_⟩⟩ N 0 (by omega) (N + 1) (by omega)
      · rw [hA] at hy
        exact br_f n0 (nm_r e1 ⟨N + 1, hy⟩)
      · have hne : ¬ K n = 4 := by
          intro z
          rw [z] at hk
          exact absurd hk (by decide)
        rw [sg_mk_c (K := K) (A := A) (B := B) (C := C) rfl (sg_rt_4 hne) rfl rfl]
        exact sg_CI_mk hC (by omega) hk
      · obtain ⟨b1, b2, b3⟩ := hb j hj
        obtain ⟨x0, x8, x12⟩ := hX j (by omega)
        rw [b2, b3]
        exact ⟨x0, x8, x12⟩
      · obtain ⟨b1, b2, b3⟩ := hb j hj
        rw [b1]
        exact hJ j (by omega)
end
section
/-! a new node -/
section SYN
variable {N : Nat} {ft : Int32} {K A B C ha va af tm dn kt kg R : Nat → Int32}
theorem sy_ref2 (hW : sg_WF K A B C N) (hN : N ≤ 24) (hR : ∀ n, n < N → (K n = 6 ∨ K n = 13 ∨ K n = 14) → R n = sg_mk K A B C R n) {post : SY → Prop} (hp : ∀ va, (∀ j, j < N → va j = R j) → post (nI N, ft, K, A, B, C, ha, va, af, tm, dn, kt, kg)) :
    ∀ d i, i + d = N → ∀ m, d < m → ∀ va, (∀ j, j < N → (j < i ∨ ¬ (K j = 6 ∨ K j = 13 ∨ K j = 14)) → va j = R j) → wY_refresh_2 post (nI N) ft m (nI i) K A B C ha va af tm dn kt kg := by
  intro d
  induction d with
  | zero =>
    intro i hi m hm va hI
    obtain ⟨m, rfl⟩ : ∃ m', m = m' + 1 := ⟨m - 1, by omega⟩
    have e : i = N := by omega
    subst e
    exact br_t (nI_le (Nat.le_refl _) (by omega)) (hp va (fun j hj => hI j hj (Or.inl hj)))
  | succ d ih =>
    intro i hi m hm va hI
    obtain ⟨m, rfl⟩ : ∃ m', m = m' + 1 := ⟨m - 1, by omega⟩
    have hi' : i < N := by omega
    have e : (nI i).toNatClampNeg = i := sg_cl (by omega)
    have q := sg_i24 hi' hN
    have i24 : i < 24 := by omega
    have cl : ∀ x, x < i → (nI x).toNatClampNeg = x := fun x hx => sg_cl (by omega)
    have ii : ∀ x, x < i → vp_in (nI x) 24 := fun x hx => sg_i24 (show x < N by omega) hN
    have hv : ∀ x, x < i → va x = R x := fun x hx => hI x (by omega) (Or.inl hx)
    have next : ∀ v, v = R i → wY_refresh_2 post (nI N) ft m (nI (i + 1)) K A B C ha (upd va i v) af tm dn kt kg := by
      intro v hv'
      refine ih (i + 1) (by omega) m (by omega) _ (fun j hj hl => ?_)
      by_cases z : j = i
      · subst z
        rw [pk_us, hv']
      · rw [pk_un z]
        refine hI j hj ?_
        rcases hl with hl | hl
        · exact Or.inl (by omega)
        · exact Or.inr hl
    have skip : ¬ (K i = 6 ∨ K i = 13 ∨ K i = 14) → wY_refresh_2 post (nI N) ft (m + 1) (nI i) K A B C ha va af tm dn kt kg := by
      intro hn
      have h6 : ¬ K i = 6 := fun z => hn (Or.inl z)
      have h13 : ¬ K i = 13 := fun z => hn (Or.inr (Or.inl z))
      have h14 : ¬ K i = 14 := fun z => hn (Or.inr (Or.inr z))
      refine br_f (nI_ge hi' (by omega)) ⟨q, nm_r (e' := K i) (by rw [e]) (br_f h6 (br_f h13 (br_f h14 (nm_r (nI_1 i) (ih (i + 1) (by omega) m (by omega) va (fun j hj hl => ?_))))))⟩
      by_cases z : j = i
      · subst z
        exact hI j hj (Or.inr hn)
      · refine hI j hj ?_
        rcases hl with hl | hl
        · exact Or.inl (by omega)
        · exact Or.inr hl
    by_cases hk : K i = 6 ∨ K i = 13 ∨ K i = 14
    · have hRi := hR i hi' hk
      rcases sg_view hW hN hi' with ⟨h, el⟩ | ⟨h, x, hx, ex, cx, el⟩ | ⟨h, x, hx, ex, cx, el⟩ | ⟨h, x, y, hx, ex, cx, hy, ey, cy, el⟩ | ⟨h, ex, el⟩ | ⟨h, x, hx, nx, ex, cx, el⟩ | ⟨h, x, y, hx, ex, cx, hy, ey, cy, el⟩ | ⟨h, x, y, hx, ex, cx, hy, ey, cy, el⟩ | ⟨h, x, y, hx, ex, cx, hy, ey, cy, el⟩ | ⟨h, x, hx, ex, cx, el⟩ | ⟨h, x, hx, ex, cx, el⟩ | ⟨h, x, y, z, hx, ex, cx, hy, ey, cy, hz, ez, cz, el⟩ | ⟨h, x, hx, ex, cx, el⟩ | ⟨h, x, hx, ex, cx, el⟩ | ⟨h, x, y, z, hx, ex, cx, hy, ey, cy, hz, ez, cz, el⟩ | ⟨h, x, hx, ex, cx, el⟩
      · rw [h] at hk; exact absurd hk (by decide)
      · rw [h] at hk; exact absurd hk (by decide)
      · rw [h] at hk; exact absurd hk (by decide)
      · rw [h] at hk; exact absurd hk (by decide)
      · rw [h] at hk; exact absurd hk (by decide)
      · rw [h] at hk; exact absurd hk (by decide)
      · rw [h] at hk; exact absurd hk (by decide)
      · refine br_f (nI_ge hi' (by omega)) ⟨q, nm_r (e' := 6) (by rw [e, h]) (br_t rfl ?_)⟩
        unfold wY_refresh_35
        simp only [e, ex, ey, cl x hx, cl y hy, hv x hx, hv y hy]
        refine ⟨q, ii x hx, br_f (by decide) ⟨q, ii y hy, br_f (by decide) ?_⟩⟩
        unfold wY_refresh_95
        simp only [e]
        refine sy_made6 i24 h ⟨q, nm_e (nm_r (nI_1 i) (next _ ?_))⟩
        rw [hRi]; simp [sg_mk, h, ex, ey, cl x hx, cl y hy]
      · rw [h] at hk; exact absurd hk (by decide)
      · rw [h] at hk; exact absurd hk (by decide)
      · rw [h] at hk; exact absurd hk (by decide)
      · rw [h] at hk; exact absurd hk (by decide)
      · rw [h] at hk; exact absurd hk (by decide)
      · rw [h] at hk; exact absurd hk (by decide)
      · refine br_f (nI_ge hi' (by omega)) ⟨q, nm_r (e' := 13) (by rw [e, h]) (br_f (by decide) (br_t rfl ?_))⟩
        unfold wY_refresh_35
        simp only [e, ex, ey, cl x hx, cl y hy, hv x hx, hv y hy]
        refine ⟨q, ii x hx, br_f (by decide) ⟨q, ii y hy, ?_⟩⟩
        unfold wY_refresh_74
        simp only [e, ez, cl z hz, hv z hz]
        refine br_t (by trivial) ⟨q, ii z hz, ?_⟩
        unfold wY_refresh_95
        simp only [e]
        refine sy_made13 i24 h ⟨q, nm_e (nm_r (nI_1 i) (next _ ?_))⟩
        rw [hRi]; simp [sg_mk, h, ex, ey, ez, cl x hx, cl y hy, cl z hz]
      · refine br_f (nI_ge hi' (by omega)) ⟨q, nm_r (e' := 14) (by rw [e, h]) (br_f (by decide) (br_f (by decide) (br_t rfl ?_)))⟩
        unfold wY_refresh_35
        simp only [e, ex, cl x hx, hv x hx]
        refine ⟨q, ii x hx, br_t (by trivial) (br_f (by decide) ?_)⟩
        unfold wY_refresh_95
        simp only [e]
        refine sy_made14 i24 h ⟨q, nm_e (nm_r (nI_1 i) (next _ ?_))⟩
        rw [hRi]; simp [sg_mk, h, ex, cl x hx]
    · exact skip hk
theorem sy_refresh (hW : sg_WF K A B C N) (hN : N ≤ 24) (hR : ∀ n, n < N → (K n = 6 ∨ K n = 13 ∨ K n = 14) → R n = sg_mk K A B C R n) (h0 : ∀ j, j < N → ¬ (K j = 6 ∨ K j = 13 ∨ K j = 14) → va j = R j) {post : SY → Prop} (hp : ∀ va, (∀ j, j < N → va j = R j) → post (nI N, ft, K, A, B, C, ha, va, af, tm, dn, kt, kg)) : wpY_refresh post (nI N, ft, K, A, B, C, ha, va, af, tm, dn, kt, kg) := by
  unfold wpY_refresh
  exact ⟨N + 1, sy_ref2 hW hN hR hp N 0 (by omega) (N + 1) (by omega) va (fun j hj hl => h0 j hj (hl.elim (fun z => by omega) id))⟩
end SYN
/-- the value that a new node begins with -/
def sg_nv (K A B C va : Nat → Int32) (N : Nat) (k y : Int32) : Int32 := if k = 6 ∨ k = 13 ∨ k = 14 then sg_mk K A B C va N else if k = 4 then y else 0
theorem sg_kb {k : Int32} (h0 : ¬ k < 0) (h1 : ¬ 14 < k) : vp_nar .byte k.toInt8.toInt32 = k := by
  obtain ⟨j, hj, rfl⟩ := nI_of2 (M := 14) (n := 14) (by decide) h0 (Int32.not_lt.mp h1)
  exact sg_hb j (by omega)
section SXN
variable {N : Nat} {far fh fc fk fo ft fl fw : Int32} {K A B C H U V Q G M ha va af tm dn kt kg : Nat → Int32}
theorem sx_node (hW : sg_WF K A B C N) (hN : N < 24) {k x y z : Int32} (hk0 : ¬ k < 0) (hk1 : ¬ 14 < k) (hV : ∀ j, j < N → sg_cell (K j) = true → V j = va j) {post : Int32 → SX → Prop} (hp0 : ¬ sg_fit K N N k x y z → post (-1) (nI N, far, fh, fc, fk, fo, ft, fl, fw, K, A, B, C, H, U, V, Q, G, M))
    (hp1 : sg_fit K N N k x y z → ∀ fh' fc' fk' fo' V', (∀ j, j < 32 → bt fh' j = (bt fh j && !decide (j = N)) ∧ bt fk' j = (bt fk j && !decide (j = N)) ∧ bt fo' j = (bt fo j && !decide (j = N))) → (∀ j, j ≠ N → V' j = V j) → V' N = sg_nv (upd K N k) (upd A N x) (upd B N y) (upd C N z) va N k y → post (nI N) (nI (N + 1), 0, fh', fc', fk', fo', ft, fl, fw, upd K N k, upd A N x, upd B N y, upd C N z, H, U, V', Q, upd G N 0, upd M N 0)) : wpX_node post (nI N, far, fh, fc, fk, fo, ft, fl, fw, K, A, B, C, H, U, V, Q, G, M) k x y z := by
  have e : (nI N).toNatClampNeg = N := sg_cl (by omega)
  have q : vp_in (nI N) 24 := vp_in_nI hN (by omega)
  have lt24 : nI N < 24 := nI_lt (b := 24) hN (by omega)
  unfold wpX_node
  simp only [e, sg_kb hk0 hk1]
  refine br_t lt24 (br_f hk0 (br_f hk1 (sx_fit (by omega) hk0 hk1 (fun hf => br_f sg_10 (nm_r (nI_1 N) ⟨q, nm_e ⟨q, nm_e ⟨q, nm_e ⟨q, nm_e ⟨q, nm_e ⟨q, nm_e ?_⟩⟩⟩⟩⟩⟩)) (fun hf => br_t rfl (hp0 hf)))))
  have hW' := sg_WF_node hW hf
  have p118 : ∀ v, v = (if k = 4 then y else 0) → wX_node_118 post k (nI N) v (nI N) (nI (N + 1)) far fh fc fk fo ft fl fw (upd K N k) (upd A N x) (upd B N y) (upd C N z) H U V Q (upd G N 0) (upd M N 0) := by
    intro v hv
    unfold wX_node_118
    simp only [e]
    refine ⟨q, nm_e (sx_forget (n := N) (by omega) (fun fh' fc' fk' fo' hb => ?_))⟩
    dsimp only
    refine sx_ck (N := N + 1) (fun c => br_f sg_10 ?_) (fun c => br_t rfl (hp1 hf fh' fc' fk' fo' _ hb (fun j hj => pk_un hj) ?_))
    · by_cases k4 : k = 4
      · refine br_t k4 (hp1 hf fh' fc' fk' fo' _ hb (fun j hj => pk_un hj) ?_)
        rw [pk_us, hv, if_pos k4]
        unfold sg_nv
        rw [if_neg (by rw [k4]; decide), if_pos k4]
      · have kk : upd K N k N = k := pk_us
        refine br_f k4 (sx_combined (c := va) (a := 0) hW' (by omega) (show N < N + 1 by omega) (by rw [kk]; exact c) (by rw [kk]; exact k4) (fun p hp post' hpost => ?_) ⟨q, nm_e (hp1 hf fh' fc' fk' fo' _ hb (fun j hj => ?_) ?_)⟩)
        · have hpN := sg_pl_lt hW' (by omega) (by omega) hp
          have hpn := sg_pl_ne hW' (by omega) (by omega) hp
          refine sx_cv0 (by omega) ?_
          have hpc : sg_cell (K p) = true := by
            have c' : sg_cell (upd K N k N) = true := by rw [kk]; exact c
            have k4' : ¬ upd K N k N = 4 := by rw [kk]; exact k4
            have up : ∀ w, w < N → sg_cell (upd K N k w) = true → sg_cell (K w) = true := fun w hw hc => by rw [pk_un (by omega)] at hc; exact hc
            rcases sg_view hW' (by omega) (show N < N + 1 by omega) with ⟨h, el⟩ | ⟨h, x, hx, ex, cx, el⟩ | ⟨h, x, hx, ex, cx, el⟩ | ⟨h, x, y, hx, ex, cx, hy, ey, cy, el⟩ | ⟨h, ex, el⟩ | ⟨h, x, hx, nx, ex, cx, el⟩ | ⟨h, x, y, hx, ex, cx, hy, ey, cy, el⟩ | ⟨h, x, y, hx, ex, cx, hy, ey, cy, el⟩ | ⟨h, x, y, hx, ex, cx, hy, ey, cy, el⟩ | ⟨h, x, hx, ex, cx, el⟩ | ⟨h, x, hx, ex, cx, el⟩ | ⟨h, x, y, z, hx, ex, cx, hy, ey, cy, hz, ez, cz, el⟩ | ⟨h, x, hx, ex, cx, el⟩ | ⟨h, x, hx, ex, cx, el⟩ | ⟨h, x, y, z, hx, ex, cx, hy, ey, cy, hz, ez, cz, el⟩ | ⟨h, x, hx, ex, cx, el⟩ <;> first | (rw [h] at c'; exact absurd c' (by decide)) | (exact absurd h k4') | (rw [el] at hp; simp only [List.mem_cons, List.not_mem_nil, or_false] at hp; rcases hp with rfl | rfl | rfl <;> exact up _ (by omega) (by assumption)) | (rw [el] at hp; simp only [List.mem_cons, List.not_mem_nil, or_false] at hp; rcases hp with rfl | rfl <;> exact up _ (by omega) (by assumption)) | (rw [el] at hp; simp only [List.mem_cons, List.not_mem_nil, or_false] at hp; subst hp; exact up _ (by omega) (by assumption))
          rw [pk_un hpn, hV p (by omega) hpc]
          exact hpost
        · rw [pk_un hj, pk_un hj]
        · rw [pk_us]
          unfold sg_nv
          rw [if_pos]
          have c' := c
          unfold sg_cell at c'
          simp only [Bool.or_eq_true, decide_eq_true_eq] at c'
          rcases c' with ((c' | c') | c') | c'
          · exact absurd c' k4
          · exact Or.inl c'
          · exact Or.inr (Or.inl c')
          · exact Or.inr (Or.inr c')
    · rw [pk_us, hv]
      have n4 : ¬ k = 4 := fun w => by rw [w] at c; exact absurd c (by decide)
      unfold sg_nv
      rw [if_neg n4, if_neg]
      rintro (w | w | w) <;> (rw [w] at c; exact absurd c (by decide))
  by_cases k4 : k = 4
  · exact br_t k4 (p118 y (by rw [if_pos k4]))
  · exact br_f k4 (p118 0 (by rw [if_neg k4]))
theorem sy_node (hW : sg_WF K A B C N) (hN : N < 24) {k x y z : Int32} (hk0 : ¬ k < 0) (hk1 : ¬ 14 < k) (hC : sg_CI K A B C va N) {post : Int32 → SY → Prop} (hp0 : ¬ sg_fit K N N k x y z → post (-1) (nI N, ft, K, A, B, C, ha, va, af, tm, dn, kt, kg))
    (hp1 : sg_fit K N N k x y z → ∀ va', (∀ j, j < N → va' j = va j) → va' N = sg_nv (upd K N k) (upd A N x) (upd B N y) (upd C N z) va N k y → sg_CI (upd K N k) (upd A N x) (upd B N y) (upd C N z) va' (N + 1) → post (nI N) (nI (N + 1), ft, upd K N k, upd A N x, upd B N y, upd C N z, upd ha N 0, va', af, upd tm N 0, dn, upd kt N 0, upd kg N 0)) : wpY_node post (nI N, ft, K, A, B, C, ha, va, af, tm, dn, kt, kg) k x y z := by
  have e : (nI N).toNatClampNeg = N := sg_cl (by omega)
  have q : vp_in (nI N) 24 := vp_in_nI hN (by omega)
  have ne24 : ¬ nI N = 24 := fun w => by
    have := (nI_eq (a := N) (b := 24) (by omega) (by omega)).mp w
    omega
  unfold wpY_node
  simp only [e, sg_nar0]
  refine br_f ne24 (br_f hk0 (br_f hk1 (sy_fit (by omega) hk0 hk1 (fun hf => br_f sg_10 ⟨q, nm_e ⟨q, nm_e ⟨q, nm_e ⟨q, nm_e ⟨q, nm_e ?_⟩⟩⟩⟩⟩) (fun hf => br_t rfl (hp0 hf)))))
  have hW' := sg_WF_node hW hf
  have kk : upd K N k N = k := pk_us
  have hmk : ∀ c' : Nat → Int32, (∀ j, j < N → c' j = va j) → ∀ n, n < N + 1 → (upd K N k n = 6 ∨ upd K N k n = 13 ∨ upd K N k n = 14) → sg_mk (upd K N k) (upd A N x) (upd B N y) (upd C N z) c' n = sg_mk (upd K N k) (upd A N x) (upd B N y) (upd C N z) va n := by
    intro c' hc n hn hk
    exact sg_mk_v hW' (by omega) hn hk (fun p hp => hc p (by omega))
  have p105 : ∀ v, v = (if k = 4 then y else 0) → wY_node_105 post v (nI N) (nI N) ft (upd K N k) (upd A N x) (upd B N y) (upd C N z) (upd ha N 0) va af tm dn kt kg := by
    intro v hv
    unfold wY_node_105
    simp only [e, sg_nar0]
    refine ⟨q, nm_e ⟨q, nm_e ⟨q, nm_e ⟨q, nm_e (nm_r (nI_1 N) ?_)⟩⟩⟩⟩
    have hR1 : ∀ n, n < N + 1 → (upd K N k n = 6 ∨ upd K N k n = 13 ∨ upd K N k n = 14) → upd va N (sg_nv (upd K N k) (upd A N x) (upd B N y) (upd C N z) va N k y) n = sg_mk (upd K N k) (upd A N x) (upd B N y) (upd C N z) va n := by
      intro n hn hk
      by_cases w : n = N
      · subst w
        rw [pk_us]
        rw [kk] at hk
        unfold sg_nv
        rw [if_pos hk]
      · rw [pk_un w]
        rw [pk_un w] at hk
        rw [sg_mk_c (K := K) (A := A) (B := B) (C := C) (pk_un w) (pk_un w) (pk_un w) (pk_un w)]
        exact sg_CI_mk hC (by omega) hk
    refine sy_refresh (N := N + 1) (R := upd va N (sg_nv (upd K N k) (upd A N x) (upd B N y) (upd C N z) va N k y)) hW' (by omega) (fun n hn hk => ?_) (fun j hj hn => ?_) (fun va' hva => ?_)
    · rw [hR1 n hn hk]
      exact (hmk _ (fun j hj => pk_un (by omega)) n hn hk).symm
    · by_cases w : j = N
      · subst w
        rw [pk_us, pk_us, hv]
        rw [kk] at hn
        unfold sg_nv
        rw [if_neg hn]
      · rw [pk_un w, pk_un w]
    · have h1 : ∀ j, j < N → va' j = va j := fun j hj => by rw [hva j (by omega), pk_un (by omega)]
      have h2 : va' N = sg_nv (upd K N k) (upd A N x) (upd B N y) (upd C N z) va N k y := by rw [hva N (by omega), pk_us]
      have h3 : sg_CI (upd K N k) (upd A N x) (upd B N y) (upd C N z) va' (N + 1) := by
        refine sg_CI_of (fun n hn hk => ?_)
        rw [hva n hn, hR1 n hn hk]
        exact (hmk va' h1 n hn hk).symm
      have := hp1 hf va' h1 h2 h3
      rw [← nI_pred N] at this
      exact this
  by_cases k4 : k = 4
  · exact br_t k4 (p105 y (by rw [if_pos k4]))
  · exact br_f k4 (p105 0 (by rw [if_neg k4]))
end SXN
theorem i_vc_node {k : Nat} {u : SX} {v : SY} (I : i_Rel k u v) (hk : k + 5 ≤ 2560) (v1 : Int32) (v2 : Int32) (v3 : Int32) (v4 : Int32) : wpX_node (fun r u' => wpY_node (fun r' v' => r' = r ∧ i_Rel (k + 5) u' v') v v1 v2 v3 v4) u v1 v2 v3 v4 := by
  refine sg_el (P := fun u v => wpX_node (fun r u' => wpY_node (fun r' v' => r' = r ∧ i_Rel (k + 5) u' v') v v1 v2 v3 v4) u v1 v2 v3 v4) ?_ I
  intro N hs kp far fh fc fk fo ft fl fw K A B C H U V Q G M ha va af tm dn kt kg hF
  have hF0 := hF
  obtain ⟨hN, hW, hK, hC, hU, hX, hJ⟩ := hF
  by_cases n24 : N = 24
  · subst n24
    unfold wpX_node wpY_node
    exact br_f (by decide) (br_t rfl ⟨rfl, sg_mkR hF0⟩)
  · have lt24 : nI N < 24 := nI_lt (b := 24) (by omega) (by omega)
    have ne24 : ¬ nI N = 24 := fun w => by
      have := (nI_eq (a := N) (b := 24) (by omega) (by omega)).mp w
      omega
    by_cases k0 : v1 < 0
    · unfold wpX_node wpY_node
      exact br_t lt24 (br_t k0 (br_f ne24 (br_t k0 ⟨rfl, sg_mkR hF0⟩)))
    · by_cases k1 : 14 < v1
      · unfold wpX_node wpY_node
        exact br_t lt24 (br_f k0 (br_t k1 (br_f ne24 (br_f k0 (br_t k1 ⟨rfl, sg_mkR hF0⟩)))))
      · refine sx_node (va := va) hW (by omega) k0 k1 (fun j hj c => (hJ j hj).2.1 c) (fun nf => sy_node hW (by omega) k0 k1 hC (fun _ => ⟨rfl, sg_mkR hF0⟩) (fun f => absurd f nf)) (fun f fh' fc' fk' fo' V' hb hV1 hV2 => sy_node hW (by omega) k0 k1 hC (fun nf => absurd f nf) (fun _ va' hva1 hva2 hCI => ⟨rfl, sg_mkR (hs := fun j => if j = N then false else hs j) (kp := fun j => if j = N then false else kp j) ⟨by omega, sg_WF_node hW f, sg_RK_node hW (by omega) hK f, hCI, fun w => absurd rfl w, fun j hj => ?_, fun j hj => ?_⟩⟩))
        · obtain ⟨b1, b2, b3⟩ := hb j (by omega)
          dsimp only
          by_cases w : j = N
          · subst w
            rw [pk_us, pk_us, pk_us, b2, b3]
            simp
          · rw [pk_un w, pk_un w, pk_un w, b2, b3]
            simp only [if_neg w]
            simpa [w] using hX j (by omega)
        · obtain ⟨b1, b2, b3⟩ := hb j (by omega)
          dsimp only
          by_cases w : j = N
          · subst w
            rw [pk_us, pk_us, pk_us, pk_us, pk_us, b1, hV2, hva2]
            refine ⟨by simp, fun _ => rfl, fun _ => rfl, rfl, by simp [sg_b], by simp [sg_b], fun _ => by simp, fun c _ => ?_⟩
            unfold sg_nv
            rw [if_neg, if_neg]
            · intro y
              rw [y] at c
              exact absurd c (by decide)
            · rintro (y | y | y) <;> (rw [y] at c; exact absurd c (by decide))
          · rw [pk_un w, pk_un w, pk_un w, pk_un w, pk_un w, b1, hV1 j w, hva1 j (by omega)]
            simp only [if_neg w]
            simpa [w] using hJ j (by omega)
end
