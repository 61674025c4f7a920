section
/-! rows pasted from the kit's rows to paste (starting text) -/
theorem pk_us {f : Nat → Int32} {k : Nat} {x : Int32} : upd f k x k = x := if_pos rfl
theorem pk_un {f : Nat → Int32} {k j : Nat} {x : Int32} (h : j ≠ k) : upd f k x j = f j := if_neg h
theorem pk_sub {a b : Nat} (h : b ≤ a) : nI a - nI b = nI (a - b) := by
  obtain ⟨c, rfl⟩ : ∃ c, a = c + b := ⟨a - b, by omega⟩
  rw [← nI_add, Int32.add_sub_cancel, Nat.add_sub_cancel]
theorem pk_m1 (n : Nat) : nI (n + 1) + (-1) = nI n := by
  rw [← nI_1, Int32.add_assoc, show (1 : Int32) + (-1) = 0 from rfl, Int32.add_zero]
theorem pk_mul (a b : Nat) : nI a * nI b = nI (a * b) := (Int32.ofNat_mul a b).symm
theorem pk_div {a d : Nat} (ha : a < 2 ^ 31) (h0 : 0 < d) (hd : d < 2 ^ 31) : nI a / nI d = nI (a / d) := by
  apply Int32.toInt_inj.mp
  rw [lg_idiv_nonneg (by rw [nI_toInt ha]; omega) (by rw [nI_toInt hd]; omega), nI_toInt ha, nI_toInt hd, nI_toInt (Nat.lt_of_le_of_lt (Nat.div_le_self a d) ha)]
  first | rfl | exact (Int.natCast_ediv _ _).symm
theorem pk_rem {a d : Nat} (ha : a < 2 ^ 31) (h0 : 0 < d) (hd : d < 2 ^ 31) : nI a - nI a / nI d * nI d = nI (a % d) := by
  rw [pk_div ha h0 hd, pk_mul, pk_sub (Nat.div_mul_le_self a d)]
  exact congrArg nI (by have := Nat.div_add_mod' a d; omega)
theorem pk_ix (x : Int32) {n : Nat} (hn : n < 2 ^ 31) : x < 0 ∨ nI n ≤ x ∨ ∃ j : Nat, j < n ∧ x = nI j := by
  by_cases h : x < 0
  · exact Or.inl h
  · obtain ⟨j, hj, rfl⟩ := nI_of h
    by_cases h2 : j < n
    · exact Or.inr (Or.inr ⟨j, h2, rfl⟩)
    · exact Or.inr (Or.inl (nI_le (by omega) hj))
theorem pk_tn {n : Nat} (h : n < 2 ^ 32) : (nI n).toBitVec.toNat = n := Nat.mod_eq_of_lt h
theorem pk_and (x : Int32) {m : Int32} (k : Nat) (hm : m.toBitVec.toNat = 2 ^ k - 1) : x &&& m = nI (x.toBitVec.toNat % 2 ^ k) := by
  apply Int32.toBitVec_inj.mp
  apply BitVec.eq_of_toNat_eq
  rw [Int32.toBitVec_and, BitVec.toNat_and, hm, Nat.and_two_pow_sub_one_eq_mod]
  show _ = (BitVec.ofNat 32 _).toNat
  rw [BitVec.toNat_ofNat]
  exact (Nat.mod_eq_of_lt (Nat.lt_of_le_of_lt (Nat.mod_le _ _) x.toBitVec.isLt)).symm
theorem pk_andE (x : Int32) {m : Int32} (k : Nat) (hm : m.toBitVec.toNat = 2 ^ k - 1) : ∃ j : Nat, j < 2 ^ k ∧ x &&& m = nI j := ⟨_, Nat.mod_lt _ (Nat.two_pow_pos k), pk_and x k hm⟩
theorem co_2 {P : Nat → Prop} (h0 : P 0) (h1 : P 1) {i : Nat} (hi : i < 2) : P i :=
  match i, hi with
  | 0, _ => h0
  | 1, _ => h1
theorem co_3 {P : Nat → Prop} (h0 : P 0) (h1 : P 1) (h2 : P 2) {i : Nat} (hi : i < 3) : P i :=
  match i, hi with
  | 0, _ => h0
  | 1, _ => h1
  | 2, _ => h2
theorem co_4 {P : Nat → Prop} (h0 : P 0) (h1 : P 1) (h2 : P 2) (h3 : P 3) {i : Nat} (hi : i < 4) : P i :=
  match i, hi with
  | 0, _ => h0
  | 1, _ => h1
  | 2, _ => h2
  | 3, _ => h3
def bt (x : Int32) (i : Nat) : Bool := x.toBitVec.getLsbD i
theorem b_ext {x y : Int32} (h : ∀ i, i < 32 → bt x i = bt y i) : x = y := Int32.toBitVec_inj.mp (BitVec.eq_of_getLsbD_eq (fun i hi => h i hi))
theorem b_or (x y : Int32) (i : Nat) : bt (x ||| y) i = (bt x i || bt y i) := by unfold bt; rw [Int32.toBitVec_or, BitVec.getLsbD_or]
theorem b_and (x y : Int32) (i : Nat) : bt (x &&& y) i = (bt x i && bt y i) := by unfold bt; rw [Int32.toBitVec_and, BitVec.getLsbD_and]
theorem b_xor (x y : Int32) (i : Nat) : bt (x ^^^ y) i = (bt x i ^^ bt y i) := by unfold bt; rw [Int32.toBitVec_xor, BitVec.getLsbD_xor]
theorem b_big {x : Int32} {i : Nat} (h : 32 ≤ i) : bt x i = false := BitVec.getLsbD_of_ge _ _ h
theorem b_m1 : ∀ i, i < 32 → bt (-1) i = true := by decide +kernel
theorem b_0 (i : Nat) : bt 0 i = false := BitVec.getLsbD_zero
theorem s_l : ∀ n, n < 32 → ((nI n &&& 31).toBitVec.smod 32).toNat = n := by decide +kernel
theorem b_shl (n : Nat) (hn : n < 32) (x : Int32) {i : Nat} (hi : i < 32) : bt (x <<< (nI n &&& 31)) i = (decide (n ≤ i) && bt x (i - n)) := by
  unfold bt
  rw [Int32.toBitVec_shiftLeft]
  show (x.toBitVec <<< ((nI n &&& 31).toBitVec.smod 32).toNat).getLsbD i = _
  rw [s_l n hn, BitVec.getLsbD_shiftLeft]
  rcases Nat.lt_or_ge i n with h | h
  · simp [h, Nat.not_le.mpr h]
  · simp [hi, h, Nat.not_lt.mpr h]
theorem b_sshr (n : Nat) (hn : n < 32) (x : Int32) {i : Nat} (hi : i < 32) : bt (x >>> (nI n &&& 31)) i = if n + i < 32 then bt x (n + i) else bt x 31 := by
  unfold bt
  rw [Int32.toBitVec_shiftRight]
  show (x.toBitVec.sshiftRight ((nI n &&& 31).toBitVec.smod 32).toNat).getLsbD i = _
  rw [s_l n hn, BitVec.getLsbD_sshiftRight, BitVec.msb_eq_getLsbD_last]
  simp [hi]
end
section
/-! plain facts: index arithmetic, bits of sets of registers, what may be read, the count -/
theorem cf_i8 (f p : Nat) : nI f * 8 + nI p = nI (f * 8 + p) := by
  rw [show (8 : Int32) = nI 8 from rfl, pk_mul, nI_add]
theorem cf_i9 (f p : Nat) : nI f * 9 + nI p = nI (f * 9 + p) := by
  rw [show (9 : Int32) = nI 9 from rfl, pk_mul, nI_add]
theorem cf_i4 (f p : Nat) : nI f * 4 + nI p = nI (f * 4 + p) := by
  rw [show (4 : Int32) = nI 4 from rfl, pk_mul, nI_add]
theorem cf_i16 (f p : Nat) : nI f * 16 + nI p = nI (f * 16 + p) := by
  rw [show (16 : Int32) = nI 16 from rfl, pk_mul, nI_add]
theorem cf_m4 (f : Nat) : nI f * 4 = nI (f * 4) := by
  rw [show (4 : Int32) = nI 4 from rfl, pk_mul]
theorem cf_top (co t : Nat) : nI (co * 4 + (t + 1)) - 1 = nI (co * 4 + t) := nI_pred (co * 4 + t)
theorem cf_uu {f : Nat → Int32} {k : Nat} {x y : Int32} : upd (upd f k x) k y = upd f k y := by
  funext j
  unfold upd
  split <;> rfl
theorem cf_ue {f : Nat → Int32} {k : Nat} {x : Int32} (h : f k = x) : upd f k x = f := by
  funext j
  unfold upd
  split
  · rename_i e
    rw [e, h]
  · rfl
/-! the two registers of an instruction -/
def cf_ra (g : Nat → Int32) : Nat → Int32 := fun i => g i &&& 3
def cf_rb (g : Nat → Int32) : Nat → Int32 := fun i => (g i >>> ((2 : Int32) &&& 31)) &&& 3
theorem cf_raE (g : Nat → Int32) (i : Nat) : ∃ a : Nat, a < 4 ∧ cf_ra g i = nI a := pk_andE (g i) (m := 3) 2 (by decide)
theorem cf_rbE (g : Nat → Int32) (i : Nat) : ∃ a : Nat, a < 4 ∧ cf_rb g i = nI a := pk_andE (g i >>> ((2 : Int32) &&& 31)) (m := 3) 2 (by decide)
theorem cf_raU (g : Nat → Int32) (k : Nat) (x : Int32) : upd (cf_ra g) k (x &&& 3) = cf_ra (upd g k x) := by
  funext j
  show (if j = k then x &&& 3 else g j &&& 3) = (if j = k then x else g j) &&& 3
  split <;> rfl
theorem cf_rbU (g : Nat → Int32) (k : Nat) (x : Int32) : upd (cf_rb g) k ((x >>> ((2 : Int32) &&& 31)) &&& 3) = cf_rb (upd g k x) := by
  funext j
  show (if j = k then (x >>> ((2 : Int32) &&& 31)) &&& 3 else (g j >>> ((2 : Int32) &&& 31)) &&& 3) = ((if j = k then x else g j) >>> ((2 : Int32) &&& 31)) &&& 3
  split <;> rfl
theorem cf_ra0 : (fun _ => (0 : Int32)) = cf_ra (fun _ => 0) := by
  funext j
  show (0 : Int32) = 0 &&& 3
  decide
theorem cf_rb0 : (fun _ => (0 : Int32)) = cf_rb (fun _ => 0) := by
  funext j
  show (0 : Int32) = (0 >>> ((2 : Int32) &&& 31)) &&& 3
  decide
/-! bits -/
theorem cf_one' : ∀ a, a < 4 → ∀ i, i < 32 → bt ((1 : Int32) <<< (nI a &&& 31)) i = decide (i = a) := by decide +kernel
theorem cf_one {a : Nat} (ha : a < 4) (i : Nat) : bt ((1 : Int32) <<< (nI a &&& 31)) i = decide (i = a) := by
  rcases Nat.lt_or_ge i 32 with h | h
  · exact cf_one' a ha i h
  · rw [b_big h, decide_eq_false (by omega)]
theorem cf_anot (h m : Int32) (i : Nat) : bt (h &&& (m ^^^ (-1))) i = (bt h i && !bt m i) := by
  rcases Nat.lt_or_ge i 32 with hi | hi
  · rw [b_and, b_xor, b_m1 i hi, Bool.xor_true]
  · rw [b_and, b_big (x := h) hi, Bool.false_and, Bool.false_and]
theorem cf_bit1 : ∀ i, i < 32 → i ≠ 0 → bt 1 i = false := by decide +kernel
theorem cf_bit10 : bt 1 0 = true := by decide +kernel
theorem cf_kbv (K : Int32) {r : Nat} (hr : r < 4) : ((K >>> (nI r &&& 31)) &&& 1) = if bt K r = true then 1 else 0 := by
  apply b_ext
  intro i hi
  rw [b_and]
  rcases Nat.eq_zero_or_pos i with h0 | h0
  · subst h0
    rw [b_sshr r (by omega) K (by omega), if_pos (by omega), cf_bit10, Nat.add_zero, Bool.and_true]
    split
    · rename_i e
      rw [e, cf_bit10]
    · rename_i e
      rw [b_0]
      exact eq_false_of_ne_true e
  · rw [cf_bit1 i hi (by omega), Bool.and_false]
    split
    · exact (cf_bit1 i hi (by omega)).symm
    · exact (b_0 i).symm
theorem cf_kb (K : Int32) {r : Nat} (hr : r < 4) : ((K >>> (nI r &&& 31)) &&& 1) = 1 ↔ bt K r = true := by
  rw [cf_kbv K hr]
  constructor
  · intro h
    rcases Bool.eq_false_or_eq_true (bt K r) with e | e
    · exact e
    · rw [e] at h
      exact absurd h (by decide)
  · intro h
    rw [if_pos h]
/-! how many kept ones stand below r -/
def cf_cn (K : Int32) : Nat → Nat
  | 0 => 0
  | r + 1 => cf_cn K r + (if bt K r = true then 1 else 0)
theorem cf_cnS (K : Int32) {r : Nat} (h : bt K r = true) : cf_cn K (r + 1) = cf_cn K r + 1 := by
  show cf_cn K r + (if bt K r = true then 1 else 0) = _
  rw [if_pos h]
theorem cf_cnN (K : Int32) {r : Nat} (h : ¬ bt K r = true) : cf_cn K (r + 1) = cf_cn K r := by
  show cf_cn K r + (if bt K r = true then 1 else 0) = _
  rw [if_neg h]
  rfl
theorem cf_cn_le (K : Int32) : ∀ r, cf_cn K r ≤ r := by
  intro r
  induction r with
  | zero => exact Nat.le_refl 0
  | succ r ih =>
    by_cases h : bt K r = true
    · rw [cf_cnS K h]; omega
    · rw [cf_cnN K h]; omega
theorem cf_cn_mono (K : Int32) (a : Nat) : ∀ m, cf_cn K a ≤ cf_cn K (a + m) := by
  intro m
  induction m with
  | zero => exact Nat.le_refl _
  | succ m ih =>
    show cf_cn K a ≤ cf_cn K (a + m + 1)
    by_cases h : bt K (a + m) = true
    · rw [cf_cnS K h]; omega
    · rw [cf_cnN K h]; omega
theorem cf_cn_lt (K : Int32) {a b : Nat} (h : bt K a = true) (hab : a < b) : cf_cn K a < cf_cn K b := by
  have h1 := cf_cn_mono K (a + 1) (b - (a + 1))
  rw [show a + 1 + (b - (a + 1)) = b by omega, cf_cnS K h] at h1
  omega
/-! sets of registers -/
def cf_sub (x y : Int32) : Prop := ∀ i, bt x i = true → bt y i = true
def cf_15 (x : Int32) : Prop := ∀ i, 4 ≤ i → bt x i = false
theorem cf_sub_rfl (x : Int32) : cf_sub x x := fun _ h => h
theorem cf_sub_or {x y a b : Int32} (h : cf_sub x y) (k : cf_sub a b) : cf_sub (x ||| a) (y ||| b) := by
  intro i e
  rw [b_or, Bool.or_eq_true] at e ⊢
  exact e.imp (h i) (k i)
theorem cf_sub_anot {x y : Int32} (m : Int32) (h : cf_sub x y) : cf_sub (x &&& (m ^^^ (-1))) (y &&& (m ^^^ (-1))) := by
  intro i e
  rw [cf_anot, Bool.and_eq_true] at e ⊢
  exact ⟨h i e.1, e.2⟩
theorem cf_15_or {x y : Int32} (h : cf_15 x) (k : cf_15 y) : cf_15 (x ||| y) := by
  intro i e
  rw [b_or, h i e, k i e]
  rfl
theorem cf_15_anot {x : Int32} (m : Int32) (h : cf_15 x) : cf_15 (x &&& (m ^^^ (-1))) := by
  intro i e
  rw [cf_anot, h i e]
  rfl
theorem cf_15_one {a : Nat} (ha : a < 4) : cf_15 ((1 : Int32) <<< (nI a &&& 31)) := by
  intro i e
  rw [cf_one ha]
  exact decide_eq_false (by omega)
theorem cf_15_0 : cf_15 0 := fun i _ => b_0 i
def cf_c4 (x : Int32) : Nat := (bt x 0).toNat + (bt x 1).toNat + (bt x 2).toNat + (bt x 3).toNat
theorem cf_c4b : ∀ p0 p1 p2 p3 : Bool, p0.toNat + p1.toNat + p2.toNat + p3.toNat ≤ 4 := by decide
theorem cf_c4_le (x : Int32) : cf_c4 x ≤ 4 := cf_c4b _ _ _ _
theorem cf_c4l : ∀ p0 p1 p2 p3 q0 q1 q2 q3 : Bool, (p0 = true → q0 = true) → (p1 = true → q1 = true) → (p2 = true → q2 = true) → (p3 = true → q3 = true) → ¬ (p0 = q0 ∧ p1 = q1 ∧ p2 = q2 ∧ p3 = q3) → p0.toNat + p1.toNat + p2.toNat + p3.toNat < q0.toNat + q1.toNat + q2.toNat + q3.toNat := by decide
theorem cf_c4_lt {x y : Int32} (h : cf_sub x y) (hx : cf_15 x) (hy : cf_15 y) (ne : x ≠ y) : cf_c4 x < cf_c4 y := by
  refine cf_c4l _ _ _ _ _ _ _ _ (h 0) (h 1) (h 2) (h 3) ?_
  rintro ⟨e0, e1, e2, e3⟩
  apply ne
  apply b_ext
  intro i _
  rcases Nat.lt_or_ge i 4 with hi | hi
  · exact co_4 (P := fun i => bt x i = bt y i) e0 e1 e2 e3 hi
  · rw [hx i hi, hy i hi]
/-! the count over the 24 places -/
def cf_mu (rd : Nat → Int32) : Nat → Nat
  | 0 => 0
  | t + 1 => cf_mu rd t + cf_c4 (rd (t / 8 * 9 + t % 8))
theorem cf_mu_le (rd : Nat → Int32) : ∀ t, cf_mu rd t ≤ 4 * t := by
  intro t
  induction t with
  | zero => exact Nat.le_refl 0
  | succ t ih =>
    show cf_mu rd t + cf_c4 (rd (t / 8 * 9 + t % 8)) ≤ _
    have := cf_c4_le (rd (t / 8 * 9 + t % 8))
    omega
theorem cf_mu_upd {rd : Nat → Int32} {i : Nat} {x : Int32} (h : cf_c4 (rd (i / 8 * 9 + i % 8)) < cf_c4 x) : ∀ t, (t ≤ i → cf_mu (upd rd (i / 8 * 9 + i % 8) x) t = cf_mu rd t) ∧ (i < t → cf_mu rd t < cf_mu (upd rd (i / 8 * 9 + i % 8) x) t) := by
  intro t
  induction t with
  | zero => exact ⟨fun _ => rfl, fun z => absurd z (Nat.not_lt_zero _)⟩
  | succ t ih =>
    have e1 : cf_mu rd (t + 1) = cf_mu rd t + cf_c4 (rd (t / 8 * 9 + t % 8)) := rfl
    have e2 : cf_mu (upd rd (i / 8 * 9 + i % 8) x) (t + 1) = cf_mu (upd rd (i / 8 * 9 + i % 8) x) t + cf_c4 (upd rd (i / 8 * 9 + i % 8) x (t / 8 * 9 + t % 8)) := rfl
    rw [e1, e2]
    rcases Nat.lt_trichotomy t i with hti | hti | hti
    · rw [pk_un (show t / 8 * 9 + t % 8 ≠ i / 8 * 9 + i % 8 by omega), ih.1 (by omega)]
      exact ⟨fun _ => rfl, fun z => absurd z (by omega)⟩
    · subst hti
      rw [pk_us, ih.1 (by omega)]
      exact ⟨fun z => absurd z (by omega), fun _ => by omega⟩
    · rw [pk_un (show t / 8 * 9 + t % 8 ≠ i / 8 * 9 + i % 8 by omega)]
      have := ih.2 hti
      exact ⟨fun z => absurd z (by omega), fun _ => by omega⟩
/-! what may be read -/
def cf_RA (z rd : Nat → Int32) (f : Nat) (p : Int32) : Int32 := if p < 0 then 0 else if p < z f then rd (f * 9 + p.toNatClampNeg) else 0
def cf_F (k a b h t : Int32) : Int32 := if k = 0 then h &&& (a ^^^ (-1)) else if k = 1 then (h ||| a) ||| b else if k = 2 then (h ||| a) ||| b else if k = 3 then t else if k = 4 then (h ||| a) ||| t else if k = 5 then (h &&& (b ^^^ (-1))) ||| a else if k = 6 then h ||| a else a
def cf_RB (z o g c rd : Nat → Int32) (f p : Nat) : Int32 := cf_F (o (f * 8 + p)) ((1 : Int32) <<< (cf_ra g (f * 8 + p) &&& 31)) ((1 : Int32) <<< (cf_rb g (f * 8 + p) &&& 31)) (cf_RA z rd f (nI (p + 1))) (cf_RA z rd f (c (f * 8 + p)))
theorem cf_F0 (a b h t : Int32) : cf_F 0 a b h t = h &&& (a ^^^ (-1)) := if_pos rfl
theorem cf_F1 (a b h t : Int32) : cf_F 1 a b h t = (h ||| a) ||| b := by
  unfold cf_F; rw [if_neg (by decide), if_pos rfl]
theorem cf_F2 (a b h t : Int32) : cf_F 2 a b h t = (h ||| a) ||| b := by
  unfold cf_F; rw [if_neg (by decide), if_neg (by decide), if_pos rfl]
theorem cf_F3 (a b h t : Int32) : cf_F 3 a b h t = t := by
  unfold cf_F; rw [if_neg (by decide), if_neg (by decide), if_neg (by decide), if_pos rfl]
theorem cf_F4 (a b h t : Int32) : cf_F 4 a b h t = (h ||| a) ||| t := by
  unfold cf_F; rw [if_neg (by decide), if_neg (by decide), if_neg (by decide), if_neg (by decide), if_pos rfl]
theorem cf_F5 (a b h t : Int32) : cf_F 5 a b h t = (h &&& (b ^^^ (-1))) ||| a := by
  unfold cf_F; rw [if_neg (by decide), if_neg (by decide), if_neg (by decide), if_neg (by decide), if_neg (by decide), if_pos rfl]
theorem cf_F6 (a b h t : Int32) : cf_F 6 a b h t = h ||| a := by
  unfold cf_F; rw [if_neg (by decide), if_neg (by decide), if_neg (by decide), if_neg (by decide), if_neg (by decide), if_neg (by decide), if_pos rfl]
theorem cf_F7 (a b h t : Int32) : cf_F 7 a b h t = a := by
  unfold cf_F; rw [if_neg (by decide), if_neg (by decide), if_neg (by decide), if_neg (by decide), if_neg (by decide), if_neg (by decide), if_neg (by decide)]
/-- an op is one of eight -/
def cf_op (k : Int32) : Prop := k = 0 ∨ k = 1 ∨ k = 2 ∨ k = 3 ∨ k = 4 ∨ k = 5 ∨ k = 6 ∨ k = 7
theorem cf_F_mono {k : Int32} (hk : cf_op k) {a b h t h' t' : Int32} (hh : cf_sub h h') (ht : cf_sub t t') : cf_sub (cf_F k a b h t) (cf_F k a b h' t') := by
  rcases hk with e | e | e | e | e | e | e | e <;> subst e
  · rw [cf_F0, cf_F0]; exact cf_sub_anot a hh
  · rw [cf_F1, cf_F1]; exact cf_sub_or (cf_sub_or hh (cf_sub_rfl a)) (cf_sub_rfl b)
  · rw [cf_F2, cf_F2]; exact cf_sub_or (cf_sub_or hh (cf_sub_rfl a)) (cf_sub_rfl b)
  · rw [cf_F3, cf_F3]; exact ht
  · rw [cf_F4, cf_F4]; exact cf_sub_or (cf_sub_or hh (cf_sub_rfl a)) ht
  · rw [cf_F5, cf_F5]; exact cf_sub_or (cf_sub_anot b hh) (cf_sub_rfl a)
  · rw [cf_F6, cf_F6]; exact cf_sub_or hh (cf_sub_rfl a)
  · rw [cf_F7, cf_F7]; exact cf_sub_rfl a
theorem cf_F_15 {k : Int32} (hk : cf_op k) {a b h t : Int32} (ha : cf_15 a) (hb : cf_15 b) (hh : cf_15 h) (ht : cf_15 t) : cf_15 (cf_F k a b h t) := by
  rcases hk with e | e | e | e | e | e | e | e <;> subst e
  · rw [cf_F0]; exact cf_15_anot a hh
  · rw [cf_F1]; exact cf_15_or (cf_15_or hh ha) hb
  · rw [cf_F2]; exact cf_15_or (cf_15_or hh ha) hb
  · rw [cf_F3]; exact ht
  · rw [cf_F4]; exact cf_15_or (cf_15_or hh ha) ht
  · rw [cf_F5]; exact cf_15_or (cf_15_anot b hh) ha
  · rw [cf_F6]; exact cf_15_or hh ha
  · rw [cf_F7]; exact ha
theorem cf_RAneg (z rd : Nat → Int32) (f : Nat) {p : Int32} (h : p < 0) : cf_RA z rd f p = 0 := if_pos h
theorem cf_RAin (z rd : Nat → Int32) (f : Nat) {p : Int32} (h : ¬ p < 0) (h2 : p < z f) : cf_RA z rd f p = rd (f * 9 + p.toNatClampNeg) := by
  unfold cf_RA; rw [if_neg h, if_pos h2]
theorem cf_RAout (z rd : Nat → Int32) (f : Nat) {p : Int32} (h : ¬ p < z f) : cf_RA z rd f p = 0 := by
  unfold cf_RA
  split
  · rfl
  · rfl
theorem cf_RAn (z rd : Nat → Int32) (f : Nat) {p : Nat} (hp : p < 8) (h2 : nI p < z f) : cf_RA z rd f (nI p) = rd (f * 9 + p) := by
  rw [cf_RAin z rd f (nI_pos (by omega)) h2, nI_clamp (by omega)]
/-! the code is well formed -/
def cf_CW (z o : Nat → Int32) : Prop := (∀ f, f < 3 → ∃ n : Nat, n ≤ 8 ∧ z f = nI n) ∧ (∀ i, i < 24 → cf_op (o i))
theorem cf_zlt {z o : Nat → Int32} (W : cf_CW z o) {f : Nat} (hf : f < 3) {p : Int32} (h : ¬ p < 0) (h2 : p < z f) : ∃ q : Nat, q < 8 ∧ p = nI q := by
  obtain ⟨n, hn, e⟩ := W.1 f hf
  obtain ⟨q, hq, rfl⟩ := nI_of h
  rw [e, nI_ltI hq (by omega)] at h2
  exact ⟨q, by omega, rfl⟩
def cf_le (rd rd' : Nat → Int32) : Prop := ∀ i, cf_sub (rd i) (rd' i)
theorem cf_RA_mono {z rd rd' : Nat → Int32} (h : cf_le rd rd') (f : Nat) (p : Int32) : cf_sub (cf_RA z rd f p) (cf_RA z rd' f p) := by
  by_cases h1 : p < 0
  · rw [cf_RAneg z rd f h1, cf_RAneg z rd' f h1]; exact cf_sub_rfl 0
  · by_cases h2 : p < z f
    · rw [cf_RAin z rd f h1 h2, cf_RAin z rd' f h1 h2]; exact h _
    · rw [cf_RAout z rd f h2, cf_RAout z rd' f h2]; exact cf_sub_rfl 0
theorem cf_RA_15 {z o rd : Nat → Int32} (W : cf_CW z o) (h : ∀ i, i < 27 → cf_15 (rd i)) {f : Nat} (hf : f < 3) (p : Int32) : cf_15 (cf_RA z rd f p) := by
  by_cases h1 : p < 0
  · rw [cf_RAneg z rd f h1]; exact cf_15_0
  · by_cases h2 : p < z f
    · obtain ⟨q, hq, rfl⟩ := cf_zlt W hf h1 h2
      rw [cf_RAn z rd f hq h2]; exact h _ (by omega)
    · rw [cf_RAout z rd f h2]; exact cf_15_0
theorem cf_RB_mono {z o g c rd rd' : Nat → Int32} (W : cf_CW z o) (h : cf_le rd rd') {f p : Nat} (hf : f < 3) (hp : p < 8) : cf_sub (cf_RB z o g c rd f p) (cf_RB z o g c rd' f p) :=
  cf_F_mono (W.2 _ (by omega)) (cf_RA_mono h f _) (cf_RA_mono h f _)
theorem cf_RB_15 {z o g c rd : Nat → Int32} (W : cf_CW z o) (h : ∀ i, i < 27 → cf_15 (rd i)) {f p : Nat} (hf : f < 3) (hp : p < 8) : cf_15 (cf_RB z o g c rd f p) := by
  obtain ⟨a, ha, ea⟩ := cf_raE g (f * 8 + p)
  obtain ⟨b, hb, eb⟩ := cf_rbE g (f * 8 + p)
  unfold cf_RB
  rw [ea, eb]
  exact cf_F_15 (W.2 _ (by omega)) (cf_15_one ha) (cf_15_one hb) (cf_RA_15 W h hf _) (cf_RA_15 W h hf _)
/-! the ascent -/
def cf_Pre (z o g c rd : Nat → Int32) : Prop := (∀ i, i < 27 → cf_15 (rd i)) ∧ (∀ f p, f < 3 → p < 8 → nI p < z f → cf_sub (rd (f * 9 + p)) (cf_RB z o g c rd f p))
def cf_Fix (z o g c rd : Nat → Int32) : Prop := ∀ f p, f < 3 → p < 8 → nI p < z f → rd (f * 9 + p) = cf_RB z o g c rd f p
theorem cf_pre0 {z o g c rd : Nat → Int32} (h : ∀ i, i < 27 → rd i = 0) : cf_Pre z o g c rd := by
  refine ⟨fun i hi => ?_, fun f p hf hp _ => ?_⟩
  · rw [h i hi]; exact cf_15_0
  · rw [h _ (by omega)]
    intro i e
    rw [b_0] at e
    exact absurd e (by decide)
theorem cf_pre_up {z o g c rd : Nat → Int32} (W : cf_CW z o) (P : cf_Pre z o g c rd) {f p : Nat} (hf : f < 3) (hp : p < 8) (hz : nI p < z f) : cf_Pre z o g c (upd rd (f * 9 + p) (cf_RB z o g c rd f p)) := by
  have hle : cf_le rd (upd rd (f * 9 + p) (cf_RB z o g c rd f p)) := by
    intro i
    by_cases e : i = f * 9 + p
    · subst e; rw [pk_us]; exact P.2 f p hf hp hz
    · rw [pk_un e]; exact cf_sub_rfl _
  refine ⟨fun i hi => ?_, fun f' p' hf' hp' hz' => ?_⟩
  · by_cases e : i = f * 9 + p
    · subst e; rw [pk_us]; exact cf_RB_15 W P.1 hf hp
    · rw [pk_un e]; exact P.1 i hi
  · by_cases e : f' * 9 + p' = f * 9 + p
    · have e1 : f' = f := by omega
      have e2 : p' = p := by omega
      subst e1 e2
      rw [pk_us]
      exact cf_RB_mono W hle hf hp
    · rw [pk_un e]
      exact fun i h => cf_RB_mono W hle hf' hp' i (P.2 f' p' hf' hp' hz' i h)
/-! rules of liveness -/
def cf_L (z rd : Nat → Int32) (f : Nat) (p : Int32) (r : Nat) : Prop := bt (cf_RA z rd f p) r = true
theorem cf_Lrd {z o g c rd : Nat → Int32} (F : cf_Fix z o g c rd) {f p : Nat} (hf : f < 3) (hp : p < 8) (hz : nI p < z f) : cf_RA z rd f (nI p) = cf_RB z o g c rd f p := by
  rw [cf_RAn z rd f hp hz]; exact F f p hf hp hz
section
variable {z o g c rd : Nat → Int32} {f p a b : Nat}
theorem cf_lv0 (F : cf_Fix z o g c rd) (hf : f < 3) (hp : p < 8) (hz : nI p < z f) (ho : o (f * 8 + p) = 0) (ha : a < 4) (ea : cf_ra g (f * 8 + p) = nI a) {r : Nat} (hr : r ≠ a) (h : cf_L z rd f (nI (p + 1)) r) : cf_L z rd f (nI p) r := by
  unfold cf_L at h ⊢
  rw [cf_Lrd F hf hp hz]
  unfold cf_RB
  rw [ho, cf_F0, cf_anot, h, ea, cf_one ha, decide_eq_false hr]
  rfl
theorem cf_lv1 (F : cf_Fix z o g c rd) (hf : f < 3) (hp : p < 8) (hz : nI p < z f) (ho : o (f * 8 + p) = 1 ∨ o (f * 8 + p) = 2) (ha : a < 4) (ea : cf_ra g (f * 8 + p) = nI a) (hb : b < 4) (eb : cf_rb g (f * 8 + p) = nI b) : (∀ r, cf_L z rd f (nI (p + 1)) r → cf_L z rd f (nI p) r) ∧ cf_L z rd f (nI p) a ∧ cf_L z rd f (nI p) b := by
  unfold cf_L
  rw [cf_Lrd F hf hp hz]
  unfold cf_RB
  have e : cf_F (o (f * 8 + p)) ((1 : Int32) <<< (cf_ra g (f * 8 + p) &&& 31)) ((1 : Int32) <<< (cf_rb g (f * 8 + p) &&& 31)) (cf_RA z rd f (nI (p + 1))) (cf_RA z rd f (c (f * 8 + p))) = (cf_RA z rd f (nI (p + 1)) ||| ((1 : Int32) <<< (nI a &&& 31))) ||| ((1 : Int32) <<< (nI b &&& 31)) := by
    rcases ho with ho | ho
    · rw [ho, ea, eb, cf_F1]
    · rw [ho, ea, eb, cf_F2]
  rw [e]
  refine ⟨fun r h => ?_, ?_, ?_⟩
  · rw [b_or, b_or, h]; rfl
  · rw [b_or, b_or, cf_one ha, decide_eq_true rfl, Bool.or_true]; rfl
  · rw [b_or, cf_one hb, decide_eq_true rfl, Bool.or_true]
theorem cf_lv3 (F : cf_Fix z o g c rd) (hf : f < 3) (hp : p < 8) (hz : nI p < z f) (ho : o (f * 8 + p) = 3) {r : Nat} (h : cf_L z rd f (c (f * 8 + p)) r) : cf_L z rd f (nI p) r := by
  unfold cf_L at h ⊢
  rw [cf_Lrd F hf hp hz]
  unfold cf_RB
  rw [ho, cf_F3, h]
theorem cf_lv4 (F : cf_Fix z o g c rd) (hf : f < 3) (hp : p < 8) (hz : nI p < z f) (ho : o (f * 8 + p) = 4) (ha : a < 4) (ea : cf_ra g (f * 8 + p) = nI a) : (∀ r, cf_L z rd f (nI (p + 1)) r → cf_L z rd f (nI p) r) ∧ (∀ r, cf_L z rd f (c (f * 8 + p)) r → cf_L z rd f (nI p) r) ∧ cf_L z rd f (nI p) a := by
  unfold cf_L
  rw [cf_Lrd F hf hp hz]
  unfold cf_RB
  rw [ho, cf_F4]
  refine ⟨fun r h => ?_, fun r h => ?_, ?_⟩
  · rw [b_or, b_or, h]; rfl
  · rw [b_or, h, Bool.or_true]
  · rw [b_or, b_or, ea, cf_one ha, decide_eq_true rfl, Bool.or_true]; rfl
theorem cf_lv5 (F : cf_Fix z o g c rd) (hf : f < 3) (hp : p < 8) (hz : nI p < z f) (ho : o (f * 8 + p) = 5) (ha : a < 4) (ea : cf_ra g (f * 8 + p) = nI a) (hb : b < 4) (eb : cf_rb g (f * 8 + p) = nI b) : (∀ r, r ≠ b → cf_L z rd f (nI (p + 1)) r → cf_L z rd f (nI p) r) ∧ cf_L z rd f (nI p) a := by
  unfold cf_L
  rw [cf_Lrd F hf hp hz]
  unfold cf_RB
  rw [ho, cf_F5]
  refine ⟨fun r hr h => ?_, ?_⟩
  · rw [b_or, cf_anot, h, eb, cf_one hb, decide_eq_false hr]; rfl
  · rw [b_or, ea, cf_one ha, decide_eq_true rfl, Bool.or_true]
theorem cf_lv6 (F : cf_Fix z o g c rd) (hf : f < 3) (hp : p < 8) (hz : nI p < z f) (ho : o (f * 8 + p) = 6) (ha : a < 4) (ea : cf_ra g (f * 8 + p) = nI a) : (∀ r, cf_L z rd f (nI (p + 1)) r → cf_L z rd f (nI p) r) ∧ cf_L z rd f (nI p) a := by
  unfold cf_L
  rw [cf_Lrd F hf hp hz]
  unfold cf_RB
  rw [ho, cf_F6]
  refine ⟨fun r h => ?_, ?_⟩
  · rw [b_or, h]; rfl
  · rw [b_or, ea, cf_one ha, decide_eq_true rfl, Bool.or_true]
theorem cf_lv7 (F : cf_Fix z o g c rd) (hf : f < 3) (hp : p < 8) (hz : nI p < z f) (ho : o (f * 8 + p) = 7) (ha : a < 4) (ea : cf_ra g (f * 8 + p) = nI a) : cf_L z rd f (nI p) a := by
  unfold cf_L
  rw [cf_Lrd F hf hp hz]
  unfold cf_RB
  rw [ho, cf_F7, ea, cf_one ha, decide_eq_true rfl]
end
/-! what a waiting frame keeps: w is the register that it will be given -/
def cf_w (o g : Nat → Int32) (i : Nat) : Int32 := if o i = 5 then cf_rb g i else cf_ra g i
theorem cf_wE (o g : Nat → Int32) (i : Nat) : ∃ a : Nat, a < 4 ∧ cf_w o g i = nI a := by
  unfold cf_w
  split
  · exact cf_rbE g i
  · exact cf_raE g i
def cf_K (z o g rd : Nat → Int32) (f p : Nat) : Int32 := cf_RA z rd f (nI (p + 1)) &&& (((1 : Int32) <<< (cf_w o g (f * 8 + p) &&& 31)) ^^^ (-1))
theorem cf_Kbit {z o g rd : Nat → Int32} {f p w : Nat} (hw : w < 4) (ew : cf_w o g (f * 8 + p) = nI w) (r : Nat) : bt (cf_K z o g rd f p) r = true ↔ (cf_L z rd f (nI (p + 1)) r ∧ r ≠ w) := by
  unfold cf_K cf_L
  rw [cf_anot, ew, cf_one hw, Bool.and_eq_true]
  by_cases h : r = w
  · rw [decide_eq_true h]
    exact ⟨fun z => absurd z.2 (by decide), fun z => absurd h z.2⟩
  · rw [decide_eq_false h]
    exact ⟨fun z => ⟨z.1, h⟩, fun z => ⟨z.1, rfl⟩⟩
end
section
/-! the component's own methods that only reckon: readsAt, readsBefore, analyse, keptAt -/
section
variable {an fu pl : Int32} {z o g c rd s vl dn dp ff fp pk rg : Nat → Int32}
theorem cf_xfin {i : Nat} (hi : i < 4) {st v : Int32} {post : SX → Prop} (h : post (an, fu, pl, z, o, cf_ra g, cf_rb g, c, rd, upd s i st, upd vl i v, dn, upd dp i 0, ff, fp, pk, rg)) : wpX_finish post (an, fu, pl, z, o, cf_ra g, cf_rb g, c, rd, s, vl, dn, dp, ff, fp, pk, rg) (nI i) st v := by
  have hin : vp_in (nI i) 4 := vp_in_nI hi (by omega)
  have e : (nI i).toNatClampNeg = i := nI_clamp (by omega)
  unfold wpX_finish
  simp only [e]
  exact ⟨hin, nm_e ⟨hin, nm_e ⟨hin, nm_e h⟩⟩⟩
theorem cf_xra (W : cf_CW z o) {f : Nat} (hf : f < 3) {p : Int32} {post : Int32 → Prop} (h : post (cf_RA z rd f p)) : wpX_readsAt post (an, fu, pl, z, o, cf_ra g, cf_rb g, c, rd, s, vl, dn, dp, ff, fp, pk, rg) (nI f) p := by
  have e : (nI f).toNatClampNeg = f := nI_clamp (by omega)
  unfold wpX_readsAt
  simp only [e]
  by_cases h1 : p < 0
  · rw [cf_RAneg z rd f h1] at h
    exact br_t h1 h
  · refine br_f h1 ⟨vp_in_nI hf (by omega), ?_⟩
    by_cases h2 : p < z f
    · obtain ⟨q, hq, rfl⟩ := cf_zlt W hf h1 h2
      rw [cf_RAn z rd f hq h2] at h
      rw [cf_i9, nI_clamp (by omega)]
      exact br_t h2 ⟨vp_in_nI (by omega) (by omega), h⟩
    · rw [cf_RAout z rd f h2] at h
      exact br_f h2 h
theorem cf_xrb (W : cf_CW z o) {f p : Nat} (hf : f < 3) (hp : p < 8) {post : Int32 → Prop} (h : post (cf_RB z o g c rd f p)) : wpX_readsBefore post (an, fu, pl, z, o, cf_ra g, cf_rb g, c, rd, s, vl, dn, dp, ff, fp, pk, rg) (nI f) (nI p) := by
  have e8 : nI f * 8 + nI p = nI (f * 8 + p) := cf_i8 f p
  have e : (nI (f * 8 + p)).toNatClampNeg = f * 8 + p := nI_clamp (by omega)
  have hin : vp_in (nI (f * 8 + p)) 24 := vp_in_nI (by omega) (by omega)
  have ho : cf_op (o (f * 8 + p)) := W.2 _ (by omega)
  unfold wpX_readsBefore
  simp only [e8, forall_eq, e, nI_1]
  refine ⟨hin, hin, cf_xra W hf ⟨hin, ?_⟩⟩
  unfold cf_RB at h
  rcases ho with eo | eo | eo | eo | eo | eo | eo | eo <;> rw [eo] at h ⊢
  · rw [cf_F0] at h
    exact br_f (by decide) (br_f (by decide) (br_t rfl h))
  · rw [cf_F1] at h
    exact br_f (by decide) (br_f (by decide) (br_f (by decide) (br_t rfl h)))
  · rw [cf_F2] at h
    exact br_f (by decide) (br_f (by decide) (br_f (by decide) (br_f (by decide) (br_t rfl h))))
  · rw [cf_F3] at h
    exact br_f (by decide) (br_f (by decide) (br_f (by decide) (br_f (by decide) (br_f (by decide) (br_t rfl ⟨hin, cf_xra W hf h⟩)))))
  · rw [cf_F4] at h
    exact br_f (by decide) (br_f (by decide) (br_f (by decide) (br_f (by decide) (br_f (by decide) (br_f (by decide) (br_t rfl ⟨hin, cf_xra W hf h⟩))))))
  · rw [cf_F5] at h
    exact br_f (by decide) (br_f (by decide) (br_f (by decide) (br_f (by decide) (br_f (by decide) (br_f (by decide) (br_f (by decide) (br_t rfl h)))))))
  · rw [cf_F6] at h
    exact br_f (by decide) (br_f (by decide) (br_f (by decide) (br_f (by decide) (br_f (by decide) (br_f (by decide) (br_f (by decide) (br_f (by decide) (br_t rfl h))))))))
  · rw [cf_F7] at h
    exact br_f (by decide) (br_t (by decide) h)
theorem cf_xat0 (W : cf_CW z o) {f p : Nat} (hf : f < 3) (hp : p < 8) (hx : nI p < z f → cf_RB z o g c rd f p = rd (f * 9 + p)) {post : Int32 → SX → Prop} (h : post 0 (an, fu, pl, z, o, cf_ra g, cf_rb g, c, rd, s, vl, dn, dp, ff, fp, pk, rg)) : wpX_analyseAt post (an, fu, pl, z, o, cf_ra g, cf_rb g, c, rd, s, vl, dn, dp, ff, fp, pk, rg) (nI f) (nI p) := by
  have e : (nI f).toNatClampNeg = f := nI_clamp (by omega)
  have e9 : (nI (f * 9 + p)).toNatClampNeg = f * 9 + p := nI_clamp (by omega)
  unfold wpX_analyseAt
  simp only [e, cf_i9, e9]
  refine ⟨vp_in_nI hf (by omega), ?_⟩
  by_cases hz : nI p < z f
  · exact br_t hz (cf_xrb W hf hp ⟨vp_in_nI (by omega) (by omega), br_t (hx hz) h⟩)
  · exact br_f hz h
theorem cf_xat1 (W : cf_CW z o) {f p : Nat} (hf : f < 3) (hp : p < 8) (hz : nI p < z f) (hx : ¬ cf_RB z o g c rd f p = rd (f * 9 + p)) {post : Int32 → SX → Prop} (h : post 1 (an, fu, pl, z, o, cf_ra g, cf_rb g, c, upd rd (f * 9 + p) (cf_RB z o g c rd f p), s, vl, dn, dp, ff, fp, pk, rg)) : wpX_analyseAt post (an, fu, pl, z, o, cf_ra g, cf_rb g, c, rd, s, vl, dn, dp, ff, fp, pk, rg) (nI f) (nI p) := by
  have e : (nI f).toNatClampNeg = f := nI_clamp (by omega)
  have e9 : (nI (f * 9 + p)).toNatClampNeg = f * 9 + p := nI_clamp (by omega)
  have hin : vp_in (nI (f * 9 + p)) 27 := vp_in_nI (by omega) (by omega)
  unfold wpX_analyseAt
  simp only [e, cf_i9, e9]
  exact ⟨vp_in_nI hf (by omega), br_t hz (cf_xrb W hf hp ⟨hin, br_f hx ⟨hin, nm_e h⟩⟩)⟩
end
theorem cf_d8 {t : Nat} (h : t < 24) : nI t / 8 = nI (t / 8) := pk_div (d := 8) (by omega) (by omega) (by omega)
theorem cf_r8 {t : Nat} (h : t < 24) : nI t - nI (t / 8) * 8 = nI (t % 8) := by
  have := pk_rem (a := t) (d := 8) (by omega) (by omega) (by omega)
  rw [← cf_d8 h]
  exact this
abbrev cf_JT : Type := Int32 → Int32 → Int32 → Int32 → Int32 → (Nat → Int32) → (Nat → Int32) → (Nat → Int32) → (Nat → Int32) → (Nat → Int32) → (Nat → Int32) → (Nat → Int32) → (Nat → Int32) → (Nat → Int32) → (Nat → Int32) → (Nat → Int32) → (Nat → Int32) → (Nat → Int32) → (Nat → Int32) → Prop
section
variable {an fu pl : Int32} {z o g c s vl dn dp ff fp pk rg : Nat → Int32}
theorem cf_x53 (W : cf_CW z o) : ∀ t, t ≤ 24 → ∀ (m : Int32) (rd : Nat → Int32), (m = 0 ∨ m = 1) → cf_Pre z o g c rd → ∃ (m' : Int32) (rd' : Nat → Int32), (m' = 0 ∨ m' = 1) ∧ cf_Pre z o g c rd' ∧ (m' = 0 → rd' = rd ∧ m = 0 ∧ ∀ i, i < t → nI (i % 8) < z (i / 8) → cf_RB z o g c rd (i / 8) (i % 8) = rd (i / 8 * 9 + i % 8)) ∧ (cf_mu rd 24 ≤ cf_mu rd' 24 ∧ (m' = 1 → m = 1 ∨ cf_mu rd 24 < cf_mu rd' 24)) ∧ ∀ (post : SX → Prop) (J : cf_JT) (x2 : Int32), J m' (x2 + 1) an fu pl z o (cf_ra g) (cf_rb g) c rd' s vl dn dp ff fp pk rg → wX_analyse_53 post J x2 (t + 1) m (nI t + (-1)) an fu pl z o (cf_ra g) (cf_rb g) c rd s vl dn dp ff fp pk rg := by
  intro t
  induction t with
  | zero =>
    intro _ m rd hm P
    refine ⟨m, rd, hm, P, fun e => ⟨rfl, e, fun i hi => absurd hi (Nat.not_lt_zero _)⟩, ⟨Nat.le_refl _, fun e => Or.inl e⟩, ?_⟩
    intro post J x2 hJ
    rw [wX_analyse_53]
    exact br_t (by decide) (nm_e hJ)
  | succ t ih =>
    intro ht m rd hm P
    have hf : t / 8 < 3 := by omega
    have hp : t % 8 < 8 := by omega
    by_cases hx : nI (t % 8) < z (t / 8) → cf_RB z o g c rd (t / 8) (t % 8) = rd (t / 8 * 9 + t % 8)
    · obtain ⟨m', rd', h1, h2, h3, h4, h5⟩ := ih (by omega) m rd hm P
      refine ⟨m', rd', h1, h2, fun e => ?_, h4, ?_⟩
      · obtain ⟨a1, a2, a3⟩ := h3 e
        refine ⟨a1, a2, fun i hi => ?_⟩
        rcases Nat.lt_or_ge i t with hit | hit
        · exact a3 i hit
        · have : i = t := by omega
          subst this
          exact hx
      · intro post J x2 hJ
        have hn := h5 post J x2 hJ
        rw [wX_analyse_53, pk_m1]
        refine br_f (nI_pos (by omega)) ⟨by decide, by decide, ?_⟩
        rw [cf_d8 (by omega), cf_r8 (by omega)]
        refine cf_xat0 W hf hp hx ?_
        rcases hm with e | e
        · subst e
          exact br_t rfl (br_t rfl (nm_e hn))
        · subst e
          exact br_f (by decide) (nm_e hn)
    · have hz : nI (t % 8) < z (t / 8) := Classical.byContradiction fun n => hx fun y => absurd y n
      have hne : ¬ cf_RB z o g c rd (t / 8) (t % 8) = rd (t / 8 * 9 + t % 8) := fun n => hx fun _ => n
      have P1 := cf_pre_up W P hf hp hz
      have hc : cf_c4 (rd (t / 8 * 9 + t % 8)) < cf_c4 (cf_RB z o g c rd (t / 8) (t % 8)) := cf_c4_lt (P.2 _ _ hf hp hz) (P.1 _ (by omega)) (cf_RB_15 W P.1 hf hp) (fun n => hne n.symm)
      have hmu := (cf_mu_upd hc 24).2 (by omega)
      obtain ⟨m', rd', h1, h2, h3, h4, h5⟩ := ih (by omega) 1 _ (Or.inr rfl) P1
      refine ⟨m', rd', h1, h2, fun e => absurd (h3 e).2.1 (by decide), ⟨by omega, fun _ => Or.inr (by omega)⟩, ?_⟩
      intro post J x2 hJ
      have hn := h5 post J x2 hJ
      rw [wX_analyse_53, pk_m1]
      refine br_f (nI_pos (by omega)) ⟨by decide, by decide, ?_⟩
      rw [cf_d8 (by omega), cf_r8 (by omega)]
      refine cf_xat1 W hf hp hz hne ?_
      rcases hm with e | e
      · subst e
        exact br_t rfl (br_f (by decide) (nm_e hn))
      · subst e
        exact br_f (by decide) (nm_e hn)
theorem cf_fixOf {rd : Nat → Int32} (h : ∀ i, i < 24 → nI (i % 8) < z (i / 8) → cf_RB z o g c rd (i / 8) (i % 8) = rd (i / 8 * 9 + i % 8)) : cf_Fix z o g c rd := by
  intro f p hf hp hz
  have h1 := h (f * 8 + p) (by omega)
  rw [show (f * 8 + p) / 8 = f by omega, show (f * 8 + p) % 8 = p by omega] at h1
  exact (h1 hz).symm
theorem cf_x38 (W : cf_CW z o) : ∀ e k, k + e = 97 → ∀ (m : Int32) (rd : Nat → Int32), (m = 0 ∨ m = 1) → cf_Pre z o g c rd → (m = 0 → cf_Fix z o g c rd) → (m = 1 → k ≤ cf_mu rd 24) → ∃ rd' : Nat → Int32, cf_Fix z o g c rd' ∧ ∀ post : SX → Prop, post (an, fu, pl, z, o, cf_ra g, cf_rb g, c, rd', s, vl, dn, dp, ff, fp, pk, rg) → wX_analyse_38 post (e + 1) m (nI k) an fu pl z o (cf_ra g) (cf_rb g) c rd s vl dn dp ff fp pk rg := by
  intro e
  induction e with
  | zero =>
    intro k hk m rd hm P h0 h1
    have hmu := cf_mu_le rd 24
    have hm0 : m = 0 := by
      rcases hm with e | e
      · exact e
      · have := h1 e
        omega
    refine ⟨rd, h0 hm0, fun post hp => ?_⟩
    rw [wX_analyse_38]
    exact br_t (nI_lt (a := 96) (by omega) (by omega)) hp
  | succ e ih =>
    intro k hk m rd hm P h0 h1
    have hk96 : ¬ (96 : Int32) < nI k := nI_nlt (b := k) (a := 96) (by omega) (by omega)
    rcases hm with hm | hm
    · subst hm
      refine ⟨rd, h0 rfl, fun post hp => ?_⟩
      rw [wX_analyse_38]
      exact br_f hk96 (br_t rfl hp)
    · subst hm
      obtain ⟨m', rd', a1, a2, a3, a4, a5⟩ := cf_x53 (an := an) (fu := fu) (pl := pl) (s := s) (vl := vl) (dn := dn) (dp := dp) (ff := ff) (fp := fp) (pk := pk) (rg := rg) W 24 (Nat.le_refl _) 0 rd (Or.inl rfl) P
      have hF : m' = 0 → cf_Fix z o g c rd' := by
        intro e0
        obtain ⟨b1, _, b3⟩ := a3 e0
        rw [b1]
        exact cf_fixOf b3
      have hM : m' = 1 → k + 1 ≤ cf_mu rd' 24 := by
        intro e1
        have b1 := h1 rfl
        rcases a4.2 e1 with b | b
        · exact absurd b (by decide)
        · omega
      obtain ⟨rd2, c1, c2⟩ := ih (k + 1) (by omega) m' rd' a1 a2 hF hM
      refine ⟨rd2, c1, fun post hp => ?_⟩
      rw [wX_analyse_38]
      refine br_f hk96 (br_f (by decide) ⟨25, ?_⟩)
      have h23 : (23 : Int32) = nI 24 + (-1) := by decide
      rw [h23]
      refine a5 post _ (nI k) ?_
      rw [nI_1]
      exact c2 post hp
theorem cf_x15 : ∀ m i, i + m = 27 → ∀ rd : Nat → Int32, (∀ j, j < i → rd j = 0) → ∃ rd' : Nat → Int32, (∀ j, j < 27 → rd' j = 0) ∧ ∀ post : SX → Prop, wX_analyse_15 post an fu pl 1 (nI 27) z o (cf_ra g) (cf_rb g) c rd' s vl dn dp ff fp pk rg → wX_analyse_15 post an fu pl (m + 1) (nI i) z o (cf_ra g) (cf_rb g) c rd s vl dn dp ff fp pk rg := by
  intro m
  induction m with
  | zero =>
    intro i hi rd h
    have : i = 27 := by omega
    subst this
    exact ⟨rd, h, fun post hp => hp⟩
  | succ m ih =>
    intro i hi rd h
    obtain ⟨rd', h1, h2⟩ := ih (i + 1) (by omega) (upd rd i 0) (by
      intro j hj
      by_cases e : j = i
      · subst e; exact pk_us
      · rw [pk_un e]; exact h j (by omega))
    refine ⟨rd', h1, fun post hp => ?_⟩
    have hn := h2 post hp
    rw [wX_analyse_15]
    refine br_f (nI_ge (b := 27) (by omega) (by omega)) ⟨vp_in_nI (by omega) (by omega), ?_⟩
    rw [nI_clamp (by omega), nI_1]
    exact nm_e (nm_e hn)
theorem cf_xan {rd : Nat → Int32} (W : cf_CW z o) (hF : an ≠ 0 → cf_Fix z o g c rd) : ∃ (an' : Int32) (rd' : Nat → Int32), an' ≠ 0 ∧ cf_Fix z o g c rd' ∧ (an ≠ 0 → rd' = rd) ∧ ∀ post : SX → Prop, post (an', fu, pl, z, o, cf_ra g, cf_rb g, c, rd', s, vl, dn, dp, ff, fp, pk, rg) → wpX_analyse post (an, fu, pl, z, o, cf_ra g, cf_rb g, c, rd, s, vl, dn, dp, ff, fp, pk, rg) := by
  by_cases h : an = 0
  · subst h
    obtain ⟨rd1, a1, a2⟩ := cf_x15 (an := 1) (fu := fu) (pl := pl) (z := z) (o := o) (g := g) (c := c) (s := s) (vl := vl) (dn := dn) (dp := dp) (ff := ff) (fp := fp) (pk := pk) (rg := rg) 27 0 rfl rd (fun j hj => absurd hj (Nat.not_lt_zero _))
    obtain ⟨rd2, b1, b2⟩ := cf_x38 (an := 1) (fu := fu) (pl := pl) (s := s) (vl := vl) (dn := dn) (dp := dp) (ff := ff) (fp := fp) (pk := pk) (rg := rg) W 97 0 rfl 1 rd1 (Or.inr rfl) (cf_pre0 a1) (fun e => absurd e (by decide)) (fun _ => Nat.zero_le _)
    refine ⟨1, rd2, by decide, b1, fun e => absurd rfl e, fun post hp => ?_⟩
    unfold wpX_analyse
    refine br_t rfl ⟨28, a2 post ?_⟩
    rw [wX_analyse_15]
    exact br_t (nI_le (a := 27) (by omega) (by omega)) ⟨98, b2 post hp⟩
  · exact ⟨an, rd, h, hF h, fun _ => rfl, fun post hp => by unfold wpX_analyse; exact br_f h hp⟩
end
section
variable {an fu pl : Int32} {z o g c rd s vl dn dp ff fp pk rg : Nat → Int32}
theorem cf_xk (W : cf_CW z o) {f p : Nat} (hf : f < 3) (hp : p < 8) {post : Int32 → Prop} (h : post (cf_K z o g rd f p)) : wpX_keptAt post (an, fu, pl, z, o, cf_ra g, cf_rb g, c, rd, s, vl, dn, dp, ff, fp, pk, rg) (nI f) (nI p) := by
  have e8 : nI f * 8 + nI p = nI (f * 8 + p) := cf_i8 f p
  have e : (nI (f * 8 + p)).toNatClampNeg = f * 8 + p := nI_clamp (by omega)
  have hin : vp_in (nI (f * 8 + p)) 24 := vp_in_nI (by omega) (by omega)
  unfold wpX_keptAt
  simp only [e8, forall_eq, e]
  refine ⟨hin, ?_⟩
  unfold cf_K cf_w at h
  by_cases ho : o (f * 8 + p) = 5
  · rw [if_pos ho] at h
    refine br_t ho ⟨hin, ?_⟩
    unfold wX_keptAt_32
    rw [nI_1]
    exact cf_xra W hf h
  · rw [if_neg ho] at h
    refine br_f ho ⟨hin, ?_⟩
    unfold wX_keptAt_32
    rw [nI_1]
    exact cf_xra W hf h
end
end
section
/-! the component's own methods that store: pack, unpack, giveBack, call, perform -/
theorem cf_mod3 (x : Int32) : (0 ≤ x - x / 3 * 3 ∧ ∃ f : Nat, f < 3 ∧ x - x / 3 * 3 = nI f ∧ (x - x / 3 * 3 + 3) - (x - x / 3 * 3 + 3) / 3 * 3 = nI f) ∨ (¬ 0 ≤ x - x / 3 * 3 ∧ ∃ f : Nat, f < 3 ∧ x - x / 3 * 3 + 3 = nI f ∧ (x - x / 3 * 3 + 3) - (x - x / 3 * 3 + 3) / 3 * 3 = nI f) := by
  have h := tmod_bounds (a := x.toInt) (M := (3 : Int32).toInt) (by decide)
  rw [← rem_toInt] at h
  generalize x - x / 3 * 3 = t at h ⊢
  have h3 : (3 : Int32).toInt = 3 := by decide
  rw [h3] at h
  have a : t.toInt = -2 ∨ t.toInt = -1 ∨ t.toInt = 0 ∨ t.toInt = 1 ∨ t.toInt = 2 := by omega
  rcases a with a | a | a | a | a
  · have e : t = -2 := Int32.toInt_inj.mp (a.trans (by decide))
    subst e
    exact Or.inr ⟨by decide, 1, by omega, by decide +kernel, by decide +kernel⟩
  · have e : t = -1 := Int32.toInt_inj.mp (a.trans (by decide))
    subst e
    exact Or.inr ⟨by decide, 2, by omega, by decide +kernel, by decide +kernel⟩
  · have e : t = 0 := Int32.toInt_inj.mp (a.trans (by decide))
    subst e
    exact Or.inl ⟨by decide, 0, by omega, by decide +kernel, by decide +kernel⟩
  · have e : t = 1 := Int32.toInt_inj.mp (a.trans (by decide))
    subst e
    exact Or.inl ⟨by decide, 1, by omega, by decide +kernel, by decide +kernel⟩
  · have e : t = 2 := Int32.toInt_inj.mp (a.trans (by decide))
    subst e
    exact Or.inl ⟨by decide, 2, by omega, by decide +kernel, by decide +kernel⟩
section
variable {an fu pl : Int32} {z o g c rd s vl dn dp ff fp rg : Nat → Int32}
theorem cf_packL {q : Nat} (hq : q < 16) (K : Int32) : ∀ m r, r + m = 4 → ∀ pk : Nat → Int32, (∀ i, i < r → bt K i = true → pk (q * 4 + cf_cn K i) = rg i) → ∃ pk' : Nat → Int32, (∀ i, i < 4 → bt K i = true → pk' (q * 4 + cf_cn K i) = rg i) ∧ (∀ j, (j < q * 4 ∨ q * 4 + 4 ≤ j) → pk' j = pk j) ∧ ∀ post : SX → Prop, post (an, fu, pl, z, o, cf_ra g, cf_rb g, c, rd, s, vl, dn, dp, ff, fp, pk', rg) → wX_pack_46 post (nI q) K an fu pl (m + 1) (nI (cf_cn K r)) (nI r) z o (cf_ra g) (cf_rb g) c rd s vl dn dp ff fp pk rg := by
  intro m
  induction m with
  | zero =>
    intro r hr pk h
    have : r = 4 := by omega
    subst this
    refine ⟨pk, h, fun _ _ => rfl, fun post hp => ?_⟩
    rw [wX_pack_46]
    exact br_t (nI_le (a := 4) (by omega) (by omega)) hp
  | succ m ih =>
    intro r hr pk h
    have hcn := cf_cn_le K r
    have hge : ¬ (4 : Int32) ≤ nI r := nI_ge (b := 4) (by omega) (by omega)
    by_cases hb : bt K r = true
    · obtain ⟨pk', h1, h2, h3⟩ := ih (r + 1) (by omega) (upd pk (q * 4 + cf_cn K r) (rg r)) (by
        intro i hi hbi
        rcases Nat.lt_or_ge i r with hir | hir
        · have := cf_cn_lt K hbi hir
          rw [pk_un (by omega)]
          exact h i hir hbi
        · have : i = r := by omega
          subst this
          exact pk_us)
      refine ⟨pk', h1, fun j hj => ?_, fun post hp => ?_⟩
      · rw [h2 j hj, pk_un (by omega)]
      · have hn := h3 post hp
        rw [cf_cnS K hb] at hn
        rw [wX_pack_46]
        refine br_f hge (br_t ((cf_kb K (by omega)).mpr hb) ⟨vp_in_nI (by omega) (by omega), ?_⟩)
        rw [cf_i4, nI_clamp (n := r) (by omega), nI_clamp (n := q * 4 + cf_cn K r) (by omega), nI_1, nI_1]
        exact ⟨vp_in_nI (by omega) (by omega), nm_e (nm_e (nm_e hn))⟩
    · obtain ⟨pk', h1, h2, h3⟩ := ih (r + 1) (by omega) pk (by
        intro i hi hbi
        rcases Nat.lt_or_ge i r with hir | hir
        · exact h i hir hbi
        · have : i = r := by omega
          subst this
          exact absurd hbi hb)
      refine ⟨pk', h1, h2, fun post hp => ?_⟩
      have hn := h3 post hp
      rw [cf_cnN K hb] at hn
      rw [wX_pack_46]
      refine br_f hge (br_f (fun y => hb ((cf_kb K (by omega)).mp y)) ?_)
      rw [nI_1]
      exact nm_e hn
theorem cf_xpack {pk : Nat → Int32} (W : cf_CW z o) {co j f p : Nat} (hco : co < 4) (hj : j < 4) (hf : f < 3) (hp : p < 8) : ∃ pk' : Nat → Int32, (∀ i, i < 4 → bt (cf_K z o g rd f p) i = true → pk' ((co * 4 + j) * 4 + cf_cn (cf_K z o g rd f p) i) = rg i) ∧ (∀ i, (i < (co * 4 + j) * 4 ∨ (co * 4 + j) * 4 + 4 ≤ i) → pk' i = pk i) ∧ ∀ post : SX → Prop, post (an, nI f, nI p, z, o, cf_ra g, cf_rb g, c, rd, s, vl, dn, dp, upd ff (co * 4 + j) (nI f), upd fp (co * 4 + j) (nI p), pk', rg) → wpX_pack post (an, nI f, nI p, z, o, cf_ra g, cf_rb g, c, rd, s, vl, dn, dp, ff, fp, pk, rg) (nI co) (nI j) := by
  obtain ⟨pk', h1, h2, h3⟩ := cf_packL (an := an) (fu := nI f) (pl := nI p) (z := z) (o := o) (g := g) (c := c) (rd := rd) (s := s) (vl := vl) (dn := dn) (dp := dp) (ff := upd ff (co * 4 + j) (nI f)) (fp := upd fp (co * 4 + j) (nI p)) (rg := rg) (q := co * 4 + j) (by omega) (cf_K z o g rd f p) 4 0 rfl pk (fun i hi => absurd hi (Nat.not_lt_zero _))
  refine ⟨pk', h1, h2, fun post hpost => ?_⟩
  have hin : vp_in (nI (co * 4 + j)) 16 := vp_in_nI (by omega) (by omega)
  have e : (nI (co * 4 + j)).toNatClampNeg = co * 4 + j := nI_clamp (by omega)
  unfold wpX_pack
  simp only [cf_i4, forall_eq, e]
  exact ⟨hin, hin, cf_xk W hf hp ⟨5, h3 post hpost⟩⟩
end
section
variable {an fu pl : Int32} {z o g c rd s vl dn dp ff fp pk : Nat → Int32}
theorem cf_x29 (x3 : Int32) : ∀ m r, r + m = 4 → ∀ rg : Nat → Int32, (∀ i, i < r → rg i = 0) → ∃ rg' : Nat → Int32, (∀ i, i < 4 → rg' i = 0) ∧ ∀ post : SX → Prop, wX_unpack_29 post x3 an fu pl 1 (nI 4) z o (cf_ra g) (cf_rb g) c rd s vl dn dp ff fp pk rg' → wX_unpack_29 post x3 an fu pl (m + 1) (nI r) z o (cf_ra g) (cf_rb g) c rd s vl dn dp ff fp pk rg := by
  intro m
  induction m with
  | zero =>
    intro i hi rd h
    have : i = 4 := by omega
    subst this
    exact ⟨rd, h, fun post hp => hp⟩
  | succ m ih =>
    intro i hi rd h
    obtain ⟨rd', h1, h2⟩ := ih (i + 1) (by omega) (upd rd i 0) (by
      intro j hj
      by_cases e : j = i
      · subst e; exact pk_us
      · rw [pk_un e]; exact h j (by omega))
    refine ⟨rd', h1, fun post hp => ?_⟩
    have hn := h2 post hp
    rw [wX_unpack_29]
    refine br_f (nI_ge (b := 4) (by omega) (by omega)) ⟨vp_in_nI (by omega) (by omega), ?_⟩
    rw [nI_clamp (by omega), nI_1]
    exact nm_e (nm_e hn)
theorem cf_x89 (x3 : Int32) : ∀ m r, r + m = 4 → ∀ rg : Nat → Int32, (∀ i, i < r → rg i = 0) → ∃ rg' : Nat → Int32, (∀ i, i < 4 → rg' i = 0) ∧ ∀ post : SX → Prop, wX_call_89 post x3 an fu pl 1 (nI 4) z o (cf_ra g) (cf_rb g) c rd s vl dn dp ff fp pk rg' → wX_call_89 post x3 an fu pl (m + 1) (nI r) z o (cf_ra g) (cf_rb g) c rd s vl dn dp ff fp pk rg := by
  intro m
  induction m with
  | zero =>
    intro i hi rd h
    have : i = 4 := by omega
    subst this
    exact ⟨rd, h, fun post hp => hp⟩
  | succ m ih =>
    intro i hi rd h
    obtain ⟨rd', h1, h2⟩ := ih (i + 1) (by omega) (upd rd i 0) (by
      intro j hj
      by_cases e : j = i
      · subst e; exact pk_us
      · rw [pk_un e]; exact h j (by omega))
    refine ⟨rd', h1, fun post hp => ?_⟩
    have hn := h2 post hp
    rw [wX_call_89]
    refine br_f (nI_ge (b := 4) (by omega) (by omega)) ⟨vp_in_nI (by omega) (by omega), ?_⟩
    rw [nI_clamp (by omega), nI_1]
    exact nm_e (nm_e hn)
theorem cf_x91 {q : Nat} (hq : q < 16) (K : Int32) : ∀ m r, r + m = 4 → ∀ rg : Nat → Int32, ∃ rg' : Nat → Int32, (∀ i, i < 4 → r ≤ i → bt K i = true → rg' i = pk (q * 4 + cf_cn K i)) ∧ (∀ i, i < r → rg' i = rg i) ∧ ∀ post : SX → Prop, post (an, fu, pl, z, o, cf_ra g, cf_rb g, c, rd, s, vl, dn, dp, ff, fp, pk, rg') → wX_unpack_91 post (nI q) K an fu pl (m + 1) (nI (cf_cn K r)) (nI r) z o (cf_ra g) (cf_rb g) c rd s vl dn dp ff fp pk rg := by
  intro m
  induction m with
  | zero =>
    intro r hr rg
    have : r = 4 := by omega
    subst this
    refine ⟨rg, fun i h1 h2 => absurd h1 (by omega), fun _ _ => rfl, fun post hp => ?_⟩
    rw [wX_unpack_91]
    exact br_t (nI_le (a := 4) (by omega) (by omega)) hp
  | succ m ih =>
    intro r hr rg
    have hcn := cf_cn_le K r
    have hge : ¬ (4 : Int32) ≤ nI r := nI_ge (b := 4) (by omega) (by omega)
    by_cases hb : bt K r = true
    · obtain ⟨rg', h1, h2, h3⟩ := ih (r + 1) (by omega) (upd rg r (pk (q * 4 + cf_cn K r)))
      refine ⟨rg', fun i hi hri hbi => ?_, fun i hi => ?_, fun post hp => ?_⟩
      · rcases Nat.lt_or_ge r i with hir | hir
        · exact h1 i hi hir hbi
        · have : i = r := by omega
          subst this
          rw [h2 i (by omega), pk_us]
      · rw [h2 i (by omega), pk_un (by omega)]
      · have hn := h3 post hp
        rw [cf_cnS K hb] at hn
        rw [wX_unpack_91]
        refine br_f hge (br_t ((cf_kb K (by omega)).mpr hb) ?_)
        rw [cf_i4, nI_clamp (n := r) (by omega), nI_clamp (n := q * 4 + cf_cn K r) (by omega), nI_1, nI_1]
        exact ⟨vp_in_nI (by omega) (by omega), vp_in_nI (by omega) (by omega), nm_e (nm_e (nm_e hn))⟩
    · obtain ⟨rg', h1, h2, h3⟩ := ih (r + 1) (by omega) rg
      refine ⟨rg', fun i hi hri hbi => ?_, fun i hi => h2 i (by omega), fun post hp => ?_⟩
      · rcases Nat.lt_or_ge r i with hir | hir
        · exact h1 i hi hir hbi
        · have : i = r := by omega
          subst this
          exact absurd hbi hb
      · have hn := h3 post hp
        rw [cf_cnN K hb] at hn
        rw [wX_unpack_91]
        refine br_f hge (br_f (fun y => hb ((cf_kb K (by omega)).mp y)) ?_)
        rw [nI_1]
        exact nm_e hn
theorem cf_xunW {rg : Nat → Int32} (W : cf_CW z o) {co j f p : Nat} (hco : co < 4) (hj : j < 4) (hf : f < 3) (hp : p < 8) (ef : ff (co * 4 + j) = nI f) (ep : fp (co * 4 + j) = nI p) : ∃ rg' : Nat → Int32, (∀ i, i < 4 → bt (cf_K z o g rd f p) i = true → rg' i = pk ((co * 4 + j) * 4 + cf_cn (cf_K z o g rd f p) i)) ∧ ∀ post : SX → Prop, post (an, nI f, nI p, z, o, cf_ra g, cf_rb g, c, rd, s, vl, dn, dp, ff, fp, pk, rg') → wpX_unpack post (an, fu, pl, z, o, cf_ra g, cf_rb g, c, rd, s, vl, dn, dp, ff, fp, pk, rg) (nI co) (nI j) := by
  obtain ⟨rg1, a1, a2⟩ := cf_x29 (an := an) (fu := nI f) (pl := nI p) (z := z) (o := o) (g := g) (c := c) (rd := rd) (s := s) (vl := vl) (dn := dn) (dp := dp) (ff := ff) (fp := fp) (pk := pk) (nI (co * 4 + j)) 4 0 rfl rg (fun i hi => absurd hi (Nat.not_lt_zero _))
  obtain ⟨rg2, b1, b2, b3⟩ := cf_x91 (an := an) (fu := nI f) (pl := nI p) (z := z) (o := o) (g := g) (c := c) (rd := rd) (s := s) (vl := vl) (dn := dn) (dp := dp) (ff := ff) (fp := fp) (pk := pk) (q := co * 4 + j) (by omega) (cf_K z o g rd f p) 4 0 rfl rg1
  refine ⟨rg2, fun i hi hb => b1 i hi (Nat.zero_le _) hb, fun post hpost => ?_⟩
  have hin : vp_in (nI (co * 4 + j)) 16 := vp_in_nI (by omega) (by omega)
  have e : (nI (co * 4 + j)).toNatClampNeg = co * 4 + j := nI_clamp (by omega)
  unfold wpX_unpack
  simp only [cf_i4, forall_eq, e, ef, ep]
  refine ⟨hin, hin, 5, a2 post ?_⟩
  rw [wX_unpack_29]
  exact br_t (nI_le (a := 4) (by omega) (by omega)) (br_t (nI_pos' (by omega)) (cf_xk W hf hp ⟨5, b3 post hpost⟩))
theorem cf_xunF {rg : Nat → Int32} {co j f : Nat} (hco : co < 4) (hj : j < 4) (ef : ff (co * 4 + j) = nI f) (ep : fp (co * 4 + j) = -1) : ∃ rg' : Nat → Int32, (rg' 0 = pk ((co * 4 + j) * 4) ∧ rg' 1 = 0 ∧ rg' 2 = 0 ∧ rg' 3 = 0) ∧ ∀ post : SX → Prop, post (an, nI f, -1, z, o, cf_ra g, cf_rb g, c, rd, s, vl, dn, dp, ff, fp, pk, rg') → wpX_unpack post (an, fu, pl, z, o, cf_ra g, cf_rb g, c, rd, s, vl, dn, dp, ff, fp, pk, rg) (nI co) (nI j) := by
  obtain ⟨rg1, a1, a2⟩ := cf_x29 (an := an) (fu := nI f) (pl := -1) (z := z) (o := o) (g := g) (c := c) (rd := rd) (s := s) (vl := vl) (dn := dn) (dp := dp) (ff := ff) (fp := fp) (pk := pk) (nI (co * 4 + j)) 4 0 rfl rg (fun i hi => absurd hi (Nat.not_lt_zero _))
  refine ⟨upd rg1 0 (pk ((co * 4 + j) * 4)), ⟨pk_us, ?_, ?_, ?_⟩, fun post hpost => ?_⟩
  · rw [pk_un (by omega)]; exact a1 1 (by omega)
  · rw [pk_un (by omega)]; exact a1 2 (by omega)
  · rw [pk_un (by omega)]; exact a1 3 (by omega)
  · have hin : vp_in (nI (co * 4 + j)) 16 := vp_in_nI (by omega) (by omega)
    have e : (nI (co * 4 + j)).toNatClampNeg = co * 4 + j := nI_clamp (by omega)
    unfold wpX_unpack
    simp only [cf_i4, forall_eq, e, ef, ep]
    refine ⟨hin, hin, 5, a2 post ?_⟩
    rw [wX_unpack_29]
    refine br_t (nI_le (a := 4) (by omega) (by omega)) (br_f (by decide) ?_)
    rw [cf_m4, nI_clamp (by omega)]
    exact ⟨vp_in_nI (by omega) (by omega), nm_e hpost⟩
end
section
variable {an fu pl : Int32} {z o g c rd s vl dn dp ff fp pk rg : Nat → Int32}
theorem cf_xgb1 {co : Nat} (hco : co < 4) (ed : dp co = nI 1) {v : Int32} {post : SX → Prop} (h : post (an, fu, pl, z, o, cf_ra g, cf_rb g, c, rd, upd s co 3, upd vl co v, dn, upd dp co 0, ff, fp, pk, rg)) : wpX_giveBack post (an, fu, pl, z, o, cf_ra g, cf_rb g, c, rd, s, vl, dn, dp, ff, fp, pk, rg) (nI co) v := by
  have hin : vp_in (nI co) 4 := vp_in_nI hco (by omega)
  have e : (nI co).toNatClampNeg = co := nI_clamp (by omega)
  have e1 : nI 1 - 1 = (0 : Int32) := by decide
  unfold wpX_giveBack
  simp only [e, ed, e1]
  refine ⟨hin, hin, nm_e ⟨hin, br_t pk_us (cf_xfin hco ?_)⟩⟩
  rw [cf_uu]
  exact h
theorem cf_xgb2 (W : cf_CW z o) {co t f p a : Nat} (hco : co < 4) (ht : t < 3) (ed : dp co = nI (t + 2)) (hf : f < 3) (hp : p < 8) (ef : ff (co * 4 + t) = nI f) (ep : fp (co * 4 + t) = nI p) (ha : a < 4) (ea : cf_ra g (f * 8 + p) = nI a) (v : Int32) : ∃ rg' : Nat → Int32, (∀ i, i < 4 → bt (cf_K z o g rd f p) i = true → rg' i = pk ((co * 4 + t) * 4 + cf_cn (cf_K z o g rd f p) i)) ∧ ∀ post : SX → Prop, post (an, nI f, nI (p + 1), z, o, cf_ra g, cf_rb g, c, rd, s, vl, dn, upd dp co (nI (t + 1)), ff, fp, pk, upd rg' a v) → wpX_giveBack post (an, fu, pl, z, o, cf_ra g, cf_rb g, c, rd, s, vl, dn, dp, ff, fp, pk, rg) (nI co) v := by
  obtain ⟨rg', a1, a2⟩ := cf_xunW (an := an) (fu := fu) (pl := pl) (z := z) (o := o) (g := g) (c := c) (rd := rd) (s := s) (vl := vl) (dn := dn) (dp := upd dp co (nI (t + 1))) (ff := ff) (fp := fp) (pk := pk) (rg := rg) W hco (show t < 4 by omega) hf hp ef ep
  refine ⟨rg', a1, fun post hpost => ?_⟩
  have hin : vp_in (nI co) 4 := vp_in_nI hco (by omega)
  have e : (nI co).toNatClampNeg = co := nI_clamp (by omega)
  have e1 : nI (t + 2) - 1 = nI (t + 1) := nI_pred (t + 1)
  have e2 : nI (t + 1) - 1 = nI t := nI_pred t
  unfold wpX_giveBack
  simp only [e, ed, e1]
  refine ⟨hin, hin, nm_e ⟨hin, ?_⟩⟩
  rw [pk_us, e2]
  refine br_f (nI_ne0 (by omega) (by omega)) ⟨hin, a2 _ ?_⟩
  have hi8 : vp_in (nI (f * 8 + p)) 24 := vp_in_nI (by omega) (by omega)
  have e8 : (nI (f * 8 + p)).toNatClampNeg = f * 8 + p := nI_clamp (by omega)
  have ec : (nI a).toNatClampNeg = a := nI_clamp (by omega)
  simp only [cf_i8, e8, ea, ec, nI_1]
  exact ⟨hi8, vp_in_nI ha (by omega), nm_e (nm_e hpost)⟩
theorem cf_xcall4 {co i : Nat} (hco : co < 4) (ed : dp co = nI 4) {post : SX → Prop} (h : post (an, fu, pl, z, o, cf_ra g, cf_rb g, c, rd, upd s co 4, upd vl co 0, dn, upd dp co 0, ff, fp, pk, rg)) : wpX_call post (an, fu, pl, z, o, cf_ra g, cf_rb g, c, rd, s, vl, dn, dp, ff, fp, pk, rg) (nI co) (nI i) := by
  have hin : vp_in (nI co) 4 := vp_in_nI hco (by omega)
  have e : (nI co).toNatClampNeg = co := nI_clamp (by omega)
  unfold wpX_call
  simp only [e, ed]
  exact ⟨hin, br_f (by decide) (cf_xfin hco h)⟩
theorem cf_xcall (W : cf_CW z o) {co t f p a f' : Nat} (hco : co < 4) (h4 : t < 3) (ed : dp co = nI (t + 1)) (hf : f < 3) (hp : p < 8) (ha : a < 4) (ea : cf_ra g (f * 8 + p) = nI a) (hf' : (0 ≤ c (f * 8 + p) - c (f * 8 + p) / 3 * 3 ∧ c (f * 8 + p) - c (f * 8 + p) / 3 * 3 = nI f') ∨ (¬ 0 ≤ c (f * 8 + p) - c (f * 8 + p) / 3 * 3 ∧ c (f * 8 + p) - c (f * 8 + p) / 3 * 3 + 3 = nI f')) : ∃ pk' rg' : Nat → Int32, (∀ i, i < 4 → bt (cf_K z o g rd f p) i = true → pk' ((co * 4 + t) * 4 + cf_cn (cf_K z o g rd f p) i) = rg i) ∧ (∀ i, (i < (co * 4 + t) * 4 ∨ (co * 4 + t) * 4 + 4 ≤ i) → pk' i = pk i) ∧ (rg' 0 = rg a ∧ rg' 1 = 0 ∧ rg' 2 = 0 ∧ rg' 3 = 0) ∧ ∀ post : SX → Prop, post (an, nI f', 0, z, o, cf_ra g, cf_rb g, c, rd, s, vl, dn, upd dp co (nI (t + 2)), upd ff (co * 4 + t) (nI f), upd fp (co * 4 + t) (nI p), pk', rg') → wpX_call post (an, nI f, nI p, z, o, cf_ra g, cf_rb g, c, rd, s, vl, dn, dp, ff, fp, pk, rg) (nI co) (nI (f * 8 + p)) := by
  obtain ⟨pk', a1, a2, a3⟩ := cf_xpack (an := an) (z := z) (o := o) (g := g) (c := c) (rd := rd) (s := s) (vl := vl) (dn := dn) (dp := dp) (ff := ff) (fp := fp) (pk := pk) (rg := rg) W hco (show t < 4 by omega) hf hp
  obtain ⟨rg1, b1, b2⟩ := cf_x89 (an := an) (fu := nI f') (pl := 0) (z := z) (o := o) (g := g) (c := c) (rd := rd) (s := s) (vl := vl) (dn := dn) (dp := upd dp co (nI (t + 2))) (ff := upd ff (co * 4 + t) (nI f)) (fp := upd fp (co * 4 + t) (nI p)) (pk := pk') (rg a) 4 0 rfl rg (fun i hi => absurd hi (Nat.not_lt_zero _))
  refine ⟨pk', upd rg1 0 (rg a), a1, a2, ⟨pk_us, ?_, ?_, ?_⟩, fun post hpost => ?_⟩
  · rw [pk_un (by omega)]; exact b1 1 (by omega)
  · rw [pk_un (by omega)]; exact b1 2 (by omega)
  · rw [pk_un (by omega)]; exact b1 3 (by omega)
  · have hin : vp_in (nI co) 4 := vp_in_nI hco (by omega)
    have e : (nI co).toNatClampNeg = co := nI_clamp (by omega)
    have hi8 : vp_in (nI (f * 8 + p)) 24 := vp_in_nI (by omega) (by omega)
    have e8 : (nI (f * 8 + p)).toNatClampNeg = f * 8 + p := nI_clamp (by omega)
    have ec : (nI a).toNatClampNeg = a := nI_clamp (by omega)
    have e1 : nI (t + 1) - 1 = nI t := nI_pred t
    have hz : wX_call_89 post (rg a) an (nI f') 0 5 0 z o (cf_ra g) (cf_rb g) c rd s vl dn (upd dp co (nI (t + 2))) (upd ff (co * 4 + t) (nI f)) (upd fp (co * 4 + t) (nI p)) pk' rg := by
      refine b2 post ?_
      rw [wX_call_89]
      exact br_t (nI_le (a := 4) (by omega) (by omega)) (nm_e hpost)
    unfold wpX_call
    simp only [e, ed, e8, ea, ec, e1, forall_eq]
    refine ⟨hin, br_t (nI_lt (b := 4) (by omega) (by omega)) ⟨hi8, vp_in_nI ha (by omega), hin, a3 _ ?_⟩⟩
    simp only [ed, nI_1]
    refine ⟨hin, hin, hi8, by decide, ?_⟩
    rcases hf' with ⟨n0, n1⟩ | ⟨n0, n1⟩
    · refine br_t n0 ⟨5, ?_⟩
      rw [n1]
      exact hz
    · refine br_f n0 ⟨5, ?_⟩
      rw [n1]
      exact hz
end
end
section
/-! perform, one lemma an op; pastEnd -/
section
variable {an : Int32} {z o g c rd s vl dn dp ff fp pk rg : Nat → Int32} {co f p a b : Nat}
theorem cf_xp0 (hf : f < 3) (hp : p < 8) (ho : o (f * 8 + p) = 0) (ha : a < 4) (ea : cf_ra g (f * 8 + p) = nI a) {post : SX → Prop} (h : post (an, nI f, nI (p + 1), z, o, cf_ra g, cf_rb g, c, rd, s, vl, dn, dp, ff, fp, pk, upd rg a (c (f * 8 + p)))) : wpX_perform post (an, nI f, nI p, z, o, cf_ra g, cf_rb g, c, rd, s, vl, dn, dp, ff, fp, pk, rg) (nI co) := by
  have e8 : (nI (f * 8 + p)).toNatClampNeg = f * 8 + p := nI_clamp (by omega)
  have h8 : vp_in (nI (f * 8 + p)) 24 := vp_in_nI (by omega) (by omega)
  have ec : (nI a).toNatClampNeg = a := nI_clamp (by omega)
  have hia : vp_in (nI a) 4 := vp_in_nI ha (by omega)
  unfold wpX_perform
  simp only [cf_i8, e8, forall_eq, ea, ec, nI_1]
  rw [ho]
  exact ⟨h8, h8, h8, br_f (by decide) (br_f (by decide) (br_t rfl ⟨h8, hia, h⟩))⟩
theorem cf_xp1 (hf : f < 3) (hp : p < 8) (ho : o (f * 8 + p) = 1) (ha : a < 4) (ea : cf_ra g (f * 8 + p) = nI a) (hb : b < 4) (eb : cf_rb g (f * 8 + p) = nI b) {post : SX → Prop} (h : post (an, nI f, nI (p + 1), z, o, cf_ra g, cf_rb g, c, rd, s, vl, dn, dp, ff, fp, pk, upd rg a (rg a + rg b))) : wpX_perform post (an, nI f, nI p, z, o, cf_ra g, cf_rb g, c, rd, s, vl, dn, dp, ff, fp, pk, rg) (nI co) := by
  have e8 : (nI (f * 8 + p)).toNatClampNeg = f * 8 + p := nI_clamp (by omega)
  have h8 : vp_in (nI (f * 8 + p)) 24 := vp_in_nI (by omega) (by omega)
  have ec : (nI a).toNatClampNeg = a := nI_clamp (by omega)
  have hia : vp_in (nI a) 4 := vp_in_nI ha (by omega)
  have ecb : (nI b).toNatClampNeg = b := nI_clamp (by omega)
  have hib : vp_in (nI b) 4 := vp_in_nI hb (by omega)
  unfold wpX_perform
  simp only [cf_i8, e8, forall_eq, ea, ec, eb, ecb, nI_1]
  rw [ho]
  exact ⟨h8, h8, h8, br_f (by decide) (br_f (by decide) (br_f (by decide) (br_t rfl ⟨hia, hib, hia, h⟩)))⟩
theorem cf_xp2 (hf : f < 3) (hp : p < 8) (ho : o (f * 8 + p) = 2) (ha : a < 4) (ea : cf_ra g (f * 8 + p) = nI a) (hb : b < 4) (eb : cf_rb g (f * 8 + p) = nI b) {post : SX → Prop} (h : post (an, nI f, nI (p + 1), z, o, cf_ra g, cf_rb g, c, rd, s, vl, dn, dp, ff, fp, pk, upd rg a (rg a - rg b))) : wpX_perform post (an, nI f, nI p, z, o, cf_ra g, cf_rb g, c, rd, s, vl, dn, dp, ff, fp, pk, rg) (nI co) := by
  have e8 : (nI (f * 8 + p)).toNatClampNeg = f * 8 + p := nI_clamp (by omega)
  have h8 : vp_in (nI (f * 8 + p)) 24 := vp_in_nI (by omega) (by omega)
  have ec : (nI a).toNatClampNeg = a := nI_clamp (by omega)
  have hia : vp_in (nI a) 4 := vp_in_nI ha (by omega)
  have ecb : (nI b).toNatClampNeg = b := nI_clamp (by omega)
  have hib : vp_in (nI b) 4 := vp_in_nI hb (by omega)
  unfold wpX_perform
  simp only [cf_i8, e8, forall_eq, ea, ec, eb, ecb, nI_1]
  rw [ho]
  exact ⟨h8, h8, h8, br_f (by decide) (br_f (by decide) (br_f (by decide) (br_f (by decide) (br_t rfl ⟨hia, hib, hia, h⟩))))⟩
theorem cf_xp3 (hf : f < 3) (hp : p < 8) (ho : o (f * 8 + p) = 3) {post : SX → Prop} (h : post (an, nI f, c (f * 8 + p), z, o, cf_ra g, cf_rb g, c, rd, s, vl, dn, dp, ff, fp, pk, rg)) : wpX_perform post (an, nI f, nI p, z, o, cf_ra g, cf_rb g, c, rd, s, vl, dn, dp, ff, fp, pk, rg) (nI co) := by
  have e8 : (nI (f * 8 + p)).toNatClampNeg = f * 8 + p := nI_clamp (by omega)
  have h8 : vp_in (nI (f * 8 + p)) 24 := vp_in_nI (by omega) (by omega)
  unfold wpX_perform
  simp only [cf_i8, e8, forall_eq]
  rw [ho]
  exact ⟨h8, h8, h8, br_f (by decide) (br_f (by decide) (br_f (by decide) (br_f (by decide) (br_f (by decide) (br_t rfl ⟨h8, h⟩)))))⟩
theorem cf_xp4 (hf : f < 3) (hp : p < 8) (ho : o (f * 8 + p) = 4) (ha : a < 4) (ea : cf_ra g (f * 8 + p) = nI a) {post : SX → Prop} (h1 : rg a ≤ 0 → post (an, nI f, nI (p + 1), z, o, cf_ra g, cf_rb g, c, rd, s, vl, dn, dp, ff, fp, pk, rg)) (h2 : ¬ rg a ≤ 0 → post (an, nI f, c (f * 8 + p), z, o, cf_ra g, cf_rb g, c, rd, s, vl, dn, dp, ff, fp, pk, rg)) : wpX_perform post (an, nI f, nI p, z, o, cf_ra g, cf_rb g, c, rd, s, vl, dn, dp, ff, fp, pk, rg) (nI co) := by
  have e8 : (nI (f * 8 + p)).toNatClampNeg = f * 8 + p := nI_clamp (by omega)
  have h8 : vp_in (nI (f * 8 + p)) 24 := vp_in_nI (by omega) (by omega)
  have ec : (nI a).toNatClampNeg = a := nI_clamp (by omega)
  have hia : vp_in (nI a) 4 := vp_in_nI ha (by omega)
  unfold wpX_perform
  simp only [cf_i8, e8, forall_eq, ea, ec, nI_1]
  rw [ho]
  exact ⟨h8, h8, h8, br_f (by decide) (br_f (by decide) (br_f (by decide) (br_f (by decide) (br_f (by decide) (br_f (by decide) (br_t rfl ⟨hia, br_c h1 (fun n => ⟨h8, h2 n⟩)⟩))))))⟩
theorem cf_xp5 (W : cf_CW z o) (hco : co < 4) {t : Nat} (ht : t < 4) (ed : dp co = nI (t + 1)) (hf : f < 3) (hp : p < 8) (ho : o (f * 8 + p) = 5) (ha : a < 4) (ea : cf_ra g (f * 8 + p) = nI a) : ∃ pk' : Nat → Int32, (∀ i, i < 4 → bt (cf_K z o g rd f p) i = true → pk' ((co * 4 + t) * 4 + cf_cn (cf_K z o g rd f p) i) = rg i) ∧ (∀ i, (i < (co * 4 + t) * 4 ∨ (co * 4 + t) * 4 + 4 ≤ i) → pk' i = pk i) ∧ ∀ post : SX → Prop, post (an, nI f, nI p, z, o, cf_ra g, cf_rb g, c, rd, upd s co 2, upd vl co (rg a), dn, dp, upd ff (co * 4 + t) (nI f), upd fp (co * 4 + t) (nI p), pk', rg) → wpX_perform post (an, nI f, nI p, z, o, cf_ra g, cf_rb g, c, rd, s, vl, dn, dp, ff, fp, pk, rg) (nI co) := by
  obtain ⟨pk', a1, a2, a3⟩ := cf_xpack (an := an) (z := z) (o := o) (g := g) (c := c) (rd := rd) (s := upd s co 2) (vl := upd vl co (rg a)) (dn := dn) (dp := dp) (ff := ff) (fp := fp) (pk := pk) (rg := rg) W hco ht hf hp
  refine ⟨pk', a1, a2, fun post h => ?_⟩
  have e8 : (nI (f * 8 + p)).toNatClampNeg = f * 8 + p := nI_clamp (by omega)
  have h8 : vp_in (nI (f * 8 + p)) 24 := vp_in_nI (by omega) (by omega)
  have ec : (nI a).toNatClampNeg = a := nI_clamp (by omega)
  have hia : vp_in (nI a) 4 := vp_in_nI ha (by omega)
  have hin : vp_in (nI co) 4 := vp_in_nI hco (by omega)
  have e : (nI co).toNatClampNeg = co := nI_clamp (by omega)
  have e1 : nI (t + 1) - 1 = nI t := nI_pred t
  unfold wpX_perform
  simp only [cf_i8, e8, forall_eq, ea, ec, e, ed, e1]
  rw [ho]
  exact ⟨h8, h8, h8, br_f (by decide) (br_f (by decide) (br_f (by decide) (br_f (by decide) (br_f (by decide) (br_f (by decide) (br_f (by decide) (br_t rfl ⟨hin, hia, hin, hin, a3 _ h⟩)))))))⟩
theorem cf_xp6 (hf : f < 3) (hp : p < 8) (ho : o (f * 8 + p) = 6) {u' : SX} (H : ∀ post : SX → Prop, post u' → wpX_call post (an, nI f, nI p, z, o, cf_ra g, cf_rb g, c, rd, s, vl, dn, dp, ff, fp, pk, rg) (nI co) (nI (f * 8 + p))) {post : SX → Prop} (h : post u') : wpX_perform post (an, nI f, nI p, z, o, cf_ra g, cf_rb g, c, rd, s, vl, dn, dp, ff, fp, pk, rg) (nI co) := by
  have e8 : (nI (f * 8 + p)).toNatClampNeg = f * 8 + p := nI_clamp (by omega)
  have h8 : vp_in (nI (f * 8 + p)) 24 := vp_in_nI (by omega) (by omega)
  obtain ⟨u1, u2, u3, u4, u5, u6, u7, u8, u9, u10, u11, u12, u13, u14, u15, u16, u17⟩ := u'
  unfold wpX_perform
  simp only [cf_i8, e8, forall_eq]
  rw [ho]
  exact ⟨h8, h8, h8, br_f (by decide) (br_f (by decide) (br_f (by decide) (br_f (by decide) (br_f (by decide) (br_f (by decide) (br_f (by decide) (br_f (by decide) (br_t rfl (H _ h)))))))))⟩
theorem cf_xp7 (hf : f < 3) (hp : p < 8) (ho : o (f * 8 + p) = 7) (ha : a < 4) (ea : cf_ra g (f * 8 + p) = nI a) {u' : SX} (H : ∀ post : SX → Prop, post u' → wpX_giveBack post (an, nI f, nI p, z, o, cf_ra g, cf_rb g, c, rd, s, vl, dn, dp, ff, fp, pk, rg) (nI co) (rg a)) {post : SX → Prop} (h : post u') : wpX_perform post (an, nI f, nI p, z, o, cf_ra g, cf_rb g, c, rd, s, vl, dn, dp, ff, fp, pk, rg) (nI co) := by
  have e8 : (nI (f * 8 + p)).toNatClampNeg = f * 8 + p := nI_clamp (by omega)
  have h8 : vp_in (nI (f * 8 + p)) 24 := vp_in_nI (by omega) (by omega)
  have ec : (nI a).toNatClampNeg = a := nI_clamp (by omega)
  have hia : vp_in (nI a) 4 := vp_in_nI ha (by omega)
  obtain ⟨u1, u2, u3, u4, u5, u6, u7, u8, u9, u10, u11, u12, u13, u14, u15, u16, u17⟩ := u'
  unfold wpX_perform
  simp only [cf_i8, e8, forall_eq, ea, ec]
  rw [ho]
  exact ⟨h8, h8, h8, br_f (by decide) (br_t (by decide) ⟨hia, H _ h⟩)⟩
theorem cf_xpe1 {fu pl : Int32} (hf : fu = nI f) (hf3 : f < 3) (h : ¬ pl < 0 → ¬ pl < z f) {post : Int32 → Prop} (hp : post 1) : wpX_pastEnd post (an, fu, pl, z, o, cf_ra g, cf_rb g, c, rd, s, vl, dn, dp, ff, fp, pk, rg) := by
  subst hf
  have e : (nI f).toNatClampNeg = f := nI_clamp (by omega)
  unfold wpX_pastEnd
  simp only [e]
  exact br_c (fun _ => hp) (fun n => ⟨vp_in_nI hf3 (by omega), br_f (h n) hp⟩)
theorem cf_xpe0 {fu pl : Int32} (hf : fu = nI f) (hf3 : f < 3) (h0 : ¬ pl < 0) (h : pl < z f) {post : Int32 → Prop} (hp : post 0) : wpX_pastEnd post (an, fu, pl, z, o, cf_ra g, cf_rb g, c, rd, s, vl, dn, dp, ff, fp, pk, rg) := by
  subst hf
  have e : (nI f).toNatClampNeg = f := nI_clamp (by omega)
  unfold wpX_pastEnd
  simp only [e]
  exact br_f h0 ⟨vp_in_nI hf3 (by omega), br_t h hp⟩
end
end
section
/-! the reference's own methods: push, end, back, carryOut by its ops -/
theorem cf_p2 (a : Nat) : nI a + 2 = nI (a + 2) := by rw [show (2 : Int32) = nI 2 from rfl, nI_add]
theorem cf_p3 (a : Nat) : nI a + 3 = nI (a + 3) := by rw [show (3 : Int32) = nI 3 from rfl, nI_add]
section
variable {z o g c s vl dn dp fn ta gt rr : Nat → Int32} {co d : Nat}
theorem cf_yend (hco : co < 4) {st v : Int32} {post : SY → Prop} (h : post (z, o, g, c, upd s co st, upd vl co v, dn, upd dp co 0, fn, ta, gt, rr)) : wpY_end post (z, o, g, c, s, vl, dn, dp, fn, ta, gt, rr) (nI co) st v := by
  have hin : vp_in (nI co) 4 := vp_in_nI hco (by omega)
  have e : (nI co).toNatClampNeg = co := nI_clamp (by omega)
  unfold wpY_end
  simp only [e]
  exact ⟨hin, nm_e ⟨hin, nm_e ⟨hin, nm_e h⟩⟩⟩
theorem cf_ypush (hco : co < 4) (hd : d < 4) (ed : dp co = nI d) {v w : Int32} {post : SY → Prop} (h : post (z, o, g, c, s, vl, dn, upd dp co (nI (d + 1)), upd fn (co * 4 + d) v, upd ta (co * 4 + d) 0, gt, upd (upd (upd (upd rr ((co * 4 + d) * 4) w) ((co * 4 + d) * 4 + 1) 0) ((co * 4 + d) * 4 + 2) 0) ((co * 4 + d) * 4 + 3) 0)) : wpY_push post (z, o, g, c, s, vl, dn, dp, fn, ta, gt, rr) (nI co) v w := by
  have hin : vp_in (nI co) 4 := vp_in_nI hco (by omega)
  have e : (nI co).toNatClampNeg = co := nI_clamp (by omega)
  have eq : (nI (co * 4 + d)).toNatClampNeg = co * 4 + d := nI_clamp (by omega)
  have hq : vp_in (nI (co * 4 + d)) 16 := vp_in_nI (by omega) (by omega)
  have e0 : (nI ((co * 4 + d) * 4)).toNatClampNeg = (co * 4 + d) * 4 := nI_clamp (by omega)
  have e1 : (nI ((co * 4 + d) * 4 + 1)).toNatClampNeg = (co * 4 + d) * 4 + 1 := nI_clamp (by omega)
  have e2 : (nI ((co * 4 + d) * 4 + 2)).toNatClampNeg = (co * 4 + d) * 4 + 2 := nI_clamp (by omega)
  have e3 : (nI ((co * 4 + d) * 4 + 3)).toNatClampNeg = (co * 4 + d) * 4 + 3 := nI_clamp (by omega)
  unfold wpY_push
  simp only [e, ed, cf_m4, nI_add, forall_eq, eq, nI_1, cf_p2, cf_p3, e0, e1, e2, e3]
  exact ⟨hin, hq, hq, vp_in_nI (by omega) (by omega), vp_in_nI (by omega) (by omega), vp_in_nI (by omega) (by omega), vp_in_nI (by omega) (by omega), hin, hin, h⟩
theorem cf_ybk1 (hco : co < 4) (ed : dp co = nI 1) {v : Int32} {post : SY → Prop} (h : post (z, o, g, c, upd s co 3, upd vl co v, dn, upd dp co 0, fn, ta, gt, rr)) : wpY_back post (z, o, g, c, s, vl, dn, dp, fn, ta, gt, rr) (nI co) v := by
  have hin : vp_in (nI co) 4 := vp_in_nI hco (by omega)
  have e : (nI co).toNatClampNeg = co := nI_clamp (by omega)
  have e1 : nI 1 - 1 = (0 : Int32) := by decide
  unfold wpY_back
  simp only [e, ed, e1]
  refine ⟨hin, hin, nm_e ⟨hin, br_t pk_us (cf_yend hco ?_)⟩⟩
  rw [cf_uu]
  exact h
theorem cf_ybk2 {t a : Nat} (hco : co < 4) (ht : t < 3) (ed : dp co = nI (t + 2)) (ha : a < 4) (eg : gt (co * 4 + t) = nI a) {v : Int32} {post : SY → Prop} (h : post (z, o, g, c, s, vl, dn, upd dp co (nI (t + 1)), fn, ta, gt, upd rr ((co * 4 + t) * 4 + a) v)) : wpY_back post (z, o, g, c, s, vl, dn, dp, fn, ta, gt, rr) (nI co) v := by
  have hin : vp_in (nI co) 4 := vp_in_nI hco (by omega)
  have e : (nI co).toNatClampNeg = co := nI_clamp (by omega)
  have e1 : nI (t + 2) - 1 = nI (t + 1) := nI_pred (t + 1)
  have e2 : nI co * 4 + nI (t + 1) - 1 = nI (co * 4 + t) := by rw [cf_i4, cf_top]
  have eq : (nI (co * 4 + t)).toNatClampNeg = co * 4 + t := nI_clamp (by omega)
  have hq : vp_in (nI (co * 4 + t)) 16 := vp_in_nI (by omega) (by omega)
  unfold wpY_back
  simp only [e, ed, e1]
  refine ⟨hin, hin, nm_e ⟨hin, ?_⟩⟩
  rw [pk_us, e2]
  refine br_f (nI_ne0 (by omega) (by omega)) ⟨hin, nm_e ⟨hq, ?_⟩⟩
  rw [eq, eg, cf_i4, nI_clamp (by omega)]
  exact ⟨vp_in_nI (by omega) (by omega), nm_e h⟩
end
section
variable {z o g c s vl dn dp fn ta gt rr : Nat → Int32} {co t f p a b : Nat}
theorem cf_yop (hco : co < 4) (ht : t < 4) (ed : dp co = nI (t + 1)) (hf : f < 3) (hp : p < 8) (efn : fn (co * 4 + t) = nI f) (eta : ta (co * 4 + t) = nI p) (ha : a < 4) (ea : cf_ra g (f * 8 + p) = nI a) (hb : b < 4) (eb : cf_rb g (f * 8 + p) = nI b) {post : SY → Prop} (h0 : o (f * 8 + p) = 0 → post (z, o, g, c, s, vl, dn, dp, fn, upd ta (co * 4 + t) (nI (p + 1)), gt, upd rr ((co * 4 + t) * 4 + a) (c (f * 8 + p)))) (hx1 : o (f * 8 + p) = 1 → post (z, o, g, c, s, vl, dn, dp, fn, upd ta (co * 4 + t) (nI (p + 1)), gt, upd rr ((co * 4 + t) * 4 + a) (rr ((co * 4 + t) * 4 + a) + rr ((co * 4 + t) * 4 + b)))) (h2 : o (f * 8 + p) = 2 → post (z, o, g, c, s, vl, dn, dp, fn, upd ta (co * 4 + t) (nI (p + 1)), gt, upd rr ((co * 4 + t) * 4 + a) (rr ((co * 4 + t) * 4 + a) - rr ((co * 4 + t) * 4 + b)))) (h3 : o (f * 8 + p) = 3 → post (z, o, g, c, s, vl, dn, dp, fn, upd ta (co * 4 + t) (c (f * 8 + p)), gt, rr)) (h4a : o (f * 8 + p) = 4 → ¬ rr ((co * 4 + t) * 4 + a) ≤ 0 → post (z, o, g, c, s, vl, dn, dp, fn, upd ta (co * 4 + t) (c (f * 8 + p)), gt, rr)) (hr : ¬ o (f * 8 + p) = 0 → ¬ o (f * 8 + p) = 1 → ¬ o (f * 8 + p) = 2 → ¬ o (f * 8 + p) = 3 → (o (f * 8 + p) = 4 → rr ((co * 4 + t) * 4 + a) ≤ 0) → wY_carryOut_202 post (nI co) (nI (co * 4 + t)) (nI (f * 8 + p)) (o (f * 8 + p)) (c (f * 8 + p)) (nI ((co * 4 + t) * 4 + a)) z o g c s vl dn dp fn (upd ta (co * 4 + t) (nI (p + 1))) gt rr) : wpY_carryOut post (z, o, g, c, s, vl, dn, dp, fn, ta, gt, rr) (nI co) := by
  have hin : vp_in (nI co) 4 := vp_in_nI hco (by omega)
  have e : (nI co).toNatClampNeg = co := nI_clamp (by omega)
  have eq : (nI (co * 4 + t)).toNatClampNeg = co * 4 + t := nI_clamp (by omega)
  have hq : vp_in (nI (co * 4 + t)) 16 := vp_in_nI (by omega) (by omega)
  have e8 : (nI (f * 8 + p)).toNatClampNeg = f * 8 + p := nI_clamp (by omega)
  have h8 : vp_in (nI (f * 8 + p)) 24 := vp_in_nI (by omega) (by omega)
  have ea' : g (f * 8 + p) &&& 3 = nI a := ea
  have eb' : (g (f * 8 + p) >>> ((2 : Int32) &&& 31)) &&& 3 = nI b := eb
  have eca : (nI ((co * 4 + t) * 4 + a)).toNatClampNeg = (co * 4 + t) * 4 + a := nI_clamp (by omega)
  have hia : vp_in (nI ((co * 4 + t) * 4 + a)) 64 := vp_in_nI (by omega) (by omega)
  have ecb : (nI ((co * 4 + t) * 4 + b)).toNatClampNeg = (co * 4 + t) * 4 + b := nI_clamp (by omega)
  have hib : vp_in (nI ((co * 4 + t) * 4 + b)) 64 := vp_in_nI (by omega) (by omega)
  unfold wpY_carryOut
  simp only [e, ed, cf_i4, cf_top, eq, efn, eta, cf_i8, e8, ea', eb', eca, ecb, nI_1, forall_eq, cf_uu]
  refine ⟨hin, hq, hq, h8, h8, h8, h8, hq, hq, ?_⟩
  refine br_c (fun n => ⟨hia, h0 n⟩) (fun n0 => br_c (fun n => ⟨hia, hib, hia, hx1 n⟩) (fun n1 => br_c (fun n => ⟨hia, hib, hia, h2 n⟩) (fun n2 => br_c (fun n => ⟨hq, h3 n⟩) (fun n3 => br_c (fun n4 => ⟨hia, br_c (fun m => hr n0 n1 n2 n3 (fun _ => m)) (fun m => ⟨hq, h4a n4 m⟩)⟩) (fun n4 => hr n0 n1 n2 n3 (fun y => absurd y n4))))))
theorem cf_y202_5 (hco : co < 4) (ht : t < 4) (hf : f < 3) (hp : p < 8) (ha : a < 4) (ho : o (f * 8 + p) = 5) (x5 : Int32) {post : SY → Prop} (h : post (z, o, g, c, upd s co 2, upd vl co (rr ((co * 4 + t) * 4 + a)), dn, dp, fn, ta, upd gt (co * 4 + t) (cf_rb g (f * 8 + p)), rr)) : wY_carryOut_202 post (nI co) (nI (co * 4 + t)) (nI (f * 8 + p)) (o (f * 8 + p)) x5 (nI ((co * 4 + t) * 4 + a)) z o g c s vl dn dp fn ta gt rr := by
  have hin : vp_in (nI co) 4 := vp_in_nI hco (by omega)
  have e : (nI co).toNatClampNeg = co := nI_clamp (by omega)
  have eq : (nI (co * 4 + t)).toNatClampNeg = co * 4 + t := nI_clamp (by omega)
  have hq : vp_in (nI (co * 4 + t)) 16 := vp_in_nI (by omega) (by omega)
  have e8 : (nI (f * 8 + p)).toNatClampNeg = f * 8 + p := nI_clamp (by omega)
  have h8 : vp_in (nI (f * 8 + p)) 24 := vp_in_nI (by omega) (by omega)
  have eca : (nI ((co * 4 + t) * 4 + a)).toNatClampNeg = (co * 4 + t) * 4 + a := nI_clamp (by omega)
  have hia : vp_in (nI ((co * 4 + t) * 4 + a)) 64 := vp_in_nI (by omega) (by omega)
  unfold wY_carryOut_202
  simp only [e, eq, e8, eca, forall_eq]
  exact br_t ho ⟨h8, hq, hin, hia, hin, h⟩
theorem cf_y202_4 {x1 x2 x3 x5 x6 : Int32} {post : SY → Prop} (h : post (z, o, g, c, s, vl, dn, dp, fn, ta, gt, rr)) : wY_carryOut_202 post x1 x2 x3 4 x5 x6 z o g c s vl dn dp fn ta gt rr := by
  unfold wY_carryOut_202
  refine br_f (by decide) (br_f (by decide) ?_)
  unfold wY_carryOut_274
  exact br_f (by decide) (br_f (by decide) h)
theorem cf_y202_64 (hco : co < 4) (ed : dp co = nI 4) {x2 x3 x5 x6 : Int32} {post : SY → Prop} (h : post (z, o, g, c, upd s co 4, upd vl co 0, dn, upd dp co 0, fn, ta, gt, rr)) : wY_carryOut_202 post (nI co) x2 x3 6 x5 x6 z o g c s vl dn dp fn ta gt rr := by
  have hin : vp_in (nI co) 4 := vp_in_nI hco (by omega)
  have e : (nI co).toNatClampNeg = co := nI_clamp (by omega)
  unfold wY_carryOut_202
  refine br_f (by decide) (br_t rfl ⟨hin, ?_⟩)
  rw [e, ed]
  exact br_t rfl (cf_yend hco h)
theorem cf_y202_6 (hco : co < 4) (ht : t < 3) (ed : dp co = nI (t + 1)) (hf : f < 3) (hp : p < 8) (ha : a < 4) {x5 : Int32} {f' : Nat} (hf' : (x5 - x5 / 3 * 3 + 3) - (x5 - x5 / 3 * 3 + 3) / 3 * 3 = nI f') {post : SY → Prop} (h : post (z, o, g, c, s, vl, dn, upd dp co (nI (t + 2)), upd fn (co * 4 + (t + 1)) (nI f'), upd ta (co * 4 + (t + 1)) 0, upd gt (co * 4 + t) (cf_ra g (f * 8 + p)), upd (upd (upd (upd rr ((co * 4 + (t + 1)) * 4) (rr ((co * 4 + t) * 4 + a))) ((co * 4 + (t + 1)) * 4 + 1) 0) ((co * 4 + (t + 1)) * 4 + 2) 0) ((co * 4 + (t + 1)) * 4 + 3) 0)) : wY_carryOut_202 post (nI co) (nI (co * 4 + t)) (nI (f * 8 + p)) 6 x5 (nI ((co * 4 + t) * 4 + a)) z o g c s vl dn dp fn ta gt rr := by
  have hin : vp_in (nI co) 4 := vp_in_nI hco (by omega)
  have e : (nI co).toNatClampNeg = co := nI_clamp (by omega)
  have eq : (nI (co * 4 + t)).toNatClampNeg = co * 4 + t := nI_clamp (by omega)
  have hq : vp_in (nI (co * 4 + t)) 16 := vp_in_nI (by omega) (by omega)
  have e8 : (nI (f * 8 + p)).toNatClampNeg = f * 8 + p := nI_clamp (by omega)
  have h8 : vp_in (nI (f * 8 + p)) 24 := vp_in_nI (by omega) (by omega)
  have eca : (nI ((co * 4 + t) * 4 + a)).toNatClampNeg = (co * 4 + t) * 4 + a := nI_clamp (by omega)
  have hia : vp_in (nI ((co * 4 + t) * 4 + a)) 64 := vp_in_nI (by omega) (by omega)
  unfold wY_carryOut_202
  refine br_f (by decide) (br_t rfl ⟨hin, ?_⟩)
  rw [e, ed]
  refine br_f (fun y => absurd ((nI_eq (by omega) (by omega)).mp (show nI (t + 1) = nI 4 from y)) (by omega)) ?_
  unfold wY_carryOut_274
  refine br_t rfl ⟨h8, hq, ?_⟩
  rw [e8, eq, eca, hf']
  exact nm_e ⟨hia, nm_e ⟨by decide, by decide, nm_e (cf_ypush hco (by omega) ed h)⟩⟩
theorem cf_y202_7 {x2 x3 x5 : Int32} {q : Nat} (hq : q < 64) {v' : SY} (H : ∀ post : SY → Prop, post v' → wpY_back post (z, o, g, c, s, vl, dn, dp, fn, ta, gt, rr) (nI co) (rr q)) {post : SY → Prop} (h : post v') : wY_carryOut_202 post (nI co) x2 x3 7 x5 (nI q) z o g c s vl dn dp fn ta gt rr := by
  obtain ⟨u1, u2, u3, u4, u5, u6, u7, u8, u9, u10, u11, u12⟩ := v'
  unfold wY_carryOut_202
  refine br_f (by decide) (br_f (by decide) ?_)
  unfold wY_carryOut_274
  refine br_f (by decide) (br_t rfl ⟨vp_in_nI hq (by omega), ?_⟩)
  rw [nI_clamp (by omega)]
  exact H _ h
end
end
section
/-! the relation: a waiting frame, a fresh one, one coroutine, all; the relation while a coroutine runs -/
def cf_WF (z o g rd ff fp pk fn ta gt rr : Nat → Int32) (k : Int32) (q : Nat) : Prop :=
  ∃ f p : Nat, f < 3 ∧ p < 8 ∧ nI p < z f ∧ o (f * 8 + p) = k ∧ ff q = nI f ∧ fn q = nI f ∧ fp q = nI p ∧ ta q = nI (p + 1) ∧ gt q = cf_w o g (f * 8 + p) ∧ ∀ r, r < 4 → bt (cf_K z o g rd f p) r = true → pk (q * 4 + cf_cn (cf_K z o g rd f p) r) = rr (q * 4 + r)
def cf_Fr (ff fp pk fn ta rr : Nat → Int32) (q : Nat) : Prop :=
  ∃ f : Nat, f < 3 ∧ ff q = nI f ∧ fn q = nI f ∧ fp q = -1 ∧ ta q = 0 ∧ pk (q * 4) = rr (q * 4) ∧ rr (q * 4 + 1) = 0 ∧ rr (q * 4 + 2) = 0 ∧ rr (q * 4 + 3) = 0
def cf_Co (an : Int32) (z o g rd ff fp pk fn ta gt rr : Nat → Int32) (st d : Int32) (i : Nat) : Prop :=
  (st = 1 → d = nI 1 ∧ cf_Fr ff fp pk fn ta rr (i * 4)) ∧ (st = 2 → an ≠ 0 ∧ ∃ t : Nat, t < 4 ∧ d = nI (t + 1) ∧ (∀ j, j < t → cf_WF z o g rd ff fp pk fn ta gt rr 6 (i * 4 + j)) ∧ cf_WF z o g rd ff fp pk fn ta gt rr 5 (i * 4 + t))
def cf_R (an : Int32) (z o g c rd s dp ff fp pk fn ta gt rr : Nat → Int32) : Prop :=
  cf_CW z o ∧ (an ≠ 0 → cf_Fix z o g c rd) ∧ ∀ i, i < 4 → cf_Co an z o g rd ff fp pk fn ta gt rr (s i) (dp i) i
/-- the other coroutines, and the frames of co below frame t -/
def cf_B (co t : Nat) (an : Int32) (z o g rd s dp ff fp pk fn ta gt rr : Nat → Int32) : Prop :=
  (∀ i, i < 4 → i ≠ co → cf_Co an z o g rd ff fp pk fn ta gt rr (s i) (dp i) i) ∧ (∀ j, j < t → cf_WF z o g rd ff fp pk fn ta gt rr 6 (co * 4 + j))
/-- the frame at work -/
def cf_T (q : Nat) (z rd fn ta rr rg : Nat → Int32) (fu pl : Int32) : Prop :=
  ∃ f : Nat, f < 3 ∧ fu = nI f ∧ fn q = nI f ∧ ta q = pl ∧ ∀ r, r < 4 → cf_L z rd f pl r → rg r = rr (q * 4 + r)
def cf_M (co t : Nat) (an : Int32) (z o g c rd s dp ff fp pk fn ta gt rr rg : Nat → Int32) (fu pl : Int32) : Prop :=
  co < 4 ∧ t < 4 ∧ dp co = nI (t + 1) ∧ an ≠ 0 ∧ s co = 1 ∧ cf_CW z o ∧ cf_Fix z o g c rd ∧ cf_B co t an z o g rd s dp ff fp pk fn ta gt rr ∧ cf_T (co * 4 + t) z rd fn ta rr rg fu pl
/-- the frames of a set S are alike -/
def cf_eqv (S : Nat → Prop) (ff fp pk fn ta gt rr ff' fp' pk' fn' ta' gt' rr' : Nat → Int32) : Prop :=
  ∀ q, S q → ff' q = ff q ∧ fp' q = fp q ∧ fn' q = fn q ∧ ta' q = ta q ∧ gt' q = gt q ∧ ∀ r, r < 4 → pk' (q * 4 + r) = pk (q * 4 + r) ∧ rr' (q * 4 + r) = rr (q * 4 + r)
section
variable {an : Int32} {z o g c rd s dp ff fp pk fn ta gt rr s' dp' ff' fp' pk' fn' ta' gt' rr' : Nat → Int32} {S : Nat → Prop} {co t q : Nat}
theorem cf_WF_keep {k : Int32} (E : cf_eqv S ff fp pk fn ta gt rr ff' fp' pk' fn' ta' gt' rr') (hS : S q) (h : cf_WF z o g rd ff fp pk fn ta gt rr k q) : cf_WF z o g rd ff' fp' pk' fn' ta' gt' rr' k q := by
  obtain ⟨f, p, h1, h2, h3, h4, h5, h6, h7, h8, h9, h10⟩ := h
  obtain ⟨e1, e2, e3, e4, e5, e6⟩ := E q hS
  refine ⟨f, p, h1, h2, h3, h4, e1.trans h5, e3.trans h6, e2.trans h7, e4.trans h8, e5.trans h9, fun r hr hb => ?_⟩
  have hc := cf_cn_le (cf_K z o g rd f p) r
  rw [(e6 _ (by omega : cf_cn (cf_K z o g rd f p) r < 4)).1, (e6 r hr).2]
  exact h10 r hr hb
theorem cf_Co_keep {st d : Int32} {i : Nat} (E : cf_eqv S ff fp pk fn ta gt rr ff' fp' pk' fn' ta' gt' rr') (hS : ∀ j, j < 4 → S (i * 4 + j)) (h : cf_Co an z o g rd ff fp pk fn ta gt rr st d i) : cf_Co an z o g rd ff' fp' pk' fn' ta' gt' rr' st d i := by
  refine ⟨fun e => ?_, fun e => ?_⟩
  · obtain ⟨a1, f, a2, a3, a4, a5, a6, a7, a8, a9, a10⟩ := h.1 e
    obtain ⟨e1, e2, e3, e4, _, e6⟩ := E (i * 4) (hS 0 (by omega))
    exact ⟨a1, f, a2, e1.trans a3, e3.trans a4, e2.trans a5, e4.trans a6, ((e6 0 (by omega)).1.trans a7).trans (e6 0 (by omega)).2.symm, (e6 1 (by omega)).2.trans a8, (e6 2 (by omega)).2.trans a9, (e6 3 (by omega)).2.trans a10⟩
  · obtain ⟨a1, t, a2, a3, a4, a5⟩ := h.2 e
    exact ⟨a1, t, a2, a3, fun j hj => cf_WF_keep E (hS j (by omega)) (a4 j hj), cf_WF_keep E (hS t a2) a5⟩
theorem cf_B_keep (E : cf_eqv (fun q => q ≠ co * 4 + t) ff fp pk fn ta gt rr ff' fp' pk' fn' ta' gt' rr') (ht : t < 4) (hs : ∀ i, i ≠ co → s' i = s i) (hd : ∀ i, i ≠ co → dp' i = dp i) (B : cf_B co t an z o g rd s dp ff fp pk fn ta gt rr) : cf_B co t an z o g rd s' dp' ff' fp' pk' fn' ta' gt' rr' := by
  refine ⟨fun i hi hne => ?_, fun j hj => cf_WF_keep E (show co * 4 + j ≠ co * 4 + t by omega) (B.2 j hj)⟩
  rw [hs i hne, hd i hne]
  exact cf_Co_keep E (fun j hj => show i * 4 + j ≠ co * 4 + t by omega) (B.1 i hi hne)
/-- co stops with a state that is neither ready nor waiting -/
theorem cf_stopR {st : Int32} (h1 : st ≠ 1) (h2 : st ≠ 2) (W : cf_CW z o) (F : cf_Fix z o g c rd) (B : cf_B co t an z o g rd s dp ff fp pk fn ta gt rr) : cf_R an z o g c rd (upd s co st) (upd dp co 0) ff fp pk fn ta gt rr := by
  refine ⟨W, fun _ => F, fun i hi => ?_⟩
  by_cases e : i = co
  · subst e
    rw [pk_us]
    exact ⟨fun y => absurd y h1, fun y => absurd y h2⟩
  · rw [pk_un e, pk_un e]
    exact B.1 i hi e
end
/-! the relation over the two states -/
/-- the relation at the head of a turn -/
def i_Rel (k : Nat) (u : SX) (v : SY) : Prop := match u with
  | (an, fu, pl, z, o, A, B, c, rd, s, vl, dn, dp, ff, fp, pk, rg) => match v with
    | (z', o', g, c', s', vl', dn', dp', fn, ta, gt, rr) => (z' = z ∧ o' = o ∧ A = cf_ra g ∧ B = cf_rb g ∧ c' = c ∧ s' = s ∧ vl' = vl ∧ dn' = dn ∧ dp' = dp) ∧ cf_R an z o g c rd s dp ff fp pk fn ta gt rr
/-- co runs, k instructions are done, t is its top frame -/
def cf_run (co k t : Nat) (u : SX) (v : SY) : Prop := match u with
  | (an, fu, pl, z, o, A, B, c, rd, s, vl, dn, dp, ff, fp, pk, rg) => match v with
    | (z', o', g, c', s', vl', dn', dp', fn, ta, gt, rr) => (z' = z ∧ o' = o ∧ A = cf_ra g ∧ B = cf_rb g ∧ c' = c ∧ s = upd s' co 5 ∧ vl' = vl ∧ dn' = upd dn co (nI k) ∧ dp' = dp) ∧ cf_M co t an z o g c rd s' dp ff fp pk fn ta gt rr rg fu pl
/-- the place at work is within its function -/
def cf_inr (u : SX) : Prop := match u with
  | (an, fu, pl, z, o, A, B, c, rd, s, vl, dn, dp, ff, fp, pk, rg) => ∃ f p : Nat, f < 3 ∧ p < 8 ∧ fu = nI f ∧ pl = nI p ∧ nI p < z f
/-- co has stopped after k instructions -/
def cf_stp (co k : Nat) (u : SX) (v : SY) : Prop := match u with
  | (an, fu, pl, z, o, A, B, c, rd, s, vl, dn, dp, ff, fp, pk, rg) => match v with
    | (z', o', g, c', s', vl', dn', dp', fn, ta, gt, rr) => (z' = z ∧ o' = o ∧ A = cf_ra g ∧ B = cf_rb g ∧ c' = c ∧ s' = s ∧ vl' = vl ∧ dn' = upd dn co (nI k) ∧ dp' = dp) ∧ cf_R an z o g c rd s dp ff fp pk fn ta gt rr ∧ s co ≠ 5 ∧ s co ≠ 1 ∧ co < 4
theorem cf_el {P : SX → SY → Prop} (h : ∀ (an fu pl : Int32) (z o g c rd s vl dn dp ff fp pk rg fn ta gt rr : Nat → Int32), cf_R an z o g c rd s dp ff fp pk fn ta gt rr → P (an, fu, pl, z, o, cf_ra g, cf_rb g, c, rd, s, vl, dn, dp, ff, fp, pk, rg) (z, o, g, c, s, vl, dn, dp, fn, ta, gt, rr)) {k : Nat} {u : SX} {v : SY} (I : i_Rel k u v) : P u v := by
  obtain ⟨an, fu, pl, z, o, A, B, c, rd, s, vl, dn, dp, ff, fp, pk, rg⟩ := u
  obtain ⟨z', o', g, c', s', vl', dn', dp', fn, ta, gt, rr⟩ := v
  obtain ⟨⟨e1, e2, e3, e4, e5, e6, e7, e8, e9⟩, R⟩ := I
  subst e1 e2 e3 e4 e5 e6 e7 e8 e9
  exact h _ _ _ _ _ _ _ _ _ _ _ _ _ _ _ _ _ _ _ _ R
theorem cf_run_el {P : SX → SY → Prop} {co k t : Nat} (h : ∀ (an fu pl : Int32) (z o g c rd s vl dn dp ff fp pk rg fn ta gt rr : Nat → Int32), cf_M co t an z o g c rd s dp ff fp pk fn ta gt rr rg fu pl → P (an, fu, pl, z, o, cf_ra g, cf_rb g, c, rd, upd s co 5, vl, dn, dp, ff, fp, pk, rg) (z, o, g, c, s, vl, upd dn co (nI k), dp, fn, ta, gt, rr)) {u : SX} {v : SY} (I : cf_run co k t u v) : P u v := by
  obtain ⟨an, fu, pl, z, o, A, B, c, rd, s, vl, dn, dp, ff, fp, pk, rg⟩ := u
  obtain ⟨z', o', g, c', s', vl', dn', dp', fn, ta, gt, rr⟩ := v
  obtain ⟨⟨e1, e2, e3, e4, e5, e6, e7, e8, e9⟩, R⟩ := I
  subst e1 e2 e3 e4 e5 e6 e7 e8 e9
  exact h _ _ _ _ _ _ _ _ _ _ _ _ _ _ _ _ _ _ _ _ R
theorem cf_stp_el {P : SX → SY → Prop} {co k : Nat} (h : ∀ (an fu pl : Int32) (z o g c rd s vl dn dp ff fp pk rg fn ta gt rr : Nat → Int32), cf_R an z o g c rd s dp ff fp pk fn ta gt rr → s co ≠ 5 → s co ≠ 1 → co < 4 → P (an, fu, pl, z, o, cf_ra g, cf_rb g, c, rd, s, vl, dn, dp, ff, fp, pk, rg) (z, o, g, c, s, vl, upd dn co (nI k), dp, fn, ta, gt, rr)) {u : SX} {v : SY} (I : cf_stp co k u v) : P u v := by
  obtain ⟨an, fu, pl, z, o, A, B, c, rd, s, vl, dn, dp, ff, fp, pk, rg⟩ := u
  obtain ⟨z', o', g, c', s', vl', dn', dp', fn, ta, gt, rr⟩ := v
  obtain ⟨⟨e1, e2, e3, e4, e5, e6, e7, e8, e9⟩, R, n5, n1, hc⟩ := I
  subst e1 e2 e3 e4 e5 e6 e7 e8 e9
  exact h _ _ _ _ _ _ _ _ _ _ _ _ _ _ _ _ _ _ _ _ R n5 n1 hc
section
variable {an fu pl : Int32} {z o g c rd s vl dn dp ff fp pk rg fn ta gt rr : Nat → Int32} {co k t : Nat}
theorem cf_mk (R : cf_R an z o g c rd s dp ff fp pk fn ta gt rr) (k : Nat) : i_Rel k (an, fu, pl, z, o, cf_ra g, cf_rb g, c, rd, s, vl, dn, dp, ff, fp, pk, rg) (z, o, g, c, s, vl, dn, dp, fn, ta, gt, rr) := ⟨⟨rfl, rfl, rfl, rfl, rfl, rfl, rfl, rfl, rfl⟩, R⟩
theorem cf_run_mk (M : cf_M co t an z o g c rd s dp ff fp pk fn ta gt rr rg fu pl) : cf_run co k t (an, fu, pl, z, o, cf_ra g, cf_rb g, c, rd, upd s co 5, vl, dn, dp, ff, fp, pk, rg) (z, o, g, c, s, vl, upd dn co (nI k), dp, fn, ta, gt, rr) := ⟨⟨rfl, rfl, rfl, rfl, rfl, rfl, rfl, rfl, rfl⟩, M⟩
theorem cf_stp_mk (R : cf_R an z o g c rd s dp ff fp pk fn ta gt rr) (n5 : s co ≠ 5) (n1 : s co ≠ 1) (hc : co < 4) : cf_stp co k (an, fu, pl, z, o, cf_ra g, cf_rb g, c, rd, s, vl, dn, dp, ff, fp, pk, rg) (z, o, g, c, s, vl, upd dn co (nI k), dp, fn, ta, gt, rr) := ⟨⟨rfl, rfl, rfl, rfl, rfl, rfl, rfl, rfl, rfl⟩, R, n5, n1, hc⟩
end
end
section
/-! giveBack and back in lockstep -/
theorem cf_take {z o g rd : Nat → Int32} {f p w q : Nat} {pk rr rg' : Nat → Int32} (hw : w < 4) (ew : cf_w o g (f * 8 + p) = nI w) (h : ∀ r, r < 4 → bt (cf_K z o g rd f p) r = true → pk (q * 4 + cf_cn (cf_K z o g rd f p) r) = rr (q * 4 + r)) (hr : ∀ i, i < 4 → bt (cf_K z o g rd f p) i = true → rg' i = pk (q * 4 + cf_cn (cf_K z o g rd f p) i)) (v : Int32) : ∀ r, r < 4 → cf_L z rd f (nI (p + 1)) r → upd rg' w v r = upd rr (q * 4 + w) v (q * 4 + r) := by
  intro r hr4 hL
  by_cases e : r = w
  · subst e
    rw [pk_us, pk_us]
  · rw [pk_un e, pk_un (by omega)]
    have hb := (cf_Kbit hw ew r).mpr ⟨hL, e⟩
    rw [hr r hr4 hb]
    exact h r hr4 hb
section
variable {an fu pl : Int32} {z o g c rd s vl dn dp ff fp pk rg fn ta gt rr : Nat → Int32} {co k t : Nat}
theorem cf_gb (hco : co < 4) (ht : t < 4) (ed : dp co = nI (t + 1)) (han : an ≠ 0) (hs : s co = 1) (W : cf_CW z o) (F : cf_Fix z o g c rd) (B : cf_B co t an z o g rd s dp ff fp pk fn ta gt rr) (val : Int32) : ∃ (u' : SX) (v' : SY), ((∃ t', t = t' + 1 ∧ cf_run co k t' u' v') ∨ cf_stp co k u' v') ∧ (∀ post : SX → Prop, post u' → wpX_giveBack post (an, fu, pl, z, o, cf_ra g, cf_rb g, c, rd, upd s co 5, vl, dn, dp, ff, fp, pk, rg) (nI co) val) ∧ (∀ post : SY → Prop, post v' → wpY_back post (z, o, g, c, s, vl, upd dn co (nI k), dp, fn, ta, gt, rr) (nI co) val) := by
  cases t with
  | zero =>
    refine ⟨(an, fu, pl, z, o, cf_ra g, cf_rb g, c, rd, upd s co 3, upd vl co val, dn, upd dp co 0, ff, fp, pk, rg), (z, o, g, c, upd s co 3, upd vl co val, upd dn co (nI k), upd dp co 0, fn, ta, gt, rr), Or.inr (cf_stp_mk (cf_stopR (by decide) (by decide) W F B) ?_ ?_ hco), fun post hp => cf_xgb1 hco ed ?_, fun post hp => cf_ybk1 hco ed hp⟩
    · rw [pk_us]; decide
    · rw [pk_us]; decide
    · rw [cf_uu]; exact hp
  | succ t =>
    obtain ⟨f, p, h1, h2, h3, h4, h5, h6, h7, h8, h9, h10⟩ := B.2 t (by omega)
    obtain ⟨a, ha, ea⟩ := cf_raE g (f * 8 + p)
    have ew : cf_w o g (f * 8 + p) = nI a := by
      unfold cf_w
      rw [if_neg (by rw [h4]; decide)]
      exact ea
    obtain ⟨rg', x1, x2⟩ := cf_xgb2 (an := an) (fu := fu) (pl := pl) (z := z) (o := o) (g := g) (c := c) (rd := rd) (s := upd s co 5) (vl := vl) (dn := dn) (dp := dp) (ff := ff) (fp := fp) (pk := pk) (rg := rg) W hco (show t < 3 by omega) ed h1 h2 h5 h7 ha ea val
    refine ⟨_, (z, o, g, c, s, vl, upd dn co (nI k), upd dp co (nI (t + 1)), fn, ta, gt, upd rr ((co * 4 + t) * 4 + a) val), Or.inl ⟨t, rfl, cf_run_mk (co := co) (k := k) (t := t) (an := an) (fu := nI f) (pl := nI (p + 1)) (z := z) (o := o) (g := g) (c := c) (rd := rd) (s := s) (vl := vl) (dn := dn) (dp := upd dp co (nI (t + 1))) (ff := ff) (fp := fp) (pk := pk) (rg := upd rg' a val) (fn := fn) (ta := ta) (gt := gt) (rr := upd rr ((co * 4 + t) * 4 + a) val) ⟨hco, by omega, pk_us, han, hs, W, F, ?_, f, h1, rfl, h6, h8, cf_take ha ew h10 x1 val⟩⟩, x2, fun post hp => cf_ybk2 hco (by omega) ed ha (h9.trans ew) hp⟩
    refine cf_B_keep (ff := ff) (fp := fp) (pk := pk) (fn := fn) (ta := ta) (gt := gt) (rr := rr) (s := s) (dp := dp) ?_ (by omega) (fun _ _ => rfl) (fun i hi => pk_un hi) ⟨B.1, fun j hj => B.2 j (by omega)⟩
    exact fun q (hq : q ≠ co * 4 + t) => ⟨rfl, rfl, rfl, rfl, rfl, fun r hr => ⟨rfl, pk_un (by omega)⟩⟩
end
end
section
/-! one instruction in lockstep -/
theorem cf_four {P : Nat → Prop} (h : P 0 ∧ P 1 ∧ P 2 ∧ P 3) : ∀ r, r < 4 → P r := fun r hr => co_4 h.1 h.2.1 h.2.2.1 h.2.2.2 hr
section
variable {an : Int32} {z o g c rd s vl dn dp ff fp pk rg fn ta gt rr : Nat → Int32} {co k t f p : Nat}
/-- the top frame goes on in the same function: only its place and registers change -/
theorem cf_same {pl' : Int32} {rg' rr' : Nat → Int32} (M : cf_M co t an z o g c rd s dp ff fp pk fn ta gt rr rg (nI f) (nI p)) (hf : f < 3) (hr : ∀ i, (i < (co * 4 + t) * 4 ∨ (co * 4 + t) * 4 + 4 ≤ i) → rr' i = rr i) (h : ∀ r, r < 4 → cf_L z rd f pl' r → rg' r = rr' ((co * 4 + t) * 4 + r)) : cf_M co t an z o g c rd s dp ff fp pk fn (upd ta (co * 4 + t) pl') gt rr' rg' (nI f) pl' := by
  obtain ⟨hco, ht, ed, han, hs, W, F, B, f0, h0, e0, efn, eta, hL⟩ := M
  have ef : f0 = f := (((nI_eq (by omega) (by omega)).mp e0)).symm
  subst ef
  refine ⟨hco, ht, ed, han, hs, W, F, ?_, f0, h0, rfl, efn, pk_us, h⟩
  refine cf_B_keep (ff := ff) (fp := fp) (pk := pk) (fn := fn) (ta := ta) (gt := gt) (rr := rr) (s := s) (dp := dp) ?_ ht (fun _ _ => rfl) (fun _ _ => rfl) B
  exact fun q (hq : q ≠ co * 4 + t) => ⟨rfl, rfl, rfl, pk_un hq, rfl, fun r hr4 => ⟨rfl, hr _ (by omega)⟩⟩
theorem cf_updR {a : Nat} {v : Int32} (ha : a < 4) {q : Nat} : ∀ i, (i < q * 4 ∨ q * 4 + 4 ≤ i) → upd rr (q * 4 + a) v i = rr i := fun i hi => pk_un (by omega)
/-- registers agree after a store of the same value in both -/
theorem cf_setR {a q : Nat} {v : Int32} {p' : Int32} (h : ∀ r, r < 4 → r ≠ a → cf_L z rd f p' r → rg r = rr (q * 4 + r)) : ∀ r, r < 4 → cf_L z rd f p' r → upd rg a v r = upd rr (q * 4 + a) v (q * 4 + r) := by
  intro r hr hL
  by_cases e : r = a
  · subst e
    rw [pk_us, pk_us]
  · rw [pk_un e, pk_un (by omega)]
    exact h r hr e hL
end
def cf_out (co k : Nat) (u : SX) (v : SY) : Prop := (∃ t, cf_run co k t u v) ∨ cf_stp co k u v
def cf_two (co k : Nat) (u : SX) (v : SY) : Prop := ∃ (u' : SX) (v' : SY), cf_out co k u' v' ∧ (∀ post : SX → Prop, post u' → wpX_perform post u (nI co)) ∧ (∀ post : SY → Prop, post v' → wpY_carryOut post v (nI co))
section
variable {an : Int32} {z o g c rd s vl dn dp ff fp pk rg fn ta gt rr : Nat → Int32} {co k t f p : Nat}
/-- what the frame at work knows, by the names of its function and place -/
theorem cf_topF (M : cf_M co t an z o g c rd s dp ff fp pk fn ta gt rr rg (nI f) (nI p)) (hf : f < 3) : fn (co * 4 + t) = nI f ∧ ta (co * 4 + t) = nI p ∧ ∀ r, r < 4 → cf_L z rd f (nI p) r → rg r = rr ((co * 4 + t) * 4 + r) := by
  obtain ⟨hco, ht, ed, han, hs, W, F, B, f0, h0, e0, efn, eta, hL⟩ := M
  have ef : f0 = f := (((nI_eq (by omega) (by omega)).mp e0)).symm
  subst ef
  exact ⟨efn, eta, hL⟩
theorem cf_st0 (M : cf_M co t an z o g c rd s dp ff fp pk fn ta gt rr rg (nI f) (nI p)) (hf : f < 3) (hp : p < 8) (hz : nI p < z f) (ho : o (f * 8 + p) = 0) : cf_two co k (an, nI f, nI p, z, o, cf_ra g, cf_rb g, c, rd, upd s co 5, vl, dn, dp, ff, fp, pk, rg) (z, o, g, c, s, vl, upd dn co (nI k), dp, fn, ta, gt, rr) := by
  obtain ⟨a, ha, ea⟩ := cf_raE g (f * 8 + p)
  obtain ⟨b, hb, eb⟩ := cf_rbE g (f * 8 + p)
  obtain ⟨efn, eta, hL⟩ := cf_topF M hf
  have F := M.2.2.2.2.2.2.1
  refine ⟨_, _, Or.inl ⟨t, cf_run_mk (k := k) (vl := vl) (dn := dn) (cf_same (pl' := nI (p + 1)) (rg' := upd rg a (c (f * 8 + p))) (rr' := upd rr ((co * 4 + t) * 4 + a) (c (f * 8 + p))) M hf (cf_updR ha) (cf_setR (fun r hr hne hl => hL r hr (cf_lv0 F hf hp hz ho ha ea hne hl))))⟩, fun post h => cf_xp0 hf hp ho ha ea h, fun post h => cf_yop M.1 M.2.1 M.2.2.1 hf hp efn eta ha ea hb eb (fun _ => h) ?_ ?_ ?_ ?_ ?_⟩
  · exact fun n => absurd (ho.symm.trans n) (by decide)
  · exact fun n => absurd (ho.symm.trans n) (by decide)
  · exact fun n => absurd (ho.symm.trans n) (by decide)
  · exact fun n => absurd (ho.symm.trans n) (by decide)
  · exact fun n => absurd ho n
theorem cf_st1 (M : cf_M co t an z o g c rd s dp ff fp pk fn ta gt rr rg (nI f) (nI p)) (hf : f < 3) (hp : p < 8) (hz : nI p < z f) (ho : o (f * 8 + p) = 1) : cf_two co k (an, nI f, nI p, z, o, cf_ra g, cf_rb g, c, rd, upd s co 5, vl, dn, dp, ff, fp, pk, rg) (z, o, g, c, s, vl, upd dn co (nI k), dp, fn, ta, gt, rr) := by
  obtain ⟨a, ha, ea⟩ := cf_raE g (f * 8 + p)
  obtain ⟨b, hb, eb⟩ := cf_rbE g (f * 8 + p)
  obtain ⟨efn, eta, hL⟩ := cf_topF M hf
  have F := M.2.2.2.2.2.2.1
  obtain ⟨v1, v2, v3⟩ := cf_lv1 F hf hp hz (Or.inl ho) ha ea hb eb
  refine ⟨_, _, Or.inl ⟨t, cf_run_mk (k := k) (vl := vl) (dn := dn) (cf_same (pl' := nI (p + 1)) (rg' := upd rg a (rg a + rg b)) (rr' := upd rr ((co * 4 + t) * 4 + a) (rg a + rg b)) M hf (cf_updR ha) (cf_setR (fun r hr hne hl => hL r hr (v1 r hl))))⟩, fun post h => cf_xp1 hf hp ho ha ea hb eb h, fun post h => cf_yop M.1 M.2.1 M.2.2.1 hf hp efn eta ha ea hb eb ?_ (fun _ => ?_) ?_ ?_ ?_ ?_⟩
  · exact fun n => absurd (ho.symm.trans n) (by decide)
  · rw [← hL a ha v2, ← hL b hb v3]; exact h
  · exact fun n => absurd (ho.symm.trans n) (by decide)
  · exact fun n => absurd (ho.symm.trans n) (by decide)
  · exact fun n => absurd (ho.symm.trans n) (by decide)
  · exact fun _ n => absurd ho n
theorem cf_st2 (M : cf_M co t an z o g c rd s dp ff fp pk fn ta gt rr rg (nI f) (nI p)) (hf : f < 3) (hp : p < 8) (hz : nI p < z f) (ho : o (f * 8 + p) = 2) : cf_two co k (an, nI f, nI p, z, o, cf_ra g, cf_rb g, c, rd, upd s co 5, vl, dn, dp, ff, fp, pk, rg) (z, o, g, c, s, vl, upd dn co (nI k), dp, fn, ta, gt, rr) := by
  obtain ⟨a, ha, ea⟩ := cf_raE g (f * 8 + p)
  obtain ⟨b, hb, eb⟩ := cf_rbE g (f * 8 + p)
  obtain ⟨efn, eta, hL⟩ := cf_topF M hf
  have F := M.2.2.2.2.2.2.1
  obtain ⟨v1, v2, v3⟩ := cf_lv1 F hf hp hz (Or.inr ho) ha ea hb eb
  refine ⟨_, _, Or.inl ⟨t, cf_run_mk (k := k) (vl := vl) (dn := dn) (cf_same (pl' := nI (p + 1)) (rg' := upd rg a (rg a - rg b)) (rr' := upd rr ((co * 4 + t) * 4 + a) (rg a - rg b)) M hf (cf_updR ha) (cf_setR (fun r hr hne hl => hL r hr (v1 r hl))))⟩, fun post h => cf_xp2 hf hp ho ha ea hb eb h, fun post h => cf_yop M.1 M.2.1 M.2.2.1 hf hp efn eta ha ea hb eb ?_ ?_ (fun _ => ?_) ?_ ?_ ?_⟩
  · exact fun n => absurd (ho.symm.trans n) (by decide)
  · exact fun n => absurd (ho.symm.trans n) (by decide)
  · rw [← hL a ha v2, ← hL b hb v3]; exact h
  · exact fun n => absurd (ho.symm.trans n) (by decide)
  · exact fun n => absurd (ho.symm.trans n) (by decide)
  · exact fun _ _ n => absurd ho n
theorem cf_st3 (M : cf_M co t an z o g c rd s dp ff fp pk fn ta gt rr rg (nI f) (nI p)) (hf : f < 3) (hp : p < 8) (hz : nI p < z f) (ho : o (f * 8 + p) = 3) : cf_two co k (an, nI f, nI p, z, o, cf_ra g, cf_rb g, c, rd, upd s co 5, vl, dn, dp, ff, fp, pk, rg) (z, o, g, c, s, vl, upd dn co (nI k), dp, fn, ta, gt, rr) := by
  obtain ⟨a, ha, ea⟩ := cf_raE g (f * 8 + p)
  obtain ⟨b, hb, eb⟩ := cf_rbE g (f * 8 + p)
  obtain ⟨efn, eta, hL⟩ := cf_topF M hf
  have F := M.2.2.2.2.2.2.1
  refine ⟨_, _, Or.inl ⟨t, cf_run_mk (k := k) (vl := vl) (dn := dn) (cf_same (pl' := c (f * 8 + p)) (rg' := rg) (rr' := rr) M hf (fun _ _ => rfl) (fun r hr hl => hL r hr (cf_lv3 F hf hp hz ho hl)))⟩, fun post h => cf_xp3 hf hp ho h, fun post h => cf_yop M.1 M.2.1 M.2.2.1 hf hp efn eta ha ea hb eb ?_ ?_ ?_ (fun _ => h) ?_ ?_⟩
  · exact fun n => absurd (ho.symm.trans n) (by decide)
  · exact fun n => absurd (ho.symm.trans n) (by decide)
  · exact fun n => absurd (ho.symm.trans n) (by decide)
  · exact fun n => absurd (ho.symm.trans n) (by decide)
  · exact fun _ _ _ n => absurd ho n
theorem cf_st4 (M : cf_M co t an z o g c rd s dp ff fp pk fn ta gt rr rg (nI f) (nI p)) (hf : f < 3) (hp : p < 8) (hz : nI p < z f) (ho : o (f * 8 + p) = 4) : cf_two co k (an, nI f, nI p, z, o, cf_ra g, cf_rb g, c, rd, upd s co 5, vl, dn, dp, ff, fp, pk, rg) (z, o, g, c, s, vl, upd dn co (nI k), dp, fn, ta, gt, rr) := by
  obtain ⟨a, ha, ea⟩ := cf_raE g (f * 8 + p)
  obtain ⟨b, hb, eb⟩ := cf_rbE g (f * 8 + p)
  obtain ⟨efn, eta, hL⟩ := cf_topF M hf
  have F := M.2.2.2.2.2.2.1
  obtain ⟨v1, v2, v3⟩ := cf_lv4 F hf hp hz ho ha ea
  have er := hL a ha v3
  by_cases hc : rg a ≤ 0
  · refine ⟨_, _, Or.inl ⟨t, cf_run_mk (k := k) (vl := vl) (dn := dn) (cf_same (pl' := nI (p + 1)) (rg' := rg) (rr' := rr) M hf (fun _ _ => rfl) (fun r hr hl => hL r hr (v1 r hl)))⟩, fun post h => cf_xp4 hf hp ho ha ea (fun _ => h) (fun n => absurd hc n), fun post h => cf_yop M.1 M.2.1 M.2.2.1 hf hp efn eta ha ea hb eb ?_ ?_ ?_ ?_ ?_ ?_⟩
    · exact fun n => absurd (ho.symm.trans n) (by decide)
    · exact fun n => absurd (ho.symm.trans n) (by decide)
    · exact fun n => absurd (ho.symm.trans n) (by decide)
    · exact fun n => absurd (ho.symm.trans n) (by decide)
    · intro _ n
      rw [← er] at n
      exact absurd hc n
    · intro _ _ _ _ _
      rw [ho]
      exact cf_y202_4 h
  · refine ⟨_, _, Or.inl ⟨t, cf_run_mk (k := k) (vl := vl) (dn := dn) (cf_same (pl' := c (f * 8 + p)) (rg' := rg) (rr' := rr) M hf (fun _ _ => rfl) (fun r hr hl => hL r hr (v2 r hl)))⟩, fun post h => cf_xp4 hf hp ho ha ea (fun n => absurd n hc) (fun _ => h), fun post h => cf_yop M.1 M.2.1 M.2.2.1 hf hp efn eta ha ea hb eb ?_ ?_ ?_ ?_ (fun _ _ => h) ?_⟩
    · exact fun n => absurd (ho.symm.trans n) (by decide)
    · exact fun n => absurd (ho.symm.trans n) (by decide)
    · exact fun n => absurd (ho.symm.trans n) (by decide)
    · exact fun n => absurd (ho.symm.trans n) (by decide)
    · intro _ _ _ _ n
      have n' := n ho
      rw [← er] at n'
      exact absurd n' hc
/-- the frame at work becomes a waiting one -/
theorem cf_wait {K5 : Int32} {ff' fp' pk' fn' ta' gt' rr' : Nat → Int32} {q w : Nat} (hf : f < 3) (hp : p < 8) (hz : nI p < z f) (ho : o (f * 8 + p) = K5) (hw : w < 4) (ew : cf_w o g (f * 8 + p) = nI w) (e1 : ff' q = nI f) (e2 : fn' q = nI f) (e3 : fp' q = nI p) (e4 : ta' q = nI (p + 1)) (e5 : gt' q = cf_w o g (f * 8 + p)) (hk : ∀ i, i < 4 → bt (cf_K z o g rd f p) i = true → pk' (q * 4 + cf_cn (cf_K z o g rd f p) i) = rg i) (hl : ∀ r, r < 4 → cf_L z rd f (nI (p + 1)) r → r ≠ w → rg r = rr' (q * 4 + r)) : cf_WF z o g rd ff' fp' pk' fn' ta' gt' rr' K5 q := by
  refine ⟨f, p, hf, hp, hz, ho, e1, e2, e3, e4, e5, fun r hr hb => ?_⟩
  rw [hk r hr hb]
  have := (cf_Kbit hw ew r).mp hb
  exact hl r hr this.1 this.2
theorem cf_st5 (M : cf_M co t an z o g c rd s dp ff fp pk fn ta gt rr rg (nI f) (nI p)) (hf : f < 3) (hp : p < 8) (hz : nI p < z f) (ho : o (f * 8 + p) = 5) : cf_two co k (an, nI f, nI p, z, o, cf_ra g, cf_rb g, c, rd, upd s co 5, vl, dn, dp, ff, fp, pk, rg) (z, o, g, c, s, vl, upd dn co (nI k), dp, fn, ta, gt, rr) := by
  obtain ⟨a, ha, ea⟩ := cf_raE g (f * 8 + p)
  obtain ⟨b, hb, eb⟩ := cf_rbE g (f * 8 + p)
  obtain ⟨efn, eta, hL⟩ := cf_topF M hf
  obtain ⟨hco, ht, ed, han, hs, W, F, B, T⟩ := M
  obtain ⟨v1, v2⟩ := cf_lv5 F hf hp hz ho ha ea hb eb
  have er := hL a ha v2
  have ew : cf_w o g (f * 8 + p) = nI b := by
    unfold cf_w
    rw [if_pos ho]
    exact eb
  have ew' : cf_w o g (f * 8 + p) = cf_rb g (f * 8 + p) := by
    unfold cf_w
    rw [if_pos ho]
  obtain ⟨pk', x1, x2, x3⟩ := cf_xp5 (an := an) (z := z) (o := o) (g := g) (c := c) (rd := rd) (s := upd s co 5) (vl := vl) (dn := dn) (dp := dp) (ff := ff) (fp := fp) (pk := pk) (rg := rg) W hco ht ed hf hp ho ha ea
  refine ⟨_, (z, o, g, c, upd s co 2, upd vl co (rg a), upd dn co (nI k), dp, fn, upd ta (co * 4 + t) (nI (p + 1)), upd gt (co * 4 + t) (cf_rb g (f * 8 + p)), rr), Or.inr (cf_stp_mk (k := k) (co := co) (an := an) (fu := nI f) (pl := nI p) (z := z) (o := o) (g := g) (c := c) (rd := rd) (s := upd s co 2) (vl := upd vl co (rg a)) (dn := dn) (dp := dp) (ff := upd ff (co * 4 + t) (nI f)) (fp := upd fp (co * 4 + t) (nI p)) (pk := pk') (rg := rg) (fn := fn) (ta := upd ta (co * 4 + t) (nI (p + 1))) (gt := upd gt (co * 4 + t) (cf_rb g (f * 8 + p))) (rr := rr) ?_ ?_ ?_ hco), ?_, fun post h => cf_yop hco ht ed hf hp efn eta ha ea hb eb ?_ ?_ ?_ ?_ ?_ ?_⟩
  · have B' : cf_B co t an z o g rd s dp (upd ff (co * 4 + t) (nI f)) (upd fp (co * 4 + t) (nI p)) pk' fn (upd ta (co * 4 + t) (nI (p + 1))) (upd gt (co * 4 + t) (cf_rb g (f * 8 + p))) rr := by
      refine cf_B_keep (ff := ff) (fp := fp) (pk := pk) (fn := fn) (ta := ta) (gt := gt) (rr := rr) (s := s) (dp := dp) ?_ ht (fun _ _ => rfl) (fun _ _ => rfl) B
      exact fun q (hq : q ≠ co * 4 + t) => ⟨pk_un hq, pk_un hq, rfl, pk_un hq, pk_un hq, fun r hr4 => ⟨x2 _ (by omega), rfl⟩⟩
    refine ⟨W, fun _ => F, fun i hi => ?_⟩
    by_cases e : i = co
    · subst e
      rw [pk_us]
      refine ⟨fun y => absurd y (by decide), fun _ => ⟨han, t, ht, ed, B'.2, ?_⟩⟩
      exact cf_wait (rg := rg) hf hp hz ho hb ew pk_us efn pk_us pk_us (pk_us.trans ew'.symm) x1 (fun r hr hl hne => hL r hr (v1 r hne hl))
    · rw [pk_un e]
      exact B'.1 i hi e
  · rw [pk_us]; decide
  · rw [pk_us]; decide
  · intro post h
    refine x3 post ?_
    rw [cf_uu]
    exact h
  · exact fun n => absurd (ho.symm.trans n) (by decide)
  · exact fun n => absurd (ho.symm.trans n) (by decide)
  · exact fun n => absurd (ho.symm.trans n) (by decide)
  · exact fun n => absurd (ho.symm.trans n) (by decide)
  · exact fun n => absurd (ho.symm.trans n) (by decide)
  · intro _ _ _ _ _
    refine cf_y202_5 hco ht hf hp ha ho _ ?_
    rw [← er]
    exact h
theorem cf_st6 (M : cf_M co t an z o g c rd s dp ff fp pk fn ta gt rr rg (nI f) (nI p)) (hf : f < 3) (hp : p < 8) (hz : nI p < z f) (ho : o (f * 8 + p) = 6) : cf_two co k (an, nI f, nI p, z, o, cf_ra g, cf_rb g, c, rd, upd s co 5, vl, dn, dp, ff, fp, pk, rg) (z, o, g, c, s, vl, upd dn co (nI k), dp, fn, ta, gt, rr) := by
  obtain ⟨a, ha, ea⟩ := cf_raE g (f * 8 + p)
  obtain ⟨b, hb, eb⟩ := cf_rbE g (f * 8 + p)
  obtain ⟨efn, eta, hL⟩ := cf_topF M hf
  obtain ⟨hco, ht, ed, han, hs, W, F, B, T⟩ := M
  obtain ⟨v1, v2⟩ := cf_lv6 F hf hp hz ho ha ea
  have er := hL a ha v2
  have ew' : cf_w o g (f * 8 + p) = cf_ra g (f * 8 + p) := by
    unfold cf_w
    rw [if_neg (by rw [ho]; decide)]
  have ew : cf_w o g (f * 8 + p) = nI a := ew'.trans ea
  by_cases ht3 : t = 3
  · subst ht3
    refine ⟨_, _, Or.inr (cf_stp_mk (k := k) (co := co) (an := an) (fu := nI f) (pl := nI p) (z := z) (o := o) (g := g) (c := c) (rd := rd) (s := upd s co 4) (vl := upd vl co 0) (dn := dn) (dp := upd dp co 0) (ff := ff) (fp := fp) (pk := pk) (rg := rg) (fn := fn) (ta := upd ta (co * 4 + 3) (nI (p + 1))) (gt := gt) (rr := rr) (cf_stopR (t := 3) (by decide) (by decide) W F ?_) ?_ ?_ hco), fun post h => cf_xp6 hf hp ho (u' := (an, nI f, nI p, z, o, cf_ra g, cf_rb g, c, rd, upd s co 4, upd vl co 0, dn, upd dp co 0, ff, fp, pk, rg)) (fun post' h' => cf_xcall4 hco ed ?_) h, fun post h => cf_yop hco ht ed hf hp efn eta ha ea hb eb ?_ ?_ ?_ ?_ ?_ ?_⟩
    · refine cf_B_keep (ff := ff) (fp := fp) (pk := pk) (fn := fn) (ta := ta) (gt := gt) (rr := rr) (s := s) (dp := dp) ?_ ht (fun _ _ => rfl) (fun _ _ => rfl) B
      exact fun q (hq : q ≠ co * 4 + 3) => ⟨rfl, rfl, rfl, pk_un hq, rfl, fun r hr4 => ⟨rfl, rfl⟩⟩
    · rw [pk_us]; decide
    · rw [pk_us]; decide
    · rw [cf_uu]; exact h'
    · exact fun n => absurd (ho.symm.trans n) (by decide)
    · exact fun n => absurd (ho.symm.trans n) (by decide)
    · exact fun n => absurd (ho.symm.trans n) (by decide)
    · exact fun n => absurd (ho.symm.trans n) (by decide)
    · exact fun n => absurd (ho.symm.trans n) (by decide)
    · intro _ _ _ _ _
      rw [ho]
      exact cf_y202_64 hco ed h
  · have ht' : t < 3 := by omega
    obtain ⟨f', hf'3, hfX, hfY⟩ : ∃ f' : Nat, f' < 3 ∧ ((0 ≤ c (f * 8 + p) - c (f * 8 + p) / 3 * 3 ∧ c (f * 8 + p) - c (f * 8 + p) / 3 * 3 = nI f') ∨ (¬ 0 ≤ c (f * 8 + p) - c (f * 8 + p) / 3 * 3 ∧ c (f * 8 + p) - c (f * 8 + p) / 3 * 3 + 3 = nI f')) ∧ (c (f * 8 + p) - c (f * 8 + p) / 3 * 3 + 3) - (c (f * 8 + p) - c (f * 8 + p) / 3 * 3 + 3) / 3 * 3 = nI f' := by
      rcases cf_mod3 (c (f * 8 + p)) with ⟨n0, f', n1, n2, n3⟩ | ⟨n0, f', n1, n2, n3⟩
      · exact ⟨f', n1, Or.inl ⟨n0, n2⟩, n3⟩
      · exact ⟨f', n1, Or.inr ⟨n0, n2⟩, n3⟩
    obtain ⟨pk', rg', x1, x2, x3, x4⟩ := cf_xcall (an := an) (z := z) (o := o) (g := g) (c := c) (rd := rd) (s := upd s co 5) (vl := vl) (dn := dn) (dp := dp) (ff := ff) (fp := fp) (pk := pk) (rg := rg) W hco ht' ed hf hp ha ea hfX
    refine ⟨_, _, Or.inl ⟨t + 1, cf_run_mk (co := co) (k := k) (t := t + 1) (an := an) (fu := nI f') (pl := 0) (z := z) (o := o) (g := g) (c := c) (rd := rd) (s := s) (vl := vl) (dn := dn) (dp := upd dp co (nI (t + 2))) (ff := upd ff (co * 4 + t) (nI f)) (fp := upd fp (co * 4 + t) (nI p)) (pk := pk') (rg := rg') (fn := upd fn (co * 4 + (t + 1)) (nI f')) (ta := upd (upd ta (co * 4 + t) (nI (p + 1))) (co * 4 + (t + 1)) 0) (gt := upd gt (co * 4 + t) (cf_ra g (f * 8 + p))) (rr := upd (upd (upd (upd rr ((co * 4 + (t + 1)) * 4) (rg a)) ((co * 4 + (t + 1)) * 4 + 1) 0) ((co * 4 + (t + 1)) * 4 + 2) 0) ((co * 4 + (t + 1)) * 4 + 3) 0) ⟨hco, by omega, pk_us, han, hs, W, F, ?_, f', hf'3, rfl, pk_us, pk_us, ?_⟩⟩, fun post h => cf_xp6 hf hp ho x4 h, fun post h => cf_yop hco ht ed hf hp efn eta ha ea hb eb ?_ ?_ ?_ ?_ ?_ ?_⟩
    · have B1 : cf_B co t an z o g rd s dp (upd ff (co * 4 + t) (nI f)) (upd fp (co * 4 + t) (nI p)) pk' fn (upd ta (co * 4 + t) (nI (p + 1))) (upd gt (co * 4 + t) (cf_ra g (f * 8 + p))) rr := by
        refine cf_B_keep (ff := ff) (fp := fp) (pk := pk) (fn := fn) (ta := ta) (gt := gt) (rr := rr) (s := s) (dp := dp) ?_ ht (fun _ _ => rfl) (fun _ _ => rfl) B
        exact fun q (hq : q ≠ co * 4 + t) => ⟨pk_un hq, pk_un hq, rfl, pk_un hq, pk_un hq, fun r hr4 => ⟨x2 _ (by omega), rfl⟩⟩
      have w6 : cf_WF z o g rd (upd ff (co * 4 + t) (nI f)) (upd fp (co * 4 + t) (nI p)) pk' fn (upd ta (co * 4 + t) (nI (p + 1))) (upd gt (co * 4 + t) (cf_ra g (f * 8 + p))) rr 6 (co * 4 + t) :=
        cf_wait (rg := rg) hf hp hz ho ha ew pk_us efn pk_us pk_us (pk_us.trans ew'.symm) x1 (fun r hr hl _ => hL r hr (v1 r hl))
      refine cf_B_keep (t := t + 1) (ff := upd ff (co * 4 + t) (nI f)) (fp := upd fp (co * 4 + t) (nI p)) (pk := pk') (fn := fn) (ta := upd ta (co * 4 + t) (nI (p + 1))) (gt := upd gt (co * 4 + t) (cf_ra g (f * 8 + p))) (rr := rr) (s := s) (dp := dp) ?_ (by omega) (fun _ _ => rfl) (fun i hi => pk_un hi) ⟨B1.1, fun j hj => ?_⟩
      · exact fun q (hq : q ≠ co * 4 + (t + 1)) => ⟨rfl, rfl, pk_un hq, pk_un hq, rfl, fun r hr4 => ⟨rfl, by rw [pk_un (by omega), pk_un (by omega), pk_un (by omega), pk_un (by omega)]⟩⟩
      · rcases Nat.lt_or_ge j t with hjt | hjt
        · exact B1.2 j hjt
        · have : j = t := by omega
          subst this
          exact w6
    · obtain ⟨y0, y1, y2, y3⟩ := x3
      intro r hr _
      refine cf_four (P := fun r => rg' r = upd (upd (upd (upd rr ((co * 4 + (t + 1)) * 4) (rg a)) ((co * 4 + (t + 1)) * 4 + 1) 0) ((co * 4 + (t + 1)) * 4 + 2) 0) ((co * 4 + (t + 1)) * 4 + 3) 0 ((co * 4 + (t + 1)) * 4 + r)) ⟨?_, ?_, ?_, ?_⟩ r hr
      · show rg' 0 = _
        rw [pk_un (by omega), pk_un (by omega), pk_un (by omega)]
        exact y0.trans (pk_us (f := rr) (k := (co * 4 + (t + 1)) * 4) (x := rg a)).symm
      · show rg' 1 = _
        rw [pk_un (by omega), pk_un (by omega), pk_us]
        exact y1
      · show rg' 2 = _
        rw [pk_un (by omega), pk_us]
        exact y2
      · show rg' 3 = _
        rw [pk_us]
        exact y3
    · exact fun n => absurd (ho.symm.trans n) (by decide)
    · exact fun n => absurd (ho.symm.trans n) (by decide)
    · exact fun n => absurd (ho.symm.trans n) (by decide)
    · exact fun n => absurd (ho.symm.trans n) (by decide)
    · exact fun n => absurd (ho.symm.trans n) (by decide)
    · intro _ _ _ _ _
      rw [ho]
      refine cf_y202_6 hco ht' ed hf hp ha hfY ?_
      rw [← er]
      exact h
theorem cf_st7 (M : cf_M co t an z o g c rd s dp ff fp pk fn ta gt rr rg (nI f) (nI p)) (hf : f < 3) (hp : p < 8) (hz : nI p < z f) (ho : o (f * 8 + p) = 7) : cf_two co k (an, nI f, nI p, z, o, cf_ra g, cf_rb g, c, rd, upd s co 5, vl, dn, dp, ff, fp, pk, rg) (z, o, g, c, s, vl, upd dn co (nI k), dp, fn, ta, gt, rr) := by
  obtain ⟨a, ha, ea⟩ := cf_raE g (f * 8 + p)
  obtain ⟨b, hb, eb⟩ := cf_rbE g (f * 8 + p)
  obtain ⟨efn, eta, hL⟩ := cf_topF M hf
  obtain ⟨hco, ht, ed, han, hs, W, F, B, T⟩ := M
  have er := hL a ha (cf_lv7 F hf hp hz ho ha ea)
  have B' : cf_B co t an z o g rd s dp ff fp pk fn (upd ta (co * 4 + t) (nI (p + 1))) gt rr := by
    refine cf_B_keep (ff := ff) (fp := fp) (pk := pk) (fn := fn) (ta := ta) (gt := gt) (rr := rr) (s := s) (dp := dp) ?_ ht (fun _ _ => rfl) (fun _ _ => rfl) B
    exact fun q (hq : q ≠ co * 4 + t) => ⟨rfl, rfl, rfl, pk_un hq, rfl, fun r hr4 => ⟨rfl, rfl⟩⟩
  obtain ⟨u', v', h1, h2, h3⟩ := cf_gb (k := k) (vl := vl) (dn := dn) (fu := nI f) (pl := nI p) (rg := rg) hco ht ed han hs W F B' (rg a)
  refine ⟨u', v', h1.imp (fun ⟨t', _, h⟩ => ⟨t', h⟩) id, fun post h => cf_xp7 hf hp ho ha ea h2 h, fun post h => cf_yop hco ht ed hf hp efn eta ha ea hb eb ?_ ?_ ?_ ?_ ?_ ?_⟩
  · exact fun n => absurd (ho.symm.trans n) (by decide)
  · exact fun n => absurd (ho.symm.trans n) (by decide)
  · exact fun n => absurd (ho.symm.trans n) (by decide)
  · exact fun n => absurd (ho.symm.trans n) (by decide)
  · exact fun n => absurd (ho.symm.trans n) (by decide)
  · intro _ _ _ _ _
    rw [ho]
    rw [er] at h3
    exact cf_y202_7 (by omega) h3 h
end
theorem cf_step {co k t : Nat} {u : SX} {v : SY} (H : cf_run co k t u v) (hi : cf_inr u) : cf_two co k u v := by
  refine cf_run_el (P := fun u v => cf_inr u → cf_two co k u v) ?_ H hi
  intro an fu pl z o g c rd s vl dn dp ff fp pk rg fn ta gt rr M hi
  obtain ⟨f, p, hf, hp, e1, e2, hz⟩ := hi
  subst e1 e2
  have ho := M.2.2.2.2.2.1.2 (f * 8 + p) (by omega)
  rcases ho with ho | ho | ho | ho | ho | ho | ho | ho
  · exact cf_st0 M hf hp hz ho
  · exact cf_st1 M hf hp hz ho
  · exact cf_st2 M hf hp hz ho
  · exact cf_st3 M hf hp hz ho
  · exact cf_st4 M hf hp hz ho
  · exact cf_st5 M hf hp hz ho
  · exact cf_st6 M hf hp hz ho
  · exact cf_st7 M hf hp hz ho
end
section
/-! returnAtEnd against fallOff; the loop of a resume -/
def cf_WX (post : SX → Prop) (n : Nat) (x1 x2 : Int32) (u : SX) : Prop := match u with
  | (an, fu, pl, z, o, A, B, c, rd, s, vl, dn, dp, ff, fp, pk, rg) => wX_returnAtEnd_2 post x1 n x2 an fu pl z o A B c rd s vl dn dp ff fp pk rg
def cf_WY (post : SY → Prop) (n : Nat) (x1 x2 : Int32) (v : SY) : Prop := match v with
  | (z, o, g, c, s, vl, dn, dp, fn, ta, gt, rr) => wY_fallOff_2 post x1 n x2 z o g c s vl dn dp fn ta gt rr
def cf_VX (post : SX → Prop) (n : Nat) (x1 x2 : Int32) (u : SX) : Prop := match u with
  | (an, fu, pl, z, o, A, B, c, rd, s, vl, dn, dp, ff, fp, pk, rg) => wX_carryOn_21 post x1 n x2 an fu pl z o A B c rd s vl dn dp ff fp pk rg
def cf_VY (post : Int32 → SY → Prop) (n : Nat) (x1 x2 : Int32) (v : SY) : Prop := match v with
  | (z, o, g, c, s, vl, dn, dp, fn, ta, gt, rr) => wY_resume_100 post x1 n x2 z o g c s vl dn dp fn ta gt rr
def cf_go (co k : Nat) (u : SX) (v : SY) : Prop := (∃ t, cf_run co k t u v ∧ cf_inr u) ∨ cf_stp co k u v
section
variable {an fu pl : Int32} {z o g c rd s vl dn dp ff fp pk rg fn ta gt rr : Nat → Int32} {co k t f : Nat}
theorem cf_xre {u' : SX} (hco : co < 4) {i n : Nat} (hi : i < 4) (ef : fu = nI f) (hf : f < 3) (hpast : ¬ pl < 0 → ¬ pl < z f) (H : ∀ post : SX → Prop, post u' → wpX_giveBack post (an, fu, pl, z, o, cf_ra g, cf_rb g, c, rd, upd s co 5, vl, dn, dp, ff, fp, pk, rg) (nI co) 0) {post : SX → Prop} (K : cf_WX post n (nI co) (nI (i + 1)) u') : cf_WX post (n + 1) (nI co) (nI i) (an, fu, pl, z, o, cf_ra g, cf_rb g, c, rd, upd s co 5, vl, dn, dp, ff, fp, pk, rg) := by
  obtain ⟨u1, u2, u3, u4, u5, u6, u7, u8, u9, u10, u11, u12, u13, u14, u15, u16, u17⟩ := u'
  unfold cf_WX
  dsimp only
  rw [wX_returnAtEnd_2]
  refine br_f (nI_ge (b := 4) (by omega) (by omega)) ⟨vp_in_nI hco (by omega), ?_⟩
  rw [nI_clamp (by omega), pk_us]
  exact br_t rfl (cf_xpe1 ef hf hpast (br_f (by decide) (H _ (fun y ey => by rw [ey, nI_1]; exact K))))
theorem cf_xex (hco : co < 4) {i n : Nat} (hi : i ≤ 4) (ef : fu = nI f) (hf : f < 3) (h0 : ¬ pl < 0) (h1 : pl < z f) {post : SX → Prop} (K : post (an, fu, pl, z, o, cf_ra g, cf_rb g, c, rd, upd s co 5, vl, dn, dp, ff, fp, pk, rg)) : cf_WX post (n + 1) (nI co) (nI i) (an, fu, pl, z, o, cf_ra g, cf_rb g, c, rd, upd s co 5, vl, dn, dp, ff, fp, pk, rg) := by
  unfold cf_WX
  dsimp only
  rw [wX_returnAtEnd_2]
  refine br_c (fun _ => K) (fun _ => ⟨vp_in_nI hco (by omega), ?_⟩)
  rw [nI_clamp (by omega), pk_us]
  exact br_t rfl (cf_xpe0 ef hf h0 h1 (br_t rfl K))
theorem cf_xst (hco : co < 4) {i n : Nat} (hs : s co ≠ 5) {post : SX → Prop} (K : post (an, fu, pl, z, o, cf_ra g, cf_rb g, c, rd, s, vl, dn, dp, ff, fp, pk, rg)) : cf_WX post (n + 1) (nI co) (nI i) (an, fu, pl, z, o, cf_ra g, cf_rb g, c, rd, s, vl, dn, dp, ff, fp, pk, rg) := by
  unfold cf_WX
  dsimp only
  rw [wX_returnAtEnd_2]
  refine br_c (fun _ => K) (fun _ => ⟨vp_in_nI hco (by omega), ?_⟩)
  rw [nI_clamp (by omega)]
  exact br_f hs K
theorem cf_yre {v' : SY} (hco : co < 4) (ht : t < 4) (ed : dp co = nI (t + 1)) (hs : s co = 1) {i n : Nat} (hi : i < 4) (hf : f < 3) (efn : fn (co * 4 + t) = nI f) (eta : ta (co * 4 + t) = pl) (hpast : ¬ pl < 0 → ¬ pl < z f) (H : ∀ post : SY → Prop, post v' → wpY_back post (z, o, g, c, s, vl, dn, dp, fn, ta, gt, rr) (nI co) 0) {post : SY → Prop} (K : cf_WY post n (nI co) (nI (i + 1)) v') : cf_WY post (n + 1) (nI co) (nI i) (z, o, g, c, s, vl, dn, dp, fn, ta, gt, rr) := by
  obtain ⟨u1, u2, u3, u4, u5, u6, u7, u8, u9, u10, u11, u12⟩ := v'
  have hin : vp_in (nI co) 4 := vp_in_nI hco (by omega)
  have e : (nI co).toNatClampNeg = co := nI_clamp (by omega)
  have eq : (nI (co * 4 + t)).toNatClampNeg = co * 4 + t := nI_clamp (by omega)
  have hq : vp_in (nI (co * 4 + t)) 16 := vp_in_nI (by omega) (by omega)
  have ecf : (nI f).toNatClampNeg = f := nI_clamp (by omega)
  have h68 : wY_fallOff_68 post (wY_fallOff_2 post (nI co) n) (nI co) (nI i) z o g c s vl dn dp fn ta gt rr := by
    unfold wY_fallOff_68
    exact H _ (fun y ey => by rw [ey, nI_1]; exact K)
  unfold cf_WY
  dsimp only
  rw [wY_fallOff_2]
  simp only [e, ed, cf_i4, cf_top, eq, efn, eta, ecf]
  refine br_f (nI_ge (b := 4) (by omega) (by omega)) ⟨hin, br_t hs ⟨hin, br_f (nI_nle (by omega) (by omega)) ⟨hin, nm_e ?_⟩⟩⟩
  rw [eq, eta, efn, ecf]
  exact ⟨hq, br_c (fun _ => h68) (fun n0 => ⟨hq, hq, vp_in_nI hf (by omega), br_f (hpast n0) h68⟩)⟩
theorem cf_yid (hco : co < 4) (ht : t < 4) (ed : dp co = nI (t + 1)) (hs : s co = 1) (hf : f < 3) (efn : fn (co * 4 + t) = nI f) (eta : ta (co * 4 + t) = pl) (h0 : ¬ pl < 0) (h1 : pl < z f) {post : SY → Prop} (K : post (z, o, g, c, s, vl, dn, dp, fn, ta, gt, rr)) : ∀ m i, i + m = 4 → cf_WY post (m + 1) (nI co) (nI i) (z, o, g, c, s, vl, dn, dp, fn, ta, gt, rr) := by
  have hin : vp_in (nI co) 4 := vp_in_nI hco (by omega)
  have e : (nI co).toNatClampNeg = co := nI_clamp (by omega)
  have eq : (nI (co * 4 + t)).toNatClampNeg = co * 4 + t := nI_clamp (by omega)
  have hq : vp_in (nI (co * 4 + t)) 16 := vp_in_nI (by omega) (by omega)
  have ecf : (nI f).toNatClampNeg = f := nI_clamp (by omega)
  intro m
  induction m with
  | zero =>
    intro i hi
    unfold cf_WY
    dsimp only
    rw [wY_fallOff_2]
    exact br_t (nI_le (a := 4) (by omega) (by omega)) K
  | succ m ih =>
    intro i hi
    have hn := ih (i + 1) (by omega)
    unfold cf_WY at hn ⊢
    dsimp only at hn ⊢
    rw [wY_fallOff_2]
    simp only [e, ed, cf_i4, cf_top, eq, efn, eta, ecf]
    refine br_f (nI_ge (b := 4) (by omega) (by omega)) ⟨hin, br_t hs ⟨hin, br_f (nI_nle (by omega) (by omega)) ⟨hin, nm_e ?_⟩⟩⟩
    rw [eq, eta, efn, ecf, nI_1]
    exact ⟨hq, br_f h0 ⟨hq, hq, vp_in_nI hf (by omega), br_t h1 (nm_e hn)⟩⟩
theorem cf_yis (hco : co < 4) (hs : s co ≠ 1) {post : SY → Prop} (K : post (z, o, g, c, s, vl, dn, dp, fn, ta, gt, rr)) : ∀ m i, i + m = 4 → cf_WY post (m + 1) (nI co) (nI i) (z, o, g, c, s, vl, dn, dp, fn, ta, gt, rr) := by
  have hin : vp_in (nI co) 4 := vp_in_nI hco (by omega)
  have e : (nI co).toNatClampNeg = co := nI_clamp (by omega)
  intro m
  induction m with
  | zero =>
    intro i hi
    unfold cf_WY
    dsimp only
    rw [wY_fallOff_2]
    exact br_t (nI_le (a := 4) (by omega) (by omega)) K
  | succ m ih =>
    intro i hi
    have hn := ih (i + 1) (by omega)
    unfold cf_WY at hn ⊢
    dsimp only at hn ⊢
    rw [wY_fallOff_2]
    refine br_f (nI_ge (b := 4) (by omega) (by omega)) ⟨hin, ?_⟩
    rw [e]
    refine br_f hs (fun y ey => ?_)
    rw [ey, nI_1]
    exact hn
end
def cf_fo (co k m i : Nat) (u : SX) (v : SY) : Prop := ∃ (u' : SX) (v' : SY), cf_go co k u' v' ∧ (∀ post : SX → Prop, post u' → cf_WX post (m + 1) (nI co) (nI i) u) ∧ (∀ post : SY → Prop, post v' → cf_WY post (m + 1) (nI co) (nI i) v)
theorem cf_foS {co k : Nat} {u : SX} {v : SY} (H : cf_stp co k u v) {m i : Nat} (hm : i + m = 4) : cf_fo co k m i u v := by
  refine ⟨u, v, Or.inr H, ?_, ?_⟩
  · refine cf_stp_el (P := fun u v => ∀ post : SX → Prop, post u → cf_WX post (m + 1) (nI co) (nI i) u) ?_ H
    intro an fu pl z o g c rd s vl dn dp ff fp pk rg fn ta gt rr R n5 n1 hco post hp
    exact cf_xst hco n5 hp
  · refine cf_stp_el (P := fun u v => ∀ post : SY → Prop, post v → cf_WY post (m + 1) (nI co) (nI i) v) ?_ H
    intro an fu pl z o g c rd s vl dn dp ff fp pk rg fn ta gt rr R n5 n1 hco post hp
    exact cf_yis hco n1 hp m i hm
theorem cf_foR {co k : Nat} : ∀ t {u : SX} {v : SY} (m i : Nat), i + m = 4 → t < m → cf_run co k t u v → cf_fo co k m i u v := by
  intro t
  induction t with
  | zero =>
    intro u v m i hm htm H
    refine cf_run_el (P := fun u v => cf_fo co k m i u v) ?_ H
    intro an fu pl z o g c rd s vl dn dp ff fp pk rg fn ta gt rr M
    have M0 := M
    obtain ⟨hco, ht, ed, han, hs, W, F, B, f, hf, ef, efn, eta, hL⟩ := M
    by_cases hin : ¬ pl < 0 ∧ pl < z f
    · obtain ⟨p, hp, ep⟩ := cf_zlt W hf hin.1 hin.2
      refine ⟨_, _, Or.inl ⟨0, cf_run_mk M0, f, p, hf, hp, ef, ep, by rw [← ep]; exact hin.2⟩, fun post h => cf_xex hco (by omega) ef hf hin.1 hin.2 h, fun post h => cf_yid hco ht ed hs hf efn eta hin.1 hin.2 h m i hm⟩
    · have hpast : ¬ pl < 0 → ¬ pl < z f := fun n0 n1 => hin ⟨n0, n1⟩
      obtain ⟨u1, v1, h1, h2, h3⟩ := cf_gb (k := k) (vl := vl) (dn := dn) (fu := fu) (pl := pl) (rg := rg) hco ht ed han hs W F B 0
      obtain ⟨m', rfl⟩ : ∃ m', m = m' + 1 := ⟨m - 1, by omega⟩
      rcases h1 with ⟨t', e, _⟩ | h1
      · exact absurd e (by omega)
      · obtain ⟨u2, v2, g1, g2, g3⟩ := cf_foS h1 (m := m') (i := i + 1) (by omega)
        exact ⟨u2, v2, g1, fun post h => cf_xre hco (by omega) ef hf hpast h2 (g2 post h), fun post h => cf_yre hco ht ed hs (by omega) hf efn eta hpast h3 (g3 post h)⟩
  | succ t ih =>
    intro u v m i hm htm H
    refine cf_run_el (P := fun u v => cf_fo co k m i u v) ?_ H
    intro an fu pl z o g c rd s vl dn dp ff fp pk rg fn ta gt rr M
    have M0 := M
    obtain ⟨hco, ht, ed, han, hs, W, F, B, f, hf, ef, efn, eta, hL⟩ := M
    by_cases hin : ¬ pl < 0 ∧ pl < z f
    · obtain ⟨p, hp, ep⟩ := cf_zlt W hf hin.1 hin.2
      refine ⟨_, _, Or.inl ⟨t + 1, cf_run_mk M0, f, p, hf, hp, ef, ep, by rw [← ep]; exact hin.2⟩, fun post h => cf_xex hco (by omega) ef hf hin.1 hin.2 h, fun post h => cf_yid hco ht ed hs hf efn eta hin.1 hin.2 h m i hm⟩
    · have hpast : ¬ pl < 0 → ¬ pl < z f := fun n0 n1 => hin ⟨n0, n1⟩
      obtain ⟨u1, v1, h1, h2, h3⟩ := cf_gb (k := k) (vl := vl) (dn := dn) (fu := fu) (pl := pl) (rg := rg) hco ht ed han hs W F B 0
      obtain ⟨m', rfl⟩ : ∃ m', m = m' + 1 := ⟨m - 1, by omega⟩
      have hfo : cf_fo co k m' (i + 1) u1 v1 := by
        rcases h1 with ⟨t', e, hr⟩ | h1
        · have : t' = t := by omega
          subst this
          exact ih m' (i + 1) (by omega) (by omega) hr
        · exact cf_foS h1 (by omega)
      obtain ⟨u2, v2, g1, g2, g3⟩ := hfo
      exact ⟨u2, v2, g1, fun post h => cf_xre hco (by omega) ef hf hpast h2 (g2 post h), fun post h => cf_yre hco ht ed hs (by omega) hf efn eta hpast h3 (g3 post h)⟩
theorem cf_run_t {co k t : Nat} {u : SX} {v : SY} (H : cf_run co k t u v) : t < 4 := by
  refine cf_run_el (P := fun u v => t < 4) ?_ H
  intro an fu pl z o g c rd s vl dn dp ff fp pk rg fn ta gt rr M
  exact M.2.1
theorem cf_fall {co k : Nat} {u : SX} {v : SY} (H : cf_out co k u v) : ∃ (u' : SX) (v' : SY), cf_go co k u' v' ∧ (∀ post : SX → Prop, post u' → wpX_returnAtEnd post u (nI co)) ∧ (∀ post : SY → Prop, post v' → wpY_fallOff post v (nI co)) := by
  have h : cf_fo co k 4 0 u v := by
    rcases H with ⟨t, H⟩ | H
    · exact cf_foR t 4 0 rfl (cf_run_t H) H
    · exact cf_foS H rfl
  obtain ⟨u', v', h1, h2, h3⟩ := h
  refine ⟨u', v', h1, fun post hp => ?_, fun post hp => ?_⟩
  · obtain ⟨u1, u2, u3, u4, u5, u6, u7, u8, u9, u10, u11, u12, u13, u14, u15, u16, u17⟩ := u
    unfold wpX_returnAtEnd
    exact ⟨5, h2 post hp⟩
  · obtain ⟨u1, u2, u3, u4, u5, u6, u7, u8, u9, u10, u11, u12⟩ := v
    unfold wpY_fallOff
    exact ⟨5, h3 post hp⟩
end
section
/-! carryOn against the loop of resume; goOn against resume -/
/-- the state's entry for co is r -/
def cf_st (co : Nat) (r : Int32) (u : SX) : Prop := match u with
  | (an, fu, pl, z, o, A, B, c, rd, s, vl, dn, dp, ff, fp, pk, rg) => s co = r
def cf_bump (co : Nat) (v : SY) : SY := match v with
  | (z, o, g, c, s, vl, dn, dp, fn, ta, gt, rr) => (z, o, g, c, s, vl, upd dn co (dn co + 1), dp, fn, ta, gt, rr)
theorem cf_go_bump {co k : Nat} {u : SX} {v : SY} (H : cf_go co k u v) : cf_go co (k + 1) u (cf_bump co v) := by
  rcases H with ⟨t, H, hi⟩ | H
  · refine Or.inl ⟨t, ?_, hi⟩
    refine cf_run_el (P := fun u v => cf_run co (k + 1) t u (cf_bump co v)) ?_ H
    intro an fu pl z o g c rd s vl dn dp ff fp pk rg fn ta gt rr M
    have e : upd (upd dn co (nI k)) co (upd dn co (nI k) co + 1) = upd dn co (nI (k + 1)) := by rw [pk_us, cf_uu, nI_1]
    unfold cf_bump
    dsimp only
    rw [e]
    exact cf_run_mk M
  · refine Or.inr ?_
    refine cf_stp_el (P := fun u v => cf_stp co (k + 1) u (cf_bump co v)) ?_ H
    intro an fu pl z o g c rd s vl dn dp ff fp pk rg fn ta gt rr R n5 n1 hco
    have e : upd (upd dn co (nI k)) co (upd dn co (nI k) co + 1) = upd dn co (nI (k + 1)) := by rw [pk_us, cf_uu, nI_1]
    unfold cf_bump
    dsimp only
    rw [e]
    exact cf_stp_mk R n5 n1 hco
section
variable {an fu pl : Int32} {z o g c rd s vl dn dp ff fp pk rg fn ta gt rr : Nat → Int32} {co k n : Nat}
theorem cf_vxs {u1 u2 : SX} (hco : co < 4) (hk : k < 80) (h5 : s co = 5) (H1 : ∀ post : SX → Prop, post u1 → wpX_perform post (an, fu, pl, z, o, cf_ra g, cf_rb g, c, rd, s, vl, dn, dp, ff, fp, pk, rg) (nI co)) (H2 : ∀ post : SX → Prop, post u2 → wpX_returnAtEnd post u1 (nI co)) {post : SX → Prop} (K : cf_VX post n (nI co) (nI (k + 1)) u2) : cf_VX post (n + 1) (nI co) (nI k) (an, fu, pl, z, o, cf_ra g, cf_rb g, c, rd, s, vl, dn, dp, ff, fp, pk, rg) := by
  obtain ⟨a1, a2, a3, a4, a5, a6, a7, a8, a9, a10, a11, a12, a13, a14, a15, a16, a17⟩ := u1
  obtain ⟨b1, b2, b3, b4, b5, b6, b7, b8, b9, b10, b11, b12, b13, b14, b15, b16, b17⟩ := u2
  unfold cf_VX
  dsimp only
  rw [wX_carryOn_21]
  refine br_f (nI_ge (b := 80) (by omega) (by omega)) ⟨vp_in_nI hco (by omega), ?_⟩
  rw [nI_clamp (by omega)]
  refine br_t h5 (H1 _ ?_)
  intro y ey
  refine H2 _ ?_
  rw [ey, nI_1]
  exact K
theorem cf_vxe (hco : co < 4) (hk : k ≤ 80) (h5 : s co ≠ 5) {post : SX → Prop} (K : post (an, fu, pl, z, o, cf_ra g, cf_rb g, c, rd, s, vl, upd dn co (nI k), dp, ff, fp, pk, rg)) : cf_VX post (n + 1) (nI co) (nI k) (an, fu, pl, z, o, cf_ra g, cf_rb g, c, rd, s, vl, dn, dp, ff, fp, pk, rg) := by
  have hin : vp_in (nI co) 4 := vp_in_nI hco (by omega)
  have e : (nI co).toNatClampNeg = co := nI_clamp (by omega)
  have h53 : wX_carryOn_53 post (nI co) (nI k) an fu pl z o (cf_ra g) (cf_rb g) c rd s vl dn dp ff fp pk rg := by
    unfold wX_carryOn_53
    simp only [e]
    exact ⟨hin, br_f h5 ⟨hin, nm_e K⟩⟩
  unfold cf_VX
  dsimp only
  rw [wX_carryOn_21]
  refine br_c (fun _ => h53) (fun _ => ⟨hin, ?_⟩)
  rw [e]
  exact br_f h5 h53
theorem cf_vx80 (hco : co < 4) (h5 : s co = 5) {post : SX → Prop} (K : post (an, fu, pl, z, o, cf_ra g, cf_rb g, c, rd, upd s co 4, upd vl co 0, upd dn co (nI 80), upd dp co 0, ff, fp, pk, rg)) : cf_VX post (n + 1) (nI co) (nI 80) (an, fu, pl, z, o, cf_ra g, cf_rb g, c, rd, s, vl, dn, dp, ff, fp, pk, rg) := by
  have hin : vp_in (nI co) 4 := vp_in_nI hco (by omega)
  have e : (nI co).toNatClampNeg = co := nI_clamp (by omega)
  unfold cf_VX
  dsimp only
  rw [wX_carryOn_21]
  refine br_t (nI_le (a := 80) (by omega) (by omega)) ?_
  unfold wX_carryOn_53
  simp only [e]
  exact ⟨hin, br_t h5 (cf_xfin hco ⟨hin, nm_e K⟩)⟩
theorem cf_vys {v1 v2 : SY} (hco : co < 4) (hk : k < 80) (h1 : s co = 1) (H1 : ∀ post : SY → Prop, post v1 → wpY_carryOut post (z, o, g, c, s, vl, dn, dp, fn, ta, gt, rr) (nI co)) (H2 : ∀ post : SY → Prop, post v2 → wpY_fallOff post v1 (nI co)) {post : Int32 → SY → Prop} (K : cf_VY post n (nI co) (nI (k + 1)) (cf_bump co v2)) : cf_VY post (n + 1) (nI co) (nI k) (z, o, g, c, s, vl, dn, dp, fn, ta, gt, rr) := by
  have hin : vp_in (nI co) 4 := vp_in_nI hco (by omega)
  have e : (nI co).toNatClampNeg = co := nI_clamp (by omega)
  obtain ⟨a1, a2, a3, a4, a5, a6, a7, a8, a9, a10, a11, a12⟩ := v1
  obtain ⟨b1, b2, b3, b4, b5, b6, b7, b8, b9, b10, b11, b12⟩ := v2
  unfold cf_VY
  dsimp only
  rw [wY_resume_100]
  simp only [e]
  refine br_f (nI_ge (b := 80) (by omega) (by omega)) ⟨hin, br_t h1 (H1 _ (H2 _ ⟨hin, hin, nm_e ?_⟩))⟩
  intro y ey
  rw [ey, nI_1]
  exact K
theorem cf_vye (hco : co < 4) (h1 : s co ≠ 1) {post : Int32 → SY → Prop} (K : post (s co) (z, o, g, c, s, vl, dn, dp, fn, ta, gt, rr)) : ∀ m k, k + m = 80 → cf_VY post (m + 1) (nI co) (nI k) (z, o, g, c, s, vl, dn, dp, fn, ta, gt, rr) := by
  have hin : vp_in (nI co) 4 := vp_in_nI hco (by omega)
  have e : (nI co).toNatClampNeg = co := nI_clamp (by omega)
  intro m
  induction m with
  | zero =>
    intro k hk
    unfold cf_VY
    dsimp only
    rw [wY_resume_100]
    simp only [e]
    exact br_t (nI_le (a := 80) (by omega) (by omega)) ⟨hin, br_f h1 ⟨hin, K⟩⟩
  | succ m ih =>
    intro k hk
    have hn := ih (k + 1) (by omega)
    unfold cf_VY at hn ⊢
    dsimp only at hn ⊢
    rw [wY_resume_100]
    simp only [e]
    refine br_f (nI_ge (b := 80) (by omega) (by omega)) ⟨hin, br_f h1 (fun y ey => ?_)⟩
    rw [ey, nI_1]
    exact hn
theorem cf_vy80 (hco : co < 4) (h1 : s co = 1) {post : Int32 → SY → Prop} (K : post 4 (z, o, g, c, upd s co 4, upd vl co 0, dn, upd dp co 0, fn, ta, gt, rr)) : cf_VY post (n + 1) (nI co) (nI 80) (z, o, g, c, s, vl, dn, dp, fn, ta, gt, rr) := by
  have hin : vp_in (nI co) 4 := vp_in_nI hco (by omega)
  have e : (nI co).toNatClampNeg = co := nI_clamp (by omega)
  unfold cf_VY
  dsimp only
  rw [wY_resume_100]
  simp only [e]
  refine br_t (nI_le (a := 80) (by omega) (by omega)) ⟨hin, br_t h1 (cf_yend hco ⟨hin, ?_⟩)⟩
  dsimp only
  rw [pk_us]
  exact K
end
def cf_ends (co k m : Nat) (u : SX) (v : SY) : Prop := ∃ (r : Int32) (u' : SX) (v' : SY), i_Rel 0 u' v' ∧ cf_st co r u' ∧ (∀ post : SX → Prop, post u' → cf_VX post (m + 1) (nI co) (nI k) u) ∧ (∀ post : Int32 → SY → Prop, post r v' → cf_VY post (m + 1) (nI co) (nI k) v)
theorem cf_endS {co k m : Nat} (hk : k + m = 80) {u : SX} {v : SY} (H : cf_stp co k u v) : cf_ends co k m u v := by
  refine cf_stp_el (P := fun u v => cf_ends co k m u v) ?_ H
  intro an fu pl z o g c rd s vl dn dp ff fp pk rg fn ta gt rr R n5 n1 hco
  exact ⟨s co, (an, fu, pl, z, o, cf_ra g, cf_rb g, c, rd, s, vl, upd dn co (nI k), dp, ff, fp, pk, rg), (z, o, g, c, s, vl, upd dn co (nI k), dp, fn, ta, gt, rr), cf_mk R 0, rfl, fun post h => cf_vxe hco (by omega) n5 h, fun post h => cf_vye hco n1 h m k hk⟩
theorem cf_loop {co : Nat} : ∀ m k, k + m = 80 → ∀ (u : SX) (v : SY), cf_go co k u v → cf_ends co k m u v := by
  intro m
  induction m with
  | zero =>
    intro k hk u v H
    rcases H with ⟨t, H, _⟩ | H
    · refine cf_run_el (P := fun u v => cf_ends co k 0 u v) ?_ H
      intro an fu pl z o g c rd s vl dn dp ff fp pk rg fn ta gt rr M
      obtain ⟨hco, ht, ed, han, hs, W, F, B, T⟩ := M
      have : k = 80 := by omega
      subst this
      refine ⟨4, (an, fu, pl, z, o, cf_ra g, cf_rb g, c, rd, upd s co 4, upd vl co 0, upd dn co (nI 80), upd dp co 0, ff, fp, pk, rg), (z, o, g, c, upd s co 4, upd vl co 0, upd dn co (nI 80), upd dp co 0, fn, ta, gt, rr), cf_mk (cf_stopR (by decide) (by decide) W F B) 0, pk_us, fun post h => cf_vx80 hco pk_us ?_, fun post h => cf_vy80 hco hs h⟩
      rw [cf_uu]
      exact h
    · exact cf_endS hk H
  | succ m ih =>
    intro k hk u v H
    rcases H with ⟨t, H, hi⟩ | H
    · obtain ⟨u1, v1, a1, a2, a3⟩ := cf_step H hi
      obtain ⟨u2, v2, b1, b2, b3⟩ := cf_fall a1
      obtain ⟨r, u3, v3, c1, c2, c3, c4⟩ := ih (k + 1) (by omega) u2 (cf_bump co v2) (cf_go_bump b1)
      refine ⟨r, u3, v3, c1, c2, ?_, ?_⟩
      · refine cf_run_el (P := fun u v => (∀ post : SX → Prop, post u1 → wpX_perform post u (nI co)) → ∀ post : SX → Prop, post u3 → cf_VX post (m + 1 + 1) (nI co) (nI k) u) ?_ H a2
        intro an fu pl z o g c rd s vl dn dp ff fp pk rg fn ta gt rr M a2 post h
        exact cf_vxs M.1 (by omega) pk_us a2 b2 (c3 post h)
      · refine cf_run_el (P := fun u v => (∀ post : SY → Prop, post v1 → wpY_carryOut post v (nI co)) → ∀ post : Int32 → SY → Prop, post r v3 → cf_VY post (m + 1 + 1) (nI co) (nI k) v) ?_ H a3
        intro an fu pl z o g c rd s vl dn dp ff fp pk rg fn ta gt rr M a3 post h
        exact cf_vys M.1 (by omega) M.2.2.2.2.1 a3 b3 (c4 post h)
    · exact cf_endS hk H
section
variable {an fu pl : Int32} {z o g c rd s vl dn dp ff fp pk rg fn ta gt rr : Nat → Int32} {co t : Nat}
theorem cf_carry (M : cf_M co t an z o g c rd (upd s co 1) dp ff fp pk fn ta gt rr rg fu pl) : ∃ (r : Int32) (u' : SX) (v' : SY), i_Rel 0 u' v' ∧ cf_st co r u' ∧ (∀ post : SX → Prop, post u' → wpX_carryOn post (an, fu, pl, z, o, cf_ra g, cf_rb g, c, rd, s, vl, dn, dp, ff, fp, pk, rg) (nI co)) ∧ (∀ post : Int32 → SY → Prop, post r v' → wY_resume_72 post (nI co) z o g c s vl dn dp fn ta gt rr) := by
  have H : cf_run co 0 t (an, fu, pl, z, o, cf_ra g, cf_rb g, c, rd, upd (upd s co 1) co 5, upd vl co 0, dn, dp, ff, fp, pk, rg) (z, o, g, c, upd s co 1, upd vl co 0, upd dn co (nI 0), dp, fn, ta, gt, rr) := cf_run_mk M
  rw [cf_uu] at H
  have hco := M.1
  have hin : vp_in (nI co) 4 := vp_in_nI hco (by omega)
  have e : (nI co).toNatClampNeg = co := nI_clamp (by omega)
  obtain ⟨u1, v1, a1, a2, a3⟩ := cf_fall (Or.inl ⟨t, H⟩)
  obtain ⟨r, u2, v2, b1, b2, b3, b4⟩ := cf_loop 80 0 rfl u1 v1 a1
  refine ⟨r, u2, v2, b1, b2, fun post h => ?_, fun post h => ?_⟩
  · have h3 := b3 post h
    obtain ⟨p1, p2, p3, p4, p5, p6, p7, p8, p9, p10, p11, p12, p13, p14, p15, p16, p17⟩ := u1
    unfold wpX_carryOn
    simp only [e]
    exact ⟨hin, nm_e ⟨hin, nm_e (a2 _ ⟨81, h3⟩)⟩⟩
  · have h4 := b4 post h
    obtain ⟨p1, p2, p3, p4, p5, p6, p7, p8, p9, p10, p11, p12⟩ := v1
    unfold wY_resume_72
    simp only [e]
    exact ⟨hin, nm_e ⟨hin, nm_e ⟨hin, nm_e (a3 _ ⟨81, h4⟩)⟩⟩⟩
end
end
section
/-! goOn against resume -/
theorem cf_xbad0 {co : Nat} (hco : co < 4) {post : Int32 → Prop} (h : post 0) : wpX_bad post (nI co) := by
  unfold wpX_bad
  exact br_f (nI_pos (by omega)) (br_t (nI_le (b := 3) (by omega) (by omega)) h)
theorem cf_ybad0 {v : SY} {co : Nat} (hco : co < 4) {post : Int32 → Prop} (h : post 0) : wpY_badCo post v (nI co) := by
  obtain ⟨u1, u2, u3, u4, u5, u6, u7, u8, u9, u10, u11, u12⟩ := v
  unfold wpY_badCo
  exact br_f (nI_pos (by omega)) (br_t (nI_le (b := 3) (by omega) (by omega)) h)
section
variable {an fu pl : Int32} {z o g c rd s vl dn dp ff fp pk rg fn ta gt rr : Nat → Int32} {co : Nat}
theorem cf_R_an {an' : Int32} {rd' : Nat → Int32} (h1 : an' ≠ 0) (h2 : cf_Fix z o g c rd') (h3 : an ≠ 0 → rd' = rd) (R : cf_R an z o g c rd s dp ff fp pk fn ta gt rr) : cf_R an' z o g c rd' s dp ff fp pk fn ta gt rr := by
  refine ⟨R.1, fun _ => h2, fun i hi => ⟨(R.2.2 i hi).1, fun e => ?_⟩⟩
  obtain ⟨n, t, a1, a2, a3, a4⟩ := (R.2.2 i hi).2 e
  rw [h3 n]
  exact ⟨h1, t, a1, a2, a3, a4⟩
theorem cf_go1 (hco : co < 4) (R : cf_R an z o g c rd s dp ff fp pk fn ta gt rr) (hs : s co = 1) (val : Int32) : ∃ (r : Int32) (u' : SX) (v' : SY), i_Rel 0 u' v' ∧ cf_st co r u' ∧ (∀ post : Int32 → SX → Prop, post r u' → wpX_goOn post (an, fu, pl, z, o, cf_ra g, cf_rb g, c, rd, s, vl, dn, dp, ff, fp, pk, rg) (nI co) val) ∧ (∀ post : Int32 → SY → Prop, post r v' → wpY_resume post (z, o, g, c, s, vl, dn, dp, fn, ta, gt, rr) (nI co) val) := by
  have hin : vp_in (nI co) 4 := vp_in_nI hco (by omega)
  have e : (nI co).toNatClampNeg = co := nI_clamp (by omega)
  obtain ⟨an', rd', b1, b2, b3, b4⟩ := cf_xan (an := an) (fu := fu) (pl := pl) (z := z) (o := o) (g := g) (c := c) (rd := rd) (s := s) (vl := vl) (dn := dn) (dp := dp) (ff := ff) (fp := fp) (pk := pk) (rg := rg) R.1 R.2.1
  have R' := cf_R_an b1 b2 b3 R
  obtain ⟨W, _, C⟩ := R'
  obtain ⟨a1, f, a2, a3, a4, a5, a6, a7, a8, a9, a10⟩ := (C co hco).1 hs
  obtain ⟨rg', ⟨y0, y1, y2, y3⟩, x⟩ := cf_xunF (an := an') (fu := fu) (pl := pl) (z := z) (o := o) (g := g) (c := c) (rd := rd') (s := s) (vl := vl) (dn := dn) (dp := dp) (ff := ff) (fp := fp) (pk := pk) (rg := rg) (co := co) (j := 0) (f := f) hco (by omega) a3 a5
  have B : cf_B co 0 an' z o g rd' (upd s co 1) dp ff fp pk fn ta gt rr := by
    refine ⟨fun i hi hne => ?_, fun j hj => absurd hj (Nat.not_lt_zero _)⟩
    rw [pk_un hne]
    exact C i hi
  have M : cf_M co 0 an' z o g c rd' (upd s co 1) dp ff fp pk fn ta gt rr rg' (nI f) 0 := by
    refine ⟨hco, by omega, a1, b1, pk_us, W, b2, B, f, a2, rfl, a4, a6, fun r hr _ => ?_⟩
    exact cf_four (P := fun r => rg' r = rr ((co * 4 + 0) * 4 + r)) ⟨y0.trans a7, y1.trans a8.symm, y2.trans a9.symm, y3.trans a10.symm⟩ r hr
  obtain ⟨r, u', v', c1, c2, c3, c4⟩ := cf_carry (vl := vl) (dn := dn) M
  obtain ⟨q1, q2, q3, q4, q5, q6, q7, q8, q9, q10, q11, q12, q13, q14, q15, q16, q17⟩ := u'
  have c2' : q10 co = r := c2
  refine ⟨r, _, v', c1, c2, fun post h => ?_, fun post h => ?_⟩
  · unfold wpX_goOn
    dsimp only
    refine b4 _ ?_
    dsimp only
    rw [e, a1, show nI 1 - 1 = nI 0 from nI_pred 0]
    refine ⟨hin, x _ ?_⟩
    dsimp only
    refine ⟨hin, br_f (by rw [hs]; decide) ?_⟩
    unfold wX_goOn_50
    refine nm_r (e' := 0) (by decide) (c3 _ ?_)
    dsimp only
    rw [e, c2']
    exact ⟨hin, h⟩
  · unfold wpY_resume
    dsimp only
    refine cf_ybad0 hco (br_t rfl ⟨hin, ?_⟩)
    rw [e]
    refine br_t hs ?_
    unfold wY_resume_33
    rw [e]
    exact ⟨hin, br_f (by rw [hs]; decide) (c4 post h)⟩
theorem cf_go2 (hco : co < 4) (R : cf_R an z o g c rd s dp ff fp pk fn ta gt rr) (hs : s co = 2) (val : Int32) : ∃ (r : Int32) (u' : SX) (v' : SY), i_Rel 0 u' v' ∧ cf_st co r u' ∧ (∀ post : Int32 → SX → Prop, post r u' → wpX_goOn post (an, fu, pl, z, o, cf_ra g, cf_rb g, c, rd, s, vl, dn, dp, ff, fp, pk, rg) (nI co) val) ∧ (∀ post : Int32 → SY → Prop, post r v' → wpY_resume post (z, o, g, c, s, vl, dn, dp, fn, ta, gt, rr) (nI co) val) := by
  have hin : vp_in (nI co) 4 := vp_in_nI hco (by omega)
  have e : (nI co).toNatClampNeg = co := nI_clamp (by omega)
  obtain ⟨an', rd', b1, b2, b3, b4⟩ := cf_xan (an := an) (fu := fu) (pl := pl) (z := z) (o := o) (g := g) (c := c) (rd := rd) (s := s) (vl := vl) (dn := dn) (dp := dp) (ff := ff) (fp := fp) (pk := pk) (rg := rg) R.1 R.2.1
  have R' := cf_R_an b1 b2 b3 R
  obtain ⟨W, _, C⟩ := R'
  obtain ⟨_, t, ht, ed, w6, f, p, h1, h2, h3, h4, h5, h6, h7, h8, h9, h10⟩ := (C co hco).2 hs
  obtain ⟨b, hb, eb⟩ := cf_rbE g (f * 8 + p)
  have ew : cf_w o g (f * 8 + p) = nI b := by
    unfold cf_w
    rw [if_pos h4]
    exact eb
  obtain ⟨rg', y, x⟩ := cf_xunW (an := an') (fu := fu) (pl := pl) (z := z) (o := o) (g := g) (c := c) (rd := rd') (s := s) (vl := vl) (dn := dn) (dp := dp) (ff := ff) (fp := fp) (pk := pk) (rg := rg) W hco ht h1 h2 h5 h7
  have B : cf_B co t an' z o g rd' (upd s co 1) dp ff fp pk fn ta gt (upd rr ((co * 4 + t) * 4 + b) val) := by
    refine cf_B_keep (ff := ff) (fp := fp) (pk := pk) (fn := fn) (ta := ta) (gt := gt) (rr := rr) (s := s) (dp := dp) ?_ ht (fun i hi => pk_un hi) (fun _ _ => rfl) ⟨fun i hi _ => C i hi, w6⟩
    exact fun q (hq : q ≠ co * 4 + t) => ⟨rfl, rfl, rfl, rfl, rfl, fun r hr => ⟨rfl, pk_un (by omega)⟩⟩
  have M : cf_M co t an' z o g c rd' (upd s co 1) dp ff fp pk fn ta gt (upd rr ((co * 4 + t) * 4 + b) val) (upd rg' b val) (nI f) (nI (p + 1)) :=
    ⟨hco, ht, ed, b1, pk_us, W, b2, B, f, h1, rfl, h6, h8, cf_take hb ew h10 y val⟩
  obtain ⟨r, u', v', c1, c2, c3, c4⟩ := cf_carry (vl := vl) (dn := dn) M
  obtain ⟨q1, q2, q3, q4, q5, q6, q7, q8, q9, q10, q11, q12, q13, q14, q15, q16, q17⟩ := u'
  have c2' : q10 co = r := c2
  have e8 : (nI (f * 8 + p)).toNatClampNeg = f * 8 + p := nI_clamp (by omega)
  have i8 : vp_in (nI (f * 8 + p)) 24 := vp_in_nI (by omega) (by omega)
  refine ⟨r, _, v', c1, c2, fun post h => ?_, fun post h => ?_⟩
  · unfold wpX_goOn
    dsimp only
    refine b4 _ ?_
    dsimp only
    rw [e, ed, show nI (t + 1) - 1 = nI t from nI_pred t]
    refine ⟨hin, x _ ?_⟩
    dsimp only
    rw [cf_i8, e8, eb, nI_clamp (n := b) (by omega)]
    refine ⟨hin, br_t hs ⟨i8, vp_in_nI hb (by omega), nm_e ?_⟩⟩
    unfold wX_goOn_50
    refine nm_r (nI_1 p) (c3 _ ?_)
    dsimp only
    rw [e, c2']
    exact ⟨hin, h⟩
  · unfold wpY_resume
    dsimp only
    refine cf_ybad0 hco (br_t rfl ⟨hin, ?_⟩)
    rw [e]
    refine br_f (by rw [hs]; decide) ⟨hin, br_t hs ?_⟩
    have eq : (nI (co * 4 + t)).toNatClampNeg = co * 4 + t := nI_clamp (by omega)
    have hq : vp_in (nI (co * 4 + t)) 16 := vp_in_nI (by omega) (by omega)
    unfold wY_resume_33
    simp only [e, ed, cf_i4, cf_top, forall_eq, eq, h9, ew]
    rw [nI_clamp (by omega)]
    exact ⟨hin, br_t hs ⟨hin, hq, vp_in_nI (by omega) (by omega), c4 post h⟩⟩
end
def cf_gos (co : Nat) (val : Int32) (u : SX) (v : SY) : Prop := ∃ (r : Int32) (u' : SX) (v' : SY), i_Rel 0 u' v' ∧ cf_st co r u' ∧ (∀ post : Int32 → SX → Prop, post r u' → wpX_goOn post u (nI co) val) ∧ (∀ post : Int32 → SY → Prop, post r v' → wpY_resume post v (nI co) val)
end
section
/-! echo -/
def cf_EX (post : Int32 → SX → Prop) (n : Nat) (x1 x3 x4 x5 : Int32) (u : SX) : Prop := match u with
  | (an, fu, pl, z, o, A, B, c, rd, s, vl, dn, dp, ff, fp, pk, rg) => wX_echo_41 post x1 x3 n x4 x5 an fu pl z o A B c rd s vl dn dp ff fp pk rg
def cf_EY (post : Int32 → SY → Prop) (n : Nat) (x1 x2 x3 x4 : Int32) (v : SY) : Prop := match v with
  | (z, o, g, c, s, vl, dn, dp, fn, ta, gt, rr) => wY_echo_28 post x1 x2 n x3 x4 z o g c s vl dn dp fn ta gt rr
def cf_eo (co m k : Nat) (x3 x2 sum : Int32) (u : SX) (v : SY) : Prop := ∃ (r : Int32) (u' : SX) (v' : SY), i_Rel 0 u' v' ∧ (∀ post : Int32 → SX → Prop, post r u' → cf_EX post (m + 1) (nI co) x3 sum (nI k) u) ∧ (∀ post : Int32 → SY → Prop, post r v' → cf_EY post (m + 1) (nI co) x2 sum (nI k) v)
theorem cf_eyi {z o g c s vl dn dp fn ta gt rr : Nat → Int32} {co : Nat} (hco : co < 4) {x2 sum : Int32} {post : Int32 → SY → Prop} (K : post sum (z, o, g, c, s, vl, dn, dp, fn, ta, gt, rr)) : ∀ m k, k + m = 20 → (x2 ≤ nI k ∨ s co ≠ 2) → cf_EY post (m + 1) (nI co) x2 sum (nI k) (z, o, g, c, s, vl, dn, dp, fn, ta, gt, rr) := by
  have hin : vp_in (nI co) 4 := vp_in_nI hco (by omega)
  have e : (nI co).toNatClampNeg = co := nI_clamp (by omega)
  intro m
  induction m with
  | zero =>
    intro k hk _
    unfold cf_EY
    dsimp only
    rw [wY_echo_28]
    exact br_t (nI_le (a := 20) (by omega) (by omega)) K
  | succ m ih =>
    intro k hk h
    have hn := ih (k + 1) (by omega) (h.imp (fun y => Int32.le_trans y (nI_le (by omega) (by omega))) id)
    unfold cf_EY at hn ⊢
    dsimp only at hn ⊢
    rw [wY_echo_28]
    refine br_f (nI_ge (b := 20) (by omega) (by omega)) (br_c (fun _ => nm_r (nI_1 k) hn) (fun n0 => ⟨hin, ?_⟩))
    rw [e]
    rcases h with h | h
    · exact absurd h n0
    · exact br_f h (nm_r (nI_1 k) hn)
theorem cf_exe {an fu pl : Int32} {z o g c rd s vl dn dp ff fp pk rg : Nat → Int32} {co n k : Nat} (hco : co < 4) {x3 sum : Int32} (h : x3 ≤ nI k ∨ s co ≠ 2) {post : Int32 → SX → Prop} (K : post sum (an, fu, pl, z, o, cf_ra g, cf_rb g, c, rd, s, vl, dn, dp, ff, fp, pk, rg)) : cf_EX post (n + 1) (nI co) x3 sum (nI k) (an, fu, pl, z, o, cf_ra g, cf_rb g, c, rd, s, vl, dn, dp, ff, fp, pk, rg) := by
  have hin : vp_in (nI co) 4 := vp_in_nI hco (by omega)
  have e : (nI co).toNatClampNeg = co := nI_clamp (by omega)
  unfold cf_EX
  dsimp only
  rw [wX_echo_41]
  refine br_c (fun _ => K) (fun n0 => ⟨hin, ?_⟩)
  rw [e]
  rcases h with h | h
  · exact absurd h n0
  · exact br_f h K
theorem cf_echo {co : Nat} (hco : co < 4) {x2 x3 : Int32} (hq : ∀ j, j < 20 → (x3 ≤ nI j ↔ x2 ≤ nI j)) (h20 : x3 ≤ nI 20) : ∀ m k, k + m = 20 → ∀ (u : SX) (v : SY) (sum : Int32), i_Rel 0 u v → cf_eo co m k x3 x2 sum u v := by
  have hin : vp_in (nI co) 4 := vp_in_nI hco (by omega)
  have e : (nI co).toNatClampNeg = co := nI_clamp (by omega)
  intro m
  induction m with
  | zero =>
    intro k hk u v sum I
    have : k = 20 := by omega
    subst this
    refine cf_el (P := fun u v => cf_eo co 0 20 x3 x2 sum u v) ?_ I
    intro an fu pl z o g c rd s vl dn dp ff fp pk rg fn ta gt rr R
    refine ⟨sum, _, _, cf_mk R 0, fun post h => cf_exe hco (Or.inl h20) h, fun post h => ?_⟩
    unfold cf_EY
    dsimp only
    rw [wY_echo_28]
    exact br_t (nI_le (a := 20) (by omega) (by omega)) h
  | succ m ih =>
    intro k hk u v sum I
    refine cf_el (P := fun u v => cf_eo co (m + 1) k x3 x2 sum u v) ?_ I
    intro an fu pl z o g c rd s vl dn dp ff fp pk rg fn ta gt rr R
    by_cases h3 : x3 ≤ nI k
    · exact ⟨sum, _, _, cf_mk R 0, fun post h => cf_exe hco (Or.inl h3) h, fun post h => cf_eyi hco h (m + 1) k hk (Or.inl ((hq k (by omega)).mp h3))⟩
    · by_cases hs : s co = 2
      · obtain ⟨r, u1, v1, c1, c2, c3, c4⟩ := cf_go2 (fu := fu) (pl := pl) (rg := rg) (vl := vl) (dn := dn) hco R hs (vl co)
        refine cf_el (P := fun u1 v1 => (∀ post : Int32 → SX → Prop, post r u1 → wpX_goOn post (an, fu, pl, z, o, cf_ra g, cf_rb g, c, rd, s, vl, dn, dp, ff, fp, pk, rg) (nI co) (vl co)) → (∀ post : Int32 → SY → Prop, post r v1 → wpY_resume post (z, o, g, c, s, vl, dn, dp, fn, ta, gt, rr) (nI co) (vl co)) → cf_eo co (m + 1) k x3 x2 sum (an, fu, pl, z, o, cf_ra g, cf_rb g, c, rd, s, vl, dn, dp, ff, fp, pk, rg) (z, o, g, c, s, vl, dn, dp, fn, ta, gt, rr)) ?_ c1 c3 c4
        intro anq fuq plq zq oq gq cq rdq sq vlq dnq dpq ffq fpq pkq rgq fnq taq gtq rrq Rq c3 c4
        obtain ⟨r2, u2, v2, d1, d2, d3⟩ := ih (k + 1) (by omega) _ _ (sum + vlq co) (cf_mk (fu := fuq) (pl := plq) (rg := rgq) (vl := vlq) (dn := dnq) Rq 0)
        refine ⟨r2, u2, v2, d1, fun post h => ?_, fun post h => ?_⟩
        · have d2' := d2 post h
          unfold cf_EX at d2' ⊢
          dsimp only at d2' ⊢
          rw [wX_echo_41]
          refine br_f h3 ⟨hin, ?_⟩
          rw [e]
          refine br_t hs ⟨hin, c3 _ ?_⟩
          dsimp only
          exact ⟨hin, nm_e (nm_r (nI_1 k) d2')⟩
        · have d3' := d3 post h
          unfold cf_EY at d3' ⊢
          dsimp only at d3' ⊢
          rw [wY_echo_28]
          refine br_f (nI_ge (b := 20) (by omega) (by omega)) (br_f (fun y => h3 ((hq k (by omega)).mpr y)) ⟨hin, ?_⟩)
          rw [e]
          refine br_t hs ⟨hin, c4 _ ?_⟩
          dsimp only
          exact ⟨hin, nm_e (nm_r (nI_1 k) d3')⟩
      · exact ⟨sum, _, _, cf_mk R 0, fun post h => cf_exe hco (Or.inr hs) h, fun post h => cf_eyi hco h (m + 1) k hk (Or.inr hs)⟩
end
section
/-! copy: cells of one array, then the four loops -/
def cf_cp4 (a b x : Nat) (f f' : Nat → Int32) : Prop := (∀ j, x ≤ j → j < 4 → f' (b * 4 + j) = f (a * 4 + j)) ∧ (∀ i, (i < b * 4 + x ∨ b * 4 + 4 ≤ i) → f' i = f i)
def cf_cp16 (a b x : Nat) (f f' : Nat → Int32) : Prop := (∀ j, x ≤ j → j < 16 → f' (b * 16 + j) = f (a * 16 + j)) ∧ (∀ i, (i < b * 16 + x ∨ b * 16 + 16 ≤ i) → f' i = f i)
theorem cf_cp4e (a b : Nat) (f : Nat → Int32) : cf_cp4 a b 4 f f := ⟨fun j h1 h2 => absurd h1 (by omega), fun _ _ => rfl⟩
theorem cf_cp16e (a b : Nat) (f : Nat → Int32) : cf_cp16 a b 16 f f := ⟨fun j h1 h2 => absurd h1 (by omega), fun _ _ => rfl⟩
theorem cf_cp4s {a b x : Nat} (hx : x < 4) {f f' : Nat → Int32} (h : cf_cp4 a b (x + 1) (upd f (b * 4 + x) (f (a * 4 + x))) f') : cf_cp4 a b x f f' := by
  refine ⟨fun j h1 h2 => ?_, fun i hi => ?_⟩
  · by_cases e : j = x
    · subst e
      rw [h.2 _ (by omega), pk_us]
    · rw [h.1 j (by omega) h2, pk_un (by omega)]
  · rw [h.2 i (by omega), pk_un (by omega)]
theorem cf_cp16s {a b x : Nat} (hx : x < 16) {f f' : Nat → Int32} (h : cf_cp16 a b (x + 1) (upd f (b * 16 + x) (f (a * 16 + x))) f') : cf_cp16 a b x f f' := by
  refine ⟨fun j h1 h2 => ?_, fun i hi => ?_⟩
  · by_cases e : j = x
    · subst e
      rw [h.2 _ (by omega), pk_us]
    · rw [h.1 j (by omega) h2, pk_un (by omega)]
  · rw [h.2 i (by omega), pk_un (by omega)]
section
variable {an fu pl : Int32} {z o g c rd s vl dn dp fn ta gt rr rg : Nat → Int32} {a b : Nat}
theorem cf_x66 {pk : Nat → Int32} (ha : a < 4) (hb : b < 4) : ∀ m x, x + m = 4 → ∀ ff fp : Nat → Int32, ∃ ff' fp' : Nat → Int32, cf_cp4 a b x ff ff' ∧ cf_cp4 a b x fp fp' ∧ ∀ post : Int32 → SX → Prop, wX_copy_66 post (nI a) (nI b) an fu pl 1 (nI 4) z o (cf_ra g) (cf_rb g) c rd s vl dn dp ff' fp' pk rg → wX_copy_66 post (nI a) (nI b) an fu pl (m + 1) (nI x) z o (cf_ra g) (cf_rb g) c rd s vl dn dp ff fp pk rg := by
  intro m
  induction m with
  | zero =>
    intro x hx ff fp
    have : x = 4 := by omega
    subst this
    exact ⟨ff, fp, cf_cp4e a b ff, cf_cp4e a b fp, fun post h => h⟩
  | succ m ih =>
    intro x hx ff fp
    obtain ⟨ff', fp', h1, h2, h3⟩ := ih (x + 1) (by omega) (upd ff (b * 4 + x) (ff (a * 4 + x))) (upd fp (b * 4 + x) (fp (a * 4 + x)))
    refine ⟨ff', fp', cf_cp4s (by omega) h1, cf_cp4s (by omega) h2, fun post h => ?_⟩
    have hn := h3 post h
    have ia : vp_in (nI (a * 4 + x)) 16 := vp_in_nI (by omega) (by omega)
    have ib : vp_in (nI (b * 4 + x)) 16 := vp_in_nI (by omega) (by omega)
    have ca : (nI (a * 4 + x)).toNatClampNeg = a * 4 + x := nI_clamp (by omega)
    have cb : (nI (b * 4 + x)).toNatClampNeg = b * 4 + x := nI_clamp (by omega)
    rw [wX_copy_66]
    simp only [cf_i4, ca, cb, nI_1]
    exact br_f (nI_ge (b := 4) (by omega) (by omega)) ⟨ia, ib, nm_e ⟨ia, ib, nm_e (nm_e hn)⟩⟩
theorem cf_x119 {ff fp : Nat → Int32} (ha : a < 4) (hb : b < 4) : ∀ m x, x + m = 16 → ∀ pk : Nat → Int32, ∃ pk' : Nat → Int32, cf_cp16 a b x pk pk' ∧ ∀ post : Int32 → SX → Prop, post (s b) (an, fu, pl, z, o, cf_ra g, cf_rb g, c, rd, s, vl, dn, dp, ff, fp, pk', rg) → wX_copy_119 post (nI a) (nI b) an fu pl (m + 1) (nI x) z o (cf_ra g) (cf_rb g) c rd s vl dn dp ff fp pk rg := by
  intro m
  induction m with
  | zero =>
    intro x hx pk
    have : x = 16 := by omega
    subst this
    refine ⟨pk, cf_cp16e a b pk, fun post h => ?_⟩
    rw [wX_copy_119]
    refine br_t (nI_le (a := 16) (by omega) (by omega)) ⟨vp_in_nI hb (by omega), ?_⟩
    rw [nI_clamp (by omega)]
    exact h
  | succ m ih =>
    intro x hx pk
    obtain ⟨pk', h1, h3⟩ := ih (x + 1) (by omega) (upd pk (b * 16 + x) (pk (a * 16 + x)))
    refine ⟨pk', cf_cp16s (by omega) h1, fun post h => ?_⟩
    have hn := h3 post h
    have ia : vp_in (nI (a * 16 + x)) 64 := vp_in_nI (by omega) (by omega)
    have ib : vp_in (nI (b * 16 + x)) 64 := vp_in_nI (by omega) (by omega)
    have ca : (nI (a * 16 + x)).toNatClampNeg = a * 16 + x := nI_clamp (by omega)
    have cb : (nI (b * 16 + x)).toNatClampNeg = b * 16 + x := nI_clamp (by omega)
    rw [wX_copy_119]
    simp only [cf_i16, ca, cb, nI_1]
    exact br_f (nI_ge (b := 16) (by omega) (by omega)) ⟨ia, ib, nm_e (nm_e hn)⟩
theorem cf_y141 (ha : a < 4) (hb : b < 4) : ∀ m x, x + m = 16 → ∀ rr : Nat → Int32, ∃ rr' : Nat → Int32, cf_cp16 a b x rr rr' ∧ ∀ post : Int32 → SY → Prop, post (s b) (z, o, g, c, s, vl, dn, dp, fn, ta, gt, rr') → wY_copy_141 post (nI a) (nI b) (m + 1) (nI x) z o g c s vl dn dp fn ta gt rr := by
  intro m
  induction m with
  | zero =>
    intro x hx rr
    have : x = 16 := by omega
    subst this
    refine ⟨rr, cf_cp16e a b rr, fun post h => ?_⟩
    rw [wY_copy_141]
    refine br_t (nI_le (a := 16) (by omega) (by omega)) ⟨vp_in_nI hb (by omega), ?_⟩
    rw [nI_clamp (by omega)]
    exact h
  | succ m ih =>
    intro x hx rr
    obtain ⟨rr', h1, h3⟩ := ih (x + 1) (by omega) (upd rr (b * 16 + x) (rr (a * 16 + x)))
    refine ⟨rr', cf_cp16s (by omega) h1, fun post h => ?_⟩
    have hn := h3 post h
    have ia : vp_in (nI (a * 16 + x)) 64 := vp_in_nI (by omega) (by omega)
    have ib : vp_in (nI (b * 16 + x)) 64 := vp_in_nI (by omega) (by omega)
    have ca : (nI (a * 16 + x)).toNatClampNeg = a * 16 + x := nI_clamp (by omega)
    have cb : (nI (b * 16 + x)).toNatClampNeg = b * 16 + x := nI_clamp (by omega)
    rw [wY_copy_141]
    simp only [cf_i16, ca, cb, nI_1]
    exact br_f (nI_ge (b := 16) (by omega) (by omega)) ⟨ia, ib, nm_e (nm_e hn)⟩
end
theorem cf_y68 {z o g c s vl dn dp rr : Nat → Int32} {a b : Nat} (ha : a < 4) (hb : b < 4) : ∀ m x, x + m = 4 → ∀ fn ta gt : Nat → Int32, ∃ fn' ta' gt' : Nat → Int32, cf_cp4 a b x fn fn' ∧ cf_cp4 a b x ta ta' ∧ cf_cp4 a b x gt gt' ∧ ∀ post : Int32 → SY → Prop, wY_copy_68 post (nI a) (nI b) 1 (nI 4) z o g c s vl dn dp fn' ta' gt' rr → wY_copy_68 post (nI a) (nI b) (m + 1) (nI x) z o g c s vl dn dp fn ta gt rr := by
  intro m
  induction m with
  | zero =>
    intro x hx fn ta gt
    have : x = 4 := by omega
    subst this
    exact ⟨fn, ta, gt, cf_cp4e a b fn, cf_cp4e a b ta, cf_cp4e a b gt, fun post h => h⟩
  | succ m ih =>
    intro x hx fn ta gt
    obtain ⟨fn', ta', gt', h1, h2, h3, h4⟩ := ih (x + 1) (by omega) (upd fn (b * 4 + x) (fn (a * 4 + x))) (upd ta (b * 4 + x) (ta (a * 4 + x))) (upd gt (b * 4 + x) (gt (a * 4 + x)))
    refine ⟨fn', ta', gt', cf_cp4s (by omega) h1, cf_cp4s (by omega) h2, cf_cp4s (by omega) h3, fun post h => ?_⟩
    have hn := h4 post h
    have ia : vp_in (nI (a * 4 + x)) 16 := vp_in_nI (by omega) (by omega)
    have ib : vp_in (nI (b * 4 + x)) 16 := vp_in_nI (by omega) (by omega)
    have ca : (nI (a * 4 + x)).toNatClampNeg = a * 4 + x := nI_clamp (by omega)
    have cb : (nI (b * 4 + x)).toNatClampNeg = b * 4 + x := nI_clamp (by omega)
    rw [wY_copy_68]
    simp only [cf_i4, ca, cb, nI_1]
    exact br_f (nI_ge (b := 4) (by omega) (by omega)) ⟨ia, ib, nm_e ⟨ia, ib, nm_e ⟨ia, ib, nm_e (nm_e hn)⟩⟩⟩
section
variable {an fu pl : Int32} {z o g c rd s vl dn dp ff fp pk rg fn ta gt rr ff' fp' pk' fn' ta' gt' rr' : Nat → Int32} {a b : Nat}
/-- what is copied is related as it was -/
theorem cf_Co_map {st d : Int32} (E : ∀ j, j < 4 → ff' (b * 4 + j) = ff (a * 4 + j) ∧ fp' (b * 4 + j) = fp (a * 4 + j) ∧ fn' (b * 4 + j) = fn (a * 4 + j) ∧ ta' (b * 4 + j) = ta (a * 4 + j) ∧ gt' (b * 4 + j) = gt (a * 4 + j) ∧ ∀ r, r < 4 → pk' ((b * 4 + j) * 4 + r) = pk ((a * 4 + j) * 4 + r) ∧ rr' ((b * 4 + j) * 4 + r) = rr ((a * 4 + j) * 4 + r)) (h : cf_Co an z o g rd ff fp pk fn ta gt rr st d a) : cf_Co an z o g rd ff' fp' pk' fn' ta' gt' rr' st d b := by
  have hW : ∀ (k : Int32) (j : Nat), j < 4 → cf_WF z o g rd ff fp pk fn ta gt rr k (a * 4 + j) → cf_WF z o g rd ff' fp' pk' fn' ta' gt' rr' k (b * 4 + j) := by
    intro k j hj h
    obtain ⟨f, p, h1, h2, h3, h4, h5, h6, h7, h8, h9, h10⟩ := h
    obtain ⟨e1, e2, e3, e4, e5, e6⟩ := E j hj
    refine ⟨f, p, h1, h2, h3, h4, e1.trans h5, e3.trans h6, e2.trans h7, e4.trans h8, e5.trans h9, fun r hr hb => ?_⟩
    have hc := cf_cn_le (cf_K z o g rd f p) r
    rw [(e6 _ (by omega : cf_cn (cf_K z o g rd f p) r < 4)).1, (e6 r hr).2]
    exact h10 r hr hb
  refine ⟨fun e => ?_, fun e => ?_⟩
  · obtain ⟨a1, f, a2, a3, a4, a5, a6, a7, a8, a9, a10⟩ := h.1 e
    obtain ⟨e1, e2, e3, e4, _, e6⟩ := E 0 (by omega)
    exact ⟨a1, f, a2, e1.trans a3, e3.trans a4, e2.trans a5, e4.trans a6, ((e6 0 (by omega)).1.trans a7).trans (e6 0 (by omega)).2.symm, (e6 1 (by omega)).2.trans a8, (e6 2 (by omega)).2.trans a9, (e6 3 (by omega)).2.trans a10⟩
  · obtain ⟨a1, t, a2, a3, a4, a5⟩ := h.2 e
    exact ⟨a1, t, a2, a3, fun j hj => hW 6 j (by omega) (a4 j hj), hW 5 t a2 a5⟩
theorem cf_R_copy (ha : a < 4) (hb : b < 4) (h1 : cf_cp4 a b 0 ff ff') (h2 : cf_cp4 a b 0 fp fp') (h3 : cf_cp16 a b 0 pk pk') (h4 : cf_cp4 a b 0 fn fn') (h5 : cf_cp4 a b 0 ta ta') (h6 : cf_cp4 a b 0 gt gt') (h7 : cf_cp16 a b 0 rr rr') (R : cf_R an z o g c rd s dp ff fp pk fn ta gt rr) : cf_R an z o g c rd (upd s b (s a)) (upd dp b (dp a)) ff' fp' pk' fn' ta' gt' rr' := by
  refine ⟨R.1, R.2.1, fun i hi => ?_⟩
  by_cases e : i = b
  · subst e
    rw [pk_us, pk_us]
    refine cf_Co_map (a := a) (b := i) (fun j hj => ⟨h1.1 j (Nat.zero_le _) hj, h2.1 j (Nat.zero_le _) hj, h4.1 j (Nat.zero_le _) hj, h5.1 j (Nat.zero_le _) hj, h6.1 j (Nat.zero_le _) hj, fun r hr => ?_⟩) (R.2.2 a ha)
    rw [show (i * 4 + j) * 4 + r = i * 16 + (j * 4 + r) by omega, show (a * 4 + j) * 4 + r = a * 16 + (j * 4 + r) by omega]
    exact ⟨h3.1 _ (Nat.zero_le _) (by omega), h7.1 _ (Nat.zero_le _) (by omega)⟩
  · rw [pk_un e, pk_un e]
    refine cf_Co_keep (S := fun q => q < b * 4 ∨ b * 4 + 4 ≤ q) (ff := ff) (fp := fp) (pk := pk) (fn := fn) (ta := ta) (gt := gt) (rr := rr) ?_ (fun j hj => (by omega : i * 4 + j < b * 4 ∨ b * 4 + 4 ≤ i * 4 + j)) (R.2.2 i hi)
    intro q hq
    have hq' : q < b * 4 ∨ b * 4 + 4 ≤ q := hq
    exact ⟨h1.2 q hq', h2.2 q hq', h4.2 q hq', h5.2 q hq', h6.2 q hq', fun r hr => ⟨h3.2 _ (by omega), h7.2 _ (by omega)⟩⟩
end
end
section
/-! emit: the lock, then the write -/
theorem cf_badc (x : Int32) : (∃ j : Nat, j < 4 ∧ x = nI j) ∨ ((∀ post : Int32 → Prop, post 1 → wpX_bad post x) ∧ ∀ (v : SY) (post : Int32 → Prop), post 1 → wpY_badCo post v x) := by
  by_cases h : x < 0
  · refine Or.inr ⟨fun post hp => ?_, fun v post hp => ?_⟩
    · unfold wpX_bad
      exact br_t h hp
    · obtain ⟨u1, u2, u3, u4, u5, u6, u7, u8, u9, u10, u11, u12⟩ := v
      unfold wpY_badCo
      exact br_t h hp
  · obtain ⟨j, hj, rfl⟩ := nI_of h
    by_cases h4 : j < 4
    · exact Or.inl ⟨j, h4, rfl⟩
    · have h3 : ¬ nI j ≤ 3 := nI_ge (a := 3) (by omega) hj
      refine Or.inr ⟨fun post hp => ?_, fun v post hp => ?_⟩
      · unfold wpX_bad
        exact br_f h (br_f h3 hp)
      · obtain ⟨u1, u2, u3, u4, u5, u6, u7, u8, u9, u10, u11, u12⟩ := v
        unfold wpY_badCo
        exact br_f h (br_f h3 hp)
section
variable {an fu pl : Int32} {z o g c rd s vl dn dp ff fp pk rg fn ta gt rr : Nat → Int32}
theorem cf_xel {x1 x2 x3 x4 : Int32} {post : Int32 → SX → Prop} (K : post (-3) (an, fu, pl, z, o, cf_ra g, cf_rb g, c, rd, s, vl, dn, dp, ff, fp, pk, rg)) : ∀ m x, x + m = 4 → (∃ i, x ≤ i ∧ i < 4 ∧ s i ≠ 0) → wX_emit_24 post x1 x2 x3 x4 an fu pl z o (cf_ra g) (cf_rb g) c rd s vl dn dp ff fp pk rg (m + 1) (nI x) := by
  intro m
  induction m with
  | zero =>
    intro x hx h
    obtain ⟨i, h1, h2, _⟩ := h
    exact absurd h1 (by omega)
  | succ m ih =>
    intro x hx h
    rw [wX_emit_24]
    refine br_f (nI_ge (b := 4) (by omega) (by omega)) ⟨vp_in_nI (by omega) (by omega), ?_⟩
    rw [nI_clamp (by omega)]
    refine br_c (fun e => nm_r (nI_1 x) (ih (x + 1) (by omega) ?_)) (fun _ => K)
    obtain ⟨i, h1, h2, h3⟩ := h
    by_cases e2 : i = x
    · subst e2
      exact absurd e h3
    · exact ⟨i, by omega, h2, h3⟩
theorem cf_xef {x1 x2 x3 x4 : Int32} {post : Int32 → SX → Prop} (h : ∀ i, i < 4 → s i = 0) (K : wX_emit_24 post x1 x2 x3 x4 an fu pl z o (cf_ra g) (cf_rb g) c rd s vl dn dp ff fp pk rg 1 (nI 4)) : ∀ m x, x + m = 4 → wX_emit_24 post x1 x2 x3 x4 an fu pl z o (cf_ra g) (cf_rb g) c rd s vl dn dp ff fp pk rg (m + 1) (nI x) := by
  intro m
  induction m with
  | zero =>
    intro x hx
    have : x = 4 := by omega
    subst this
    exact K
  | succ m ih =>
    intro x hx
    have hn := ih (x + 1) (by omega)
    rw [wX_emit_24]
    refine br_f (nI_ge (b := 4) (by omega) (by omega)) ⟨vp_in_nI (by omega) (by omega), ?_⟩
    rw [nI_clamp (by omega)]
    exact br_t (h x (by omega)) (nm_r (nI_1 x) hn)
theorem cf_yel {x1 x2 x3 x4 : Int32} {post : Int32 → SY → Prop} (K : post (-3) (z, o, g, c, s, vl, dn, dp, fn, ta, gt, rr)) : ∀ m x, x + m = 4 → (∃ i, x ≤ i ∧ i < 4 ∧ s i ≠ 0) → wY_emit_24 post x1 x2 x3 x4 z o g c s vl dn dp fn ta gt rr (m + 1) (nI x) := by
  intro m
  induction m with
  | zero =>
    intro x hx h
    obtain ⟨i, h1, h2, _⟩ := h
    exact absurd h1 (by omega)
  | succ m ih =>
    intro x hx h
    rw [wY_emit_24]
    refine br_f (nI_ge (b := 4) (by omega) (by omega)) ⟨vp_in_nI (by omega) (by omega), ?_⟩
    rw [nI_clamp (by omega)]
    refine br_c (fun e => nm_r (nI_1 x) (ih (x + 1) (by omega) ?_)) (fun _ => K)
    obtain ⟨i, h1, h2, h3⟩ := h
    by_cases e2 : i = x
    · subst e2
      exact absurd e h3
    · exact ⟨i, by omega, h2, h3⟩
theorem cf_yef {x1 x2 x3 x4 : Int32} {post : Int32 → SY → Prop} (h : ∀ i, i < 4 → s i = 0) (K : wY_emit_24 post x1 x2 x3 x4 z o g c s vl dn dp fn ta gt rr 1 (nI 4)) : ∀ m x, x + m = 4 → wY_emit_24 post x1 x2 x3 x4 z o g c s vl dn dp fn ta gt rr (m + 1) (nI x) := by
  intro m
  induction m with
  | zero =>
    intro x hx
    have : x = 4 := by omega
    subst this
    exact K
  | succ m ih =>
    intro x hx
    have hn := ih (x + 1) (by omega)
    rw [wY_emit_24]
    refine br_f (nI_ge (b := 4) (by omega) (by omega)) ⟨vp_in_nI (by omega) (by omega), ?_⟩
    rw [nI_clamp (by omega)]
    exact br_t (h x (by omega)) (nm_r (nI_1 x) hn)
theorem cf_xew {f n : Nat} (hf : f < 3) (hn : n < 8) (ez : z f = nI n) {x2 x3 x4 : Int32} {post : Int32 → SX → Prop} (K : post (nI n) (0, fu, pl, upd z f (nI (n + 1)), upd o (f * 8 + n) x2, cf_ra (upd g (f * 8 + n) x3), cf_rb (upd g (f * 8 + n) x3), upd c (f * 8 + n) x4, rd, s, vl, dn, dp, ff, fp, pk, rg)) : wX_emit_24 post (nI f) x2 x3 x4 an fu pl z o (cf_ra g) (cf_rb g) c rd s vl dn dp ff fp pk rg 1 (nI 4) := by
  have hin : vp_in (nI f) 3 := vp_in_nI hf (by omega)
  have e : (nI f).toNatClampNeg = f := nI_clamp (by omega)
  have h8 : vp_in (nI (f * 8 + n)) 24 := vp_in_nI (by omega) (by omega)
  have e8 : (nI (f * 8 + n)).toNatClampNeg = f * 8 + n := nI_clamp (by omega)
  rw [wX_emit_24]
  simp only [e, ez, cf_i8, forall_eq, e8, nI_1, cf_raU, cf_rbU, pk_us, nI_pred]
  exact br_t (nI_le (a := 4) (by omega) (by omega)) ⟨hin, br_t (nI_lt (b := 8) hn (by omega)) ⟨hin, h8, h8, h8, h8, hin, hin, hin, K⟩⟩
theorem cf_yew {f n : Nat} (hf : f < 3) (hn : n < 8) (ez : z f = nI n) {x2 x3 x4 : Int32} {post : Int32 → SY → Prop} (K : post (nI n) (upd z f (nI (n + 1)), upd o (f * 8 + n) x2, upd g (f * 8 + n) x3, upd c (f * 8 + n) x4, s, vl, dn, dp, fn, ta, gt, rr)) : wY_emit_24 post (nI f) x2 x3 x4 z o g c s vl dn dp fn ta gt rr 1 (nI 4) := by
  have hin : vp_in (nI f) 3 := vp_in_nI hf (by omega)
  have e : (nI f).toNatClampNeg = f := nI_clamp (by omega)
  have h8 : vp_in (nI (f * 8 + n)) 24 := vp_in_nI (by omega) (by omega)
  have e8 : (nI (f * 8 + n)).toNatClampNeg = f * 8 + n := nI_clamp (by omega)
  rw [wY_emit_24]
  simp only [e, ez, cf_i8, forall_eq, e8, nI_1]
  exact br_t (nI_le (a := 4) (by omega) (by omega)) ⟨hin, br_f (fun y => absurd ((nI_eq (by omega) (by omega)).mp (show nI n = nI 8 from y)) (by omega)) ⟨h8, h8, h8, hin, K⟩⟩
theorem cf_xe8 {f : Nat} (hf : f < 3) (ez : z f = nI 8) {x2 x3 x4 : Int32} {post : Int32 → SX → Prop} (K : post (-2) (an, fu, pl, z, o, cf_ra g, cf_rb g, c, rd, s, vl, dn, dp, ff, fp, pk, rg)) : wX_emit_24 post (nI f) x2 x3 x4 an fu pl z o (cf_ra g) (cf_rb g) c rd s vl dn dp ff fp pk rg 1 (nI 4) := by
  have hin : vp_in (nI f) 3 := vp_in_nI hf (by omega)
  have e : (nI f).toNatClampNeg = f := nI_clamp (by omega)
  rw [wX_emit_24, e, ez]
  exact br_t (nI_le (a := 4) (by omega) (by omega)) ⟨hin, br_f (by decide) K⟩
theorem cf_ye8 {f : Nat} (hf : f < 3) (ez : z f = nI 8) {x2 x3 x4 : Int32} {post : Int32 → SY → Prop} (K : post (-2) (z, o, g, c, s, vl, dn, dp, fn, ta, gt, rr)) : wY_emit_24 post (nI f) x2 x3 x4 z o g c s vl dn dp fn ta gt rr 1 (nI 4) := by
  have hin : vp_in (nI f) 3 := vp_in_nI hf (by omega)
  have e : (nI f).toNatClampNeg = f := nI_clamp (by omega)
  rw [wY_emit_24, e, ez]
  exact br_t (nI_le (a := 4) (by omega) (by omega)) ⟨hin, nm_e (br_t (by decide) K)⟩
theorem cf_R_emit {f n j : Nat} (hf : f < 3) (hn : n < 8) (hj : j ≤ 7) (x3 x4 : Int32) (h : ∀ i, i < 4 → s i = 0) (R : cf_R an z o g c rd s dp ff fp pk fn ta gt rr) : cf_R 0 (upd z f (nI (n + 1))) (upd o (f * 8 + n) (nI j)) (upd g (f * 8 + n) x3) (upd c (f * 8 + n) x4) rd s dp ff fp pk fn ta gt rr := by
  refine ⟨⟨fun f' hf' => ?_, fun i hi => ?_⟩, fun n => absurd rfl n, fun i hi => ?_⟩
  · by_cases e : f' = f
    · subst e
      exact ⟨n + 1, by omega, pk_us⟩
    · rw [pk_un e]
      exact R.1.1 f' hf'
  · by_cases e : i = f * 8 + n
    · subst e
      rw [pk_us]
      have h8 : j = 0 ∨ j = 1 ∨ j = 2 ∨ j = 3 ∨ j = 4 ∨ j = 5 ∨ j = 6 ∨ j = 7 := by omega
      rcases h8 with e | e | e | e | e | e | e | e <;> subst e <;> unfold cf_op <;> decide
    · rw [pk_un e]
      exact R.1.2 i hi
  · rw [h i hi]
    exact ⟨fun y => absurd y (by decide), fun y => absurd y (by decide)⟩
theorem cf_R_start {co f : Nat} (hco : co < 4) (hf : f < 3) (w : Int32) (R : cf_R an z o g c rd s dp ff fp pk fn ta gt rr) : cf_R an z o g c rd (upd s co 1) (upd dp co 1) (upd ff (co * 4) (nI f)) (upd fp (co * 4) (-1)) (upd pk (co * 4 * 4) w) (upd fn (co * 4) (nI f)) (upd ta (co * 4) 0) gt (upd (upd (upd (upd rr (co * 4 * 4) w) (co * 4 * 4 + 1) 0) (co * 4 * 4 + 2) 0) (co * 4 * 4 + 3) 0) := by
  refine ⟨R.1, R.2.1, fun i hi => ?_⟩
  by_cases e : i = co
  · subst e
    rw [pk_us, pk_us]
    refine ⟨fun _ => ⟨by decide, f, hf, pk_us, pk_us, pk_us, pk_us, ?_, ?_, ?_, pk_us⟩, fun y => absurd y (by decide)⟩
    · rw [pk_us, pk_un (by omega), pk_un (by omega), pk_un (by omega), pk_us]
    · rw [pk_un (by omega), pk_un (by omega), pk_us]
    · rw [pk_un (by omega), pk_us]
  · rw [pk_un e, pk_un e]
    refine cf_Co_keep (S := fun q => q < co * 4 ∨ co * 4 + 4 ≤ q) (ff := ff) (fp := fp) (pk := pk) (fn := fn) (ta := ta) (gt := gt) (rr := rr) ?_ (fun j hj => (by omega : i * 4 + j < co * 4 ∨ co * 4 + 4 ≤ i * 4 + j)) (R.2.2 i hi)
    intro q hq
    have hq' : q < co * 4 ∨ co * 4 + 4 ≤ q := hq
    exact ⟨pk_un (by omega), pk_un (by omega), pk_un (by omega), pk_un (by omega), rfl, fun r hr => ⟨pk_un (by omega), by rw [pk_un (by omega), pk_un (by omega), pk_un (by omega), pk_un (by omega)]⟩⟩
theorem cf_R_drop {co : Nat} (R : cf_R an z o g c rd s dp ff fp pk fn ta gt rr) : cf_R an z o g c rd (upd s co 0) (upd dp co 0) ff fp pk fn ta gt rr := by
  refine ⟨R.1, R.2.1, fun i hi => ?_⟩
  by_cases e : i = co
  · subst e
    rw [pk_us]
    exact ⟨fun y => absurd y (by decide), fun y => absurd y (by decide)⟩
  · rw [pk_un e, pk_un e]
    exact R.2.2 i hi
end
end
section
/-! what is owed -/
theorem i_up {k : Nat} {u : SX} {v : SY} (h : i_Rel k u v) : i_Rel (k + 5) u v := h
theorem i_vc0 : wpX_init (fun u => wpY_init (fun v => i_Rel 0 u v)) := by
  unfold wpX_init wpY_init
  refine ⟨⟨rfl, rfl, cf_ra0, cf_rb0, rfl, rfl, rfl, rfl, rfl⟩, ⟨fun f _ => ⟨0, by omega, rfl⟩, fun i _ => Or.inl rfl⟩, fun n => absurd rfl n, fun i _ => ⟨fun y => absurd (show (0 : Int32) = 1 from y) (by decide), fun y => absurd (show (0 : Int32) = 2 from y) (by decide)⟩⟩
theorem i_vc_state {k : Nat} {u : SX} {v : SY} (I : i_Rel k u v) (hk : k + 5 ≤ 2560) (v1 : Int32) : wpX_state (fun r => wpY_state (fun r' => r' = r ∧ i_Rel (k + 5) u v) v v1) u v1 := by
  refine cf_el (P := fun u v => wpX_state (fun r => wpY_state (fun r' => r' = r ∧ i_Rel (k + 5) u v) v v1) u v1) ?_ I
  intro an fu pl z o g c rd s vl dn dp ff fp pk rg fn ta gt rr R
  unfold wpX_state wpY_state
  dsimp only
  rcases cf_badc v1 with ⟨co, hco, rfl⟩ | ⟨bx, bv⟩
  · have hin : vp_in (nI co) 4 := vp_in_nI hco (by omega)
    exact cf_xbad0 hco (br_t rfl ⟨hin, cf_ybad0 hco (br_t rfl ⟨hin, rfl, cf_mk R _⟩)⟩)
  · exact bx _ (br_f (by decide) (bv _ _ (br_f (by decide) ⟨rfl, cf_mk R _⟩)))
theorem i_vc_value {k : Nat} {u : SX} {v : SY} (I : i_Rel k u v) (hk : k + 5 ≤ 2560) (v1 : Int32) : wpX_value (fun r => wpY_value (fun r' => r' = r ∧ i_Rel (k + 5) u v) v v1) u v1 := by
  refine cf_el (P := fun u v => wpX_value (fun r => wpY_value (fun r' => r' = r ∧ i_Rel (k + 5) u v) v v1) u v1) ?_ I
  intro an fu pl z o g c rd s vl dn dp ff fp pk rg fn ta gt rr R
  unfold wpX_value wpY_value
  dsimp only
  rcases cf_badc v1 with ⟨co, hco, rfl⟩ | ⟨bx, bv⟩
  · have hin : vp_in (nI co) 4 := vp_in_nI hco (by omega)
    exact cf_xbad0 hco (br_t rfl ⟨hin, cf_ybad0 hco (br_t rfl ⟨hin, rfl, cf_mk R _⟩)⟩)
  · exact bx _ (br_f (by decide) (bv _ _ (br_f (by decide) ⟨rfl, cf_mk R _⟩)))
theorem i_vc_depth {k : Nat} {u : SX} {v : SY} (I : i_Rel k u v) (hk : k + 5 ≤ 2560) (v1 : Int32) : wpX_depth (fun r => wpY_depth (fun r' => r' = r ∧ i_Rel (k + 5) u v) v v1) u v1 := by
  refine cf_el (P := fun u v => wpX_depth (fun r => wpY_depth (fun r' => r' = r ∧ i_Rel (k + 5) u v) v v1) u v1) ?_ I
  intro an fu pl z o g c rd s vl dn dp ff fp pk rg fn ta gt rr R
  unfold wpX_depth wpY_depth
  dsimp only
  rcases cf_badc v1 with ⟨co, hco, rfl⟩ | ⟨bx, bv⟩
  · have hin : vp_in (nI co) 4 := vp_in_nI hco (by omega)
    exact cf_xbad0 hco (br_t rfl ⟨hin, cf_ybad0 hco (br_t rfl ⟨hin, rfl, cf_mk R _⟩)⟩)
  · exact bx _ (br_f (by decide) (bv _ _ (br_f (by decide) ⟨rfl, cf_mk R _⟩)))
theorem i_vc_steps {k : Nat} {u : SX} {v : SY} (I : i_Rel k u v) (hk : k + 5 ≤ 2560) (v1 : Int32) : wpX_steps (fun r => wpY_steps (fun r' => r' = r ∧ i_Rel (k + 5) u v) v v1) u v1 := by
  refine cf_el (P := fun u v => wpX_steps (fun r => wpY_steps (fun r' => r' = r ∧ i_Rel (k + 5) u v) v v1) u v1) ?_ I
  intro an fu pl z o g c rd s vl dn dp ff fp pk rg fn ta gt rr R
  unfold wpX_steps wpY_steps
  dsimp only
  rcases cf_badc v1 with ⟨co, hco, rfl⟩ | ⟨bx, bv⟩
  · have hin : vp_in (nI co) 4 := vp_in_nI hco (by omega)
    exact cf_xbad0 hco (br_t rfl ⟨hin, cf_ybad0 hco (br_t rfl ⟨hin, rfl, cf_mk R _⟩)⟩)
  · exact bx _ (br_f (by decide) (bv _ _ (br_f (by decide) ⟨rfl, cf_mk R _⟩)))
theorem i_vc_alike {k : Nat} {u : SX} {v : SY} (I : i_Rel k u v) (hk : k + 5 ≤ 2560) (v1 : Int32) (v2 : Int32) : wpX_alike (fun r => wpY_alike (fun r' => r' = r ∧ i_Rel (k + 5) u v) v v1 v2) u v1 v2 := by
  refine cf_el (P := fun u v => wpX_alike (fun r => wpY_alike (fun r' => r' = r ∧ i_Rel (k + 5) u v) v v1 v2) u v1 v2) ?_ I
  intro an fu pl z o g c rd s vl dn dp ff fp pk rg fn ta gt rr R
  unfold wpX_alike wpY_alike
  dsimp only
  rcases cf_badc v1 with ⟨a, ha, rfl⟩ | ⟨bx, bv⟩
  · have ia : vp_in (nI a) 4 := vp_in_nI ha (by omega)
    refine cf_xbad0 ha (br_t rfl ?_)
    rcases cf_badc v2 with ⟨b, hb, rfl⟩ | ⟨bx, bv⟩
    · have ib : vp_in (nI b) 4 := vp_in_nI hb (by omega)
      refine cf_xbad0 hb (br_t rfl ⟨ia, ib, br_c (fun n1 => ⟨ia, ib, br_c (fun n2 => ?_) (fun n2 => ?_)⟩) (fun n1 => ?_)⟩)
      · exact cf_ybad0 ha (br_t rfl (cf_ybad0 hb (br_t rfl ⟨ia, ib, br_t n1 ⟨ia, ib, br_t n2 ⟨rfl, cf_mk R _⟩⟩⟩)))
      · exact cf_ybad0 ha (br_t rfl (cf_ybad0 hb (br_t rfl ⟨ia, ib, br_t n1 ⟨ia, ib, br_f n2 ⟨rfl, cf_mk R _⟩⟩⟩)))
      · exact cf_ybad0 ha (br_t rfl (cf_ybad0 hb (br_t rfl ⟨ia, ib, br_f n1 ⟨rfl, cf_mk R _⟩⟩)))
    · exact bx _ (br_f (by decide) (cf_ybad0 ha (br_t rfl (bv _ _ (br_f (by decide) ⟨rfl, cf_mk R _⟩)))))
  · exact bx _ (br_f (by decide) (bv _ _ (br_f (by decide) ⟨rfl, cf_mk R _⟩)))
theorem i_vc_drop {k : Nat} {u : SX} {v : SY} (I : i_Rel k u v) (hk : k + 5 ≤ 2560) (v1 : Int32) : wpX_drop (fun r u' => wpY_drop (fun r' v' => r' = r ∧ i_Rel (k + 5) u' v') v v1) u v1 := by
  refine cf_el (P := fun u v => wpX_drop (fun r u' => wpY_drop (fun r' v' => r' = r ∧ i_Rel (k + 5) u' v') v v1) u v1) ?_ I
  intro an fu pl z o g c rd s vl dn dp ff fp pk rg fn ta gt rr R
  unfold wpX_drop wpY_drop
  dsimp only
  rcases cf_badc v1 with ⟨co, hco, rfl⟩ | ⟨bx, bv⟩
  · have hin : vp_in (nI co) 4 := vp_in_nI hco (by omega)
    have e : (nI co).toNatClampNeg = co := nI_clamp (by omega)
    rw [e]
    exact cf_xbad0 hco (br_t rfl ⟨hin, nm_e (cf_xfin hco ⟨hin, nm_e (cf_ybad0 hco (br_t rfl ⟨hin, nm_e (cf_yend hco ⟨hin, nm_e ⟨rfl, cf_mk (cf_R_drop R) _⟩⟩)⟩))⟩)⟩)
  · exact bx _ (br_f (by decide) (bv _ _ (br_f (by decide) ⟨rfl, cf_mk R _⟩)))
theorem i_vc_start {k : Nat} {u : SX} {v : SY} (I : i_Rel k u v) (hk : k + 5 ≤ 2560) (v1 : Int32) (v2 : Int32) (v3 : Int32) : wpX_start (fun r u' => wpY_start (fun r' v' => r' = r ∧ i_Rel (k + 5) u' v') v v1 v2 v3) u v1 v2 v3 := by
  refine cf_el (P := fun u v => wpX_start (fun r u' => wpY_start (fun r' v' => r' = r ∧ i_Rel (k + 5) u' v') v v1 v2 v3) u v1 v2 v3) ?_ I
  intro an fu pl z o g c rd s vl dn dp ff fp pk rg fn ta gt rr R
  rcases cf_badc v1 with ⟨co, hco, rfl⟩ | ⟨bx, bv⟩
  · have hin : vp_in (nI co) 4 := vp_in_nI hco (by omega)
    have e : (nI co).toNatClampNeg = co := nI_clamp (by omega)
    have i4 : vp_in (nI (co * 4)) 16 := vp_in_nI (by omega) (by omega)
    have e4 : (nI (co * 4)).toNatClampNeg = co * 4 := nI_clamp (by omega)
    have i16 : vp_in (nI (co * 4 * 4)) 64 := vp_in_nI (by omega) (by omega)
    have e16 : (nI (co * 4 * 4)).toNatClampNeg = co * 4 * 4 := nI_clamp (by omega)
    unfold wpX_start wpY_start
    dsimp only
    refine cf_xbad0 hco (br_t rfl ?_)
    by_cases h0 : v2 < 0
    · exact br_t h0 (cf_ybad0 hco (br_t rfl (br_t h0 ⟨rfl, cf_mk R _⟩)))
    · refine br_f h0 ?_
      obtain ⟨f, hf, rfl⟩ := nI_of h0
      by_cases h3 : f < 3
      · have hY : nI f ≤ 2 := nI_le (b := 2) (by omega) (by omega)
        refine br_t (nI_lt (b := 3) h3 (by omega)) ?_
        simp only [e, cf_m4, e4, e16, forall_eq]
        refine ⟨hin, hin, hin, hin, i4, i4, i16, ?_⟩
        refine cf_ybad0 hco (br_t rfl (br_f h0 (br_t hY ⟨hin, ?_⟩)))
        refine cf_ypush (d := 0) hco (by omega) pk_us ⟨hin, hin, hin, by trivial, ?_⟩
        have RR := cf_R_start hco h3 v3 R
        have hd : upd (upd dp co (nI 0)) co (nI (0 + 1)) = upd dp co 1 := cf_uu
        dsimp only
        rw [hd]
        exact cf_mk RR _
      · have hX : ¬ nI f < 3 := nI_nlt (b := 3) (by omega) (by omega)
        have hY : ¬ nI f ≤ 2 := nI_ge (a := 2) (by omega) (by omega)
        exact br_f hX (cf_ybad0 hco (br_t rfl (br_f h0 (br_f hY ⟨rfl, cf_mk R _⟩))))
  · unfold wpX_start wpY_start
    dsimp only
    exact bx _ (br_f (by decide) (bv _ _ (br_f (by decide) ⟨rfl, cf_mk R _⟩)))
theorem i_vc_resume {k : Nat} {u : SX} {v : SY} (I : i_Rel k u v) (hk : k + 5 ≤ 2560) (v1 : Int32) (v2 : Int32) : wpX_resume (fun r u' => wpY_resume (fun r' v' => r' = r ∧ i_Rel (k + 5) u' v') v v1 v2) u v1 v2 := by
  refine cf_el (P := fun u v => wpX_resume (fun r u' => wpY_resume (fun r' v' => r' = r ∧ i_Rel (k + 5) u' v') v v1 v2) u v1 v2) ?_ I
  intro an fu pl z o g c rd s vl dn dp ff fp pk rg fn ta gt rr R
  rcases cf_badc v1 with ⟨co, hco, rfl⟩ | ⟨bx, bv⟩
  · have hin : vp_in (nI co) 4 := vp_in_nI hco (by omega)
    have e : (nI co).toNatClampNeg = co := nI_clamp (by omega)
    by_cases h1 : s co = 1
    · obtain ⟨r, u', v', c1, c2, c3, c4⟩ := cf_go1 (fu := fu) (pl := pl) (rg := rg) (vl := vl) (dn := dn) hco R h1 v2
      obtain ⟨q1, q2, q3, q4, q5, q6, q7, q8, q9, q10, q11, q12, q13, q14, q15, q16, q17⟩ := u'
      unfold wpX_resume
      dsimp only
      rw [e]
      refine cf_xbad0 hco (br_t rfl ⟨hin, br_t h1 ?_⟩)
      unfold wX_resume_32
      exact c3 _ (c4 _ ⟨rfl, c1⟩)
    · by_cases h2 : s co = 2
      · obtain ⟨r, u', v', c1, c2, c3, c4⟩ := cf_go2 (fu := fu) (pl := pl) (rg := rg) (vl := vl) (dn := dn) hco R h2 v2
        obtain ⟨q1, q2, q3, q4, q5, q6, q7, q8, q9, q10, q11, q12, q13, q14, q15, q16, q17⟩ := u'
        unfold wpX_resume
        dsimp only
        rw [e]
        refine cf_xbad0 hco (br_t rfl ⟨hin, br_f h1 ⟨hin, br_t h2 ?_⟩⟩)
        unfold wX_resume_32
        exact c3 _ (c4 _ ⟨rfl, c1⟩)
      · unfold wpX_resume wpY_resume
        dsimp only
        rw [e]
        exact cf_xbad0 hco (br_t rfl ⟨hin, br_f h1 ⟨hin, br_f h2 (cf_ybad0 hco (br_t rfl ⟨hin, br_f h1 ⟨hin, br_f h2 ⟨rfl, cf_mk R _⟩⟩⟩))⟩⟩)
  · unfold wpX_resume wpY_resume
    dsimp only
    exact bx _ (br_f (by decide) (bv _ _ (br_f (by decide) ⟨rfl, cf_mk R _⟩)))
theorem i_vc_echo {k : Nat} {u : SX} {v : SY} (I : i_Rel k u v) (hk : k + 5 ≤ 2560) (v1 : Int32) (v2 : Int32) : wpX_echo (fun r u' => wpY_echo (fun r' v' => r' = r ∧ i_Rel (k + 5) u' v') v v1 v2) u v1 v2 := by
  refine cf_el (P := fun u v => wpX_echo (fun r u' => wpY_echo (fun r' v' => r' = r ∧ i_Rel (k + 5) u' v') v v1 v2) u v1 v2) ?_ I
  intro an fu pl z o g c rd s vl dn dp ff fp pk rg fn ta gt rr R
  rcases cf_badc v1 with ⟨co, hco, rfl⟩ | ⟨bx, bv⟩
  · have hin : vp_in (nI co) 4 := vp_in_nI hco (by omega)
    have e : (nI co).toNatClampNeg = co := nI_clamp (by omega)
    unfold wpX_echo wpY_echo
    dsimp only
    rw [e]
    refine cf_xbad0 hco (br_t rfl ⟨hin, ?_⟩)
    by_cases h2 : s co = 2
    · refine br_t h2 (br_c (fun n20 => ?_) (fun n20 => ?_))
      · obtain ⟨r, u', v', d1, d2, d3⟩ := cf_echo hco (x2 := v2) (x3 := v2) (fun _ _ => Iff.rfl) n20 20 0 rfl _ _ 0 (cf_mk (fu := fu) (pl := pl) (rg := rg) (vl := vl) (dn := dn) R 0)
        unfold cf_EX at d2
        unfold cf_EY at d3
        dsimp only at d2 d3
        exact ⟨21, d2 _ (cf_ybad0 hco (br_t rfl ⟨hin, br_t h2 ⟨21, d3 _ ⟨rfl, d1⟩⟩⟩))⟩
      · have hq : ∀ j, j < 20 → ((20 : Int32) ≤ nI j ↔ v2 ≤ nI j) := by
          intro j hj
          have a1 : ¬ (20 : Int32) ≤ nI j := nI_ge (b := 20) (by omega) (by omega)
          have a2 : ¬ v2 ≤ nI j := fun y => n20 (Int32.le_trans y (nI_le (b := 20) (by omega) (by omega)))
          exact ⟨fun y => absurd y a1, fun y => absurd y a2⟩
        obtain ⟨r, u', v', d1, d2, d3⟩ := cf_echo hco (x2 := v2) (x3 := 20) hq (by decide) 20 0 rfl _ _ 0 (cf_mk (fu := fu) (pl := pl) (rg := rg) (vl := vl) (dn := dn) R 0)
        unfold cf_EX at d2
        unfold cf_EY at d3
        dsimp only at d2 d3
        exact ⟨21, d2 _ (cf_ybad0 hco (br_t rfl ⟨hin, br_t h2 ⟨21, d3 _ ⟨rfl, d1⟩⟩⟩))⟩
    · exact br_f h2 (cf_ybad0 hco (br_t rfl ⟨hin, br_f h2 ⟨rfl, cf_mk R _⟩⟩))
  · unfold wpX_echo wpY_echo
    dsimp only
    exact bx _ (br_f (by decide) (bv _ _ (br_f (by decide) ⟨rfl, cf_mk R _⟩)))
theorem i_vc_copy {k : Nat} {u : SX} {v : SY} (I : i_Rel k u v) (hk : k + 5 ≤ 2560) (v1 : Int32) (v2 : Int32) : wpX_copy (fun r u' => wpY_copy (fun r' v' => r' = r ∧ i_Rel (k + 5) u' v') v v1 v2) u v1 v2 := by
  refine cf_el (P := fun u v => wpX_copy (fun r u' => wpY_copy (fun r' v' => r' = r ∧ i_Rel (k + 5) u' v') v v1 v2) u v1 v2) ?_ I
  intro an fu pl z o g c rd s vl dn dp ff fp pk rg fn ta gt rr R
  rcases cf_badc v1 with ⟨a, ha, rfl⟩ | ⟨bx, bv⟩
  · rcases cf_badc v2 with ⟨b, hb, rfl⟩ | ⟨bx, bv⟩
    · have ia : vp_in (nI a) 4 := vp_in_nI ha (by omega)
      have ib : vp_in (nI b) 4 := vp_in_nI hb (by omega)
      have ea : (nI a).toNatClampNeg = a := nI_clamp (by omega)
      have eb : (nI b).toNatClampNeg = b := nI_clamp (by omega)
      obtain ⟨ff', fp', x1, x2, x3⟩ := cf_x66 (an := an) (fu := fu) (pl := pl) (z := z) (o := o) (g := g) (c := c) (rd := rd) (s := upd s b (s a)) (vl := upd vl b (vl a)) (dn := upd dn b (dn a)) (dp := upd dp b (dp a)) (pk := pk) (rg := rg) ha hb 4 0 rfl ff fp
      obtain ⟨pk', x4, x5⟩ := cf_x119 (an := an) (fu := fu) (pl := pl) (z := z) (o := o) (g := g) (c := c) (rd := rd) (s := upd s b (s a)) (vl := upd vl b (vl a)) (dn := upd dn b (dn a)) (dp := upd dp b (dp a)) (ff := ff') (fp := fp') (rg := rg) ha hb 16 0 rfl pk
      obtain ⟨fn', ta', gt', y1, y2, y3, y4⟩ := cf_y68 (z := z) (o := o) (g := g) (c := c) (s := upd s b (s a)) (vl := upd vl b (vl a)) (dn := upd dn b (dn a)) (dp := upd dp b (dp a)) (rr := rr) ha hb 4 0 rfl fn ta gt
      obtain ⟨rr', y5, y6⟩ := cf_y141 (z := z) (o := o) (g := g) (c := c) (s := upd s b (s a)) (vl := upd vl b (vl a)) (dn := upd dn b (dn a)) (dp := upd dp b (dp a)) (fn := fn') (ta := ta') (gt := gt') ha hb 16 0 rfl rr
      have RR := cf_R_copy ha hb x1 x2 x4 y1 y2 y3 y5 R
      unfold wpX_copy wpY_copy
      dsimp only
      rw [ea, eb]
      refine cf_xbad0 ha (br_t rfl (cf_xbad0 hb (br_t rfl ⟨ia, ib, nm_e ⟨ia, ib, nm_e ⟨ia, ib, nm_e ⟨ia, ib, nm_e ⟨5, x3 _ ?_⟩⟩⟩⟩⟩)))
      rw [wX_copy_66]
      refine br_t (nI_le (a := 4) (by omega) (by omega)) ⟨17, x5 _ ?_⟩
      refine cf_ybad0 ha (br_t rfl (cf_ybad0 hb (br_t rfl ⟨ia, ib, nm_e ⟨ia, ib, nm_e ⟨ia, ib, nm_e ⟨ia, ib, nm_e ⟨5, y4 _ ?_⟩⟩⟩⟩⟩)))
      rw [wY_copy_68]
      exact br_t (nI_le (a := 4) (by omega) (by omega)) ⟨17, y6 _ ⟨rfl, cf_mk RR _⟩⟩
    · unfold wpX_copy wpY_copy
      dsimp only
      exact cf_xbad0 ha (br_t rfl (bx _ (br_f (by decide) (cf_ybad0 ha (br_t rfl (bv _ _ (br_f (by decide) ⟨rfl, cf_mk R _⟩)))))))
  · unfold wpX_copy wpY_copy
    dsimp only
    exact bx _ (br_f (by decide) (bv _ _ (br_f (by decide) ⟨rfl, cf_mk R _⟩)))
theorem i_vc_emit {k : Nat} {u : SX} {v : SY} (I : i_Rel k u v) (hk : k + 5 ≤ 2560) (v1 : Int32) (v2 : Int32) (v3 : Int32) (v4 : Int32) : wpX_emit (fun r u' => wpY_emit (fun r' v' => r' = r ∧ i_Rel (k + 5) u' v') v v1 v2 v3 v4) u v1 v2 v3 v4 := by
  refine cf_el (P := fun u v => wpX_emit (fun r u' => wpY_emit (fun r' v' => r' = r ∧ i_Rel (k + 5) u' v') v v1 v2 v3 v4) u v1 v2 v3 v4) ?_ I
  intro an fu pl z o g c rd s vl dn dp ff fp pk rg fn ta gt rr R
  unfold wpX_emit
  dsimp only
  by_cases h0 : v1 < 0
  · unfold wpY_emit
    exact br_t h0 (br_t h0 ⟨rfl, cf_mk R _⟩)
  · refine br_f h0 ?_
    obtain ⟨f, hf, rfl⟩ := nI_of h0
    by_cases h3 : f < 3
    · have hX : ¬ (3 : Int32) ≤ nI f := nI_ge (b := 3) (by omega) (by omega)
      have hY : ¬ (2 : Int32) < nI f := nI_nlt (a := 2) (by omega) (by omega)
      refine br_f hX ?_
      by_cases k0 : v2 < 0
      · unfold wpY_emit
        exact br_t k0 (br_f h0 (br_f hY (br_t k0 ⟨rfl, cf_mk R _⟩)))
      · refine br_f k0 ?_
        by_cases k7 : v2 ≤ 7
        · refine br_t k7 ?_
          obtain ⟨j, hj, rfl⟩ := nI_of2 (M := 7) (n := 7) (by decide) k0 k7
          by_cases hl : ∃ i, 0 ≤ i ∧ i < 4 ∧ s i ≠ 0
          · refine ⟨5, cf_xel ?_ 4 0 rfl hl⟩
            unfold wpY_emit
            exact br_f h0 (br_f hY (br_f k0 (br_t k7 ⟨5, cf_yel ⟨rfl, cf_mk R _⟩ 4 0 rfl hl⟩)))
          · have hz : ∀ i, i < 4 → s i = 0 := fun i hi => Classical.byContradiction fun n => hl ⟨i, Nat.zero_le _, hi, n⟩
            obtain ⟨n, hn, ez⟩ := R.1.1 f h3
            by_cases h8 : n = 8
            · subst h8
              refine ⟨5, cf_xef hz (cf_xe8 h3 ez ?_) 4 0 rfl⟩
              unfold wpY_emit
              exact br_f h0 (br_f hY (br_f k0 (br_t k7 ⟨5, cf_yef hz (cf_ye8 h3 ez ⟨rfl, cf_mk R _⟩) 4 0 rfl⟩)))
            · refine ⟨5, cf_xef hz (cf_xew h3 (show n < 8 by omega) ez ?_) 4 0 rfl⟩
              unfold wpY_emit
              exact br_f h0 (br_f hY (br_f k0 (br_t k7 ⟨5, cf_yef hz (cf_yew h3 (show n < 8 by omega) ez ⟨rfl, cf_mk (cf_R_emit h3 (by omega) hj v3 v4 hz R) _⟩) 4 0 rfl⟩)))
        · unfold wpY_emit
          exact br_f k7 (br_f h0 (br_f hY (br_f k0 (br_f k7 ⟨rfl, cf_mk R _⟩))))
    · have hX : (3 : Int32) ≤ nI f := nI_le (a := 3) (by omega) (by omega)
      have hY : (2 : Int32) < nI f := nI_lt (a := 2) (by omega) (by omega)
      unfold wpY_emit
      exact br_t hX (br_f h0 (br_t hY ⟨rfl, cf_mk R _⟩))
end
