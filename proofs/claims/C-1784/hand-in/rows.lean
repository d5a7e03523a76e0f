section
/-! rows pasted from the kit (PURE-ROWS, BITS): a starting text -/
theorem pk_us {f : Nat → Int32} {k : Nat} {x : Int32} : upd f k x k = x := if_pos rfl
theorem pk_un {f : Nat → Int32} {k j : Nat} {x : Int32} (h : j ≠ k) : upd f k x j = f j := if_neg h
theorem pk_sub {a b : Nat} (h : b ≤ a) : nI a - nI b = nI (a - b) := by
  obtain ⟨c, rfl⟩ : ∃ c, a = c + b := ⟨a - b, by omega⟩
  rw [← nI_add, Int32.add_sub_cancel, Nat.add_sub_cancel]
theorem pk_m1 (n : Nat) : nI (n + 1) + (-1) = nI n := by
  rw [← nI_1, Int32.add_assoc, show (1 : Int32) + (-1) = 0 from rfl, Int32.add_zero]
theorem pk_mul (a b : Nat) : nI a * nI b = nI (a * b) := (Int32.ofNat_mul a b).symm
theorem pk_div {a d : Nat} (ha : a < 2 ^ 31) (h0 : 0 < d) (hd : d < 2 ^ 31) : nI a / nI d = nI (a / d) := by
  apply Int32.toInt_inj.mp
  rw [lg_idiv_nonneg (by rw [nI_toInt ha]; omega) (by rw [nI_toInt hd]; omega), nI_toInt ha, nI_toInt hd, nI_toInt (Nat.lt_of_le_of_lt (Nat.div_le_self a d) ha)]
  first | rfl | exact (Int.natCast_ediv _ _).symm
theorem pk_rem {a d : Nat} (ha : a < 2 ^ 31) (h0 : 0 < d) (hd : d < 2 ^ 31) : nI a - nI a / nI d * nI d = nI (a % d) := by
  rw [pk_div ha h0 hd, pk_mul, pk_sub (Nat.div_mul_le_self a d)]
  exact congrArg nI (by have := Nat.div_add_mod' a d; omega)
theorem pk_sub_toInt {a b : Nat} (ha : a < 2 ^ 30) (hb : b < 2 ^ 30) : (nI a - nI b).toInt = (a : Int) - b := by
  rw [Int32.toInt_sub, nI_toInt (by omega), nI_toInt (by omega)]
  exact Int.bmod_eq_of_le (by omega) (by omega)
theorem pk_sneg {a b : Nat} (hb : b < 2 ^ 30) (h : a < b) : nI a - nI b < 0 := by
  rw [Int32.lt_iff_toInt_lt, pk_sub_toInt (by omega) hb, show (0 : Int32).toInt = 0 from by decide]
  omega
theorem pk_ix (x : Int32) {n : Nat} (hn : n < 2 ^ 31) : x < 0 ∨ nI n ≤ x ∨ ∃ j : Nat, j < n ∧ x = nI j := by
  by_cases h : x < 0
  · exact Or.inl h
  · obtain ⟨j, hj, rfl⟩ := nI_of h
    by_cases h2 : j < n
    · exact Or.inr (Or.inr ⟨j, h2, rfl⟩)
    · exact Or.inr (Or.inl (nI_le (by omega) hj))
theorem pk_le {x y : Int32} {A B : Prop} (a b : Nat) (f : a ≤ b → A) (g : b < a → B) (hx : x = nI a := by rfl) (hy : y = nI b := by rfl) (ha : a < 2 ^ 31 := by omega) (hb : b < 2 ^ 31 := by omega) : (x ≤ y → A) ∧ (¬ x ≤ y → B) := by
  subst hx hy
  rw [nI_leI ha hb]
  exact ⟨f, fun z => g (by omega)⟩
theorem pk_lt {x y : Int32} {A B : Prop} (a b : Nat) (f : a < b → A) (g : b ≤ a → B) (hx : x = nI a := by rfl) (hy : y = nI b := by rfl) (ha : a < 2 ^ 31 := by omega) (hb : b < 2 ^ 31 := by omega) : (x < y → A) ∧ (¬ x < y → B) := by
  subst hx hy
  rw [nI_ltI ha hb]
  exact ⟨f, fun z => g (by omega)⟩
theorem pk_eq {x y : Int32} {A B : Prop} (a b : Nat) (f : a = b → A) (g : a ≠ b → B) (hx : x = nI a := by rfl) (hy : y = nI b := by rfl) (ha : a < 2 ^ 31 := by omega) (hb : b < 2 ^ 31 := by omega) : (x = y → A) ∧ (¬ x = y → B) := by
  subst hx hy
  rw [nI_eq ha hb]
  exact ⟨f, g⟩
theorem pk_in {x : Int32} (n N : Nat) (h : n < N) (hx : x = nI n := by rfl) (hN : N < 2 ^ 31 := by omega) : vp_in x N := by
  subst hx
  exact vp_in_nI h hN
theorem pk_cl {x : Int32} (n : Nat) (hx : x = nI n := by rfl) (h : n < 2 ^ 31 := by omega) : x.toNatClampNeg = n := by
  subst hx
  exact nI_clamp h
theorem pk_tn {n : Nat} (h : n < 2 ^ 32) : (nI n).toBitVec.toNat = n := Nat.mod_eq_of_lt h
theorem pk_and (x : Int32) {m : Int32} (k : Nat) (hm : m.toBitVec.toNat = 2 ^ k - 1) : x &&& m = nI (x.toBitVec.toNat % 2 ^ k) := by
  apply Int32.toBitVec_inj.mp
  apply BitVec.eq_of_toNat_eq
  rw [Int32.toBitVec_and, BitVec.toNat_and, hm, Nat.and_two_pow_sub_one_eq_mod]
  show _ = (BitVec.ofNat 32 _).toNat
  rw [BitVec.toNat_ofNat]
  exact (Nat.mod_eq_of_lt (Nat.lt_of_le_of_lt (Nat.mod_le _ _) x.toBitVec.isLt)).symm
theorem pk_andN {n : Nat} (h : n < 2 ^ 32) {m : Int32} (k : Nat) (hm : m.toBitVec.toNat = 2 ^ k - 1) : nI n &&& m = nI (n % 2 ^ k) := by
  rw [pk_and _ k hm, pk_tn h]
theorem pk_shl (a s : Int32) (k : Nat) (hs : (s.toBitVec.smod 32).toNat = k) : (a <<< s).toBitVec.toNat = a.toBitVec.toNat * 2 ^ k % 2 ^ 32 := by
  show (a.toBitVec <<< (s.toBitVec.smod 32).toNat).toNat = _
  rw [hs, BitVec.toNat_shiftLeft, Nat.shiftLeft_eq]
theorem pk_shlN {n : Nat} (s : Int32) (k : Nat) (hs : (s.toBitVec.smod 32).toNat = k) (h : n * 2 ^ k < 2 ^ 32) : nI n <<< s = nI (n * 2 ^ k) := by
  apply Int32.toBitVec_inj.mp
  apply BitVec.eq_of_toNat_eq
  have hn : n < 2 ^ 32 := Nat.lt_of_le_of_lt (Nat.le_mul_of_pos_right n (Nat.two_pow_pos k)) h
  rw [pk_shl _ _ k hs, pk_tn hn, pk_tn h, Nat.mod_eq_of_lt h]
theorem pk_shr (a s : Int32) (k : Nat) (hs : (s.toBitVec.smod 32).toNat = k) : (a >>> s).toInt = a.toInt >>> k := by
  show (a.toBitVec.sshiftRight (s.toBitVec.smod 32).toNat).toInt = _
  rw [hs, BitVec.toInt_sshiftRight]
  rfl
theorem pk_shrN {n : Nat} (h : n < 2 ^ 31) (s : Int32) (k : Nat) (hs : (s.toBitVec.smod 32).toNat = k) : nI n >>> s = nI (n / 2 ^ k) := by
  apply Int32.toInt_inj.mp
  have h2 : n / 2 ^ k ≤ n := Nat.div_le_self _ _
  rw [pk_shr _ _ k hs, nI_toInt h, nI_toInt (by omega), Int.shiftRight_eq_div_pow]
  rfl
theorem pk_ushr (x s : Int32) (k : Nat) (hs : ((s.toUInt32 &&& Int32.toUInt32 31).toBitVec % 32).toNat = k) : (x.toUInt32 >>> (s.toUInt32 &&& Int32.toUInt32 31)).toInt32.toBitVec.toNat = x.toBitVec.toNat / 2 ^ k := by
  have e : (x.toUInt32 >>> (s.toUInt32 &&& Int32.toUInt32 31)).toInt32.toBitVec = x.toBitVec >>> k := by
    rw [← hs]
    exact UInt32.toBitVec_shiftRight _ _
  rw [e, BitVec.toNat_ushiftRight, Nat.shiftRight_eq_div_pow]
theorem pk_ushrN {n : Nat} (hn : n < 2 ^ 32) (s : Int32) (k : Nat) (hs : ((s.toUInt32 &&& Int32.toUInt32 31).toBitVec % 32).toNat = k) : ((nI n).toUInt32 >>> (s.toUInt32 &&& Int32.toUInt32 31)).toInt32 = nI (n / 2 ^ k) := by
  apply Int32.toBitVec_inj.mp
  apply BitVec.eq_of_toNat_eq
  rw [pk_ushr _ s k hs, pk_tn hn, pk_tn (Nat.lt_of_le_of_lt (Nat.div_le_self _ _) hn)]
theorem pk_vb (z : Int32) : vp_nar .byte z.toInt8.toInt32 = z.toInt8.toInt32 := by rw [vp_nar_byte]; simp
theorem pk_vs (z : Int32) : vp_nar .short z.toInt16.toInt32 = z.toInt16.toInt32 := by rw [vp_nar_short]; simp
def bt (x : Int32) (i : Nat) : Bool := x.toBitVec.getLsbD i
theorem b_ext {x y : Int32} (h : ∀ i, i < 32 → bt x i = bt y i) : x = y := Int32.toBitVec_inj.mp (BitVec.eq_of_getLsbD_eq (fun i hi => h i hi))
theorem b_or (x y : Int32) (i : Nat) : bt (x ||| y) i = (bt x i || bt y i) := by unfold bt; rw [Int32.toBitVec_or, BitVec.getLsbD_or]
theorem b_and (x y : Int32) (i : Nat) : bt (x &&& y) i = (bt x i && bt y i) := by unfold bt; rw [Int32.toBitVec_and, BitVec.getLsbD_and]
theorem b_big {x : Int32} {i : Nat} (h : 32 ≤ i) : bt x i = false := BitVec.getLsbD_of_ge _ _ h
theorem b_m1 : ∀ i, i < 32 → bt (-1) i = true := by decide +kernel
theorem b_0 (i : Nat) : bt 0 i = false := BitVec.getLsbD_zero
theorem s_l : ∀ n, n < 32 → ((nI n &&& 31).toBitVec.smod 32).toNat = n := by decide +kernel
theorem s_u : ∀ n, n < 32 → (((nI n).toUInt32 &&& Int32.toUInt32 31).toBitVec % 32).toNat = n := by decide +kernel
theorem b_shl (n : Nat) (hn : n < 32) (x : Int32) {i : Nat} (hi : i < 32) : bt (x <<< (nI n &&& 31)) i = (decide (n ≤ i) && bt x (i - n)) := by
  unfold bt
  rw [Int32.toBitVec_shiftLeft]
  show (x.toBitVec <<< ((nI n &&& 31).toBitVec.smod 32).toNat).getLsbD i = _
  rw [s_l n hn, BitVec.getLsbD_shiftLeft]
  rcases Nat.lt_or_ge i n with h | h
  · simp [h, Nat.not_le.mpr h]
  · simp [hi, h, Nat.not_lt.mpr h]
theorem b_ushr (n : Nat) (hn : n < 32) (x : Int32) (i : Nat) : bt ((x.toUInt32 >>> ((nI n).toUInt32 &&& Int32.toUInt32 31)).toInt32) i = bt x (n + i) := by
  show (x.toUInt32 >>> ((nI n).toUInt32 &&& Int32.toUInt32 31)).toBitVec.getLsbD i = x.toUInt32.toBitVec.getLsbD (n + i)
  rw [UInt32.toBitVec_shiftRight]
  show (x.toUInt32.toBitVec >>> (((nI n).toUInt32 &&& Int32.toUInt32 31).toBitVec % 32).toNat).getLsbD i = _
  rw [s_u n hn, BitVec.getLsbD_ushiftRight]
end
section
/-! the trees: no program in sight -/
theorem ml_m1 : (-1 : Int32) < 0 := by decide
theorem ml_z : (0 : Int32).toInt = 0 := by decide
def ml_b (q d : Nat) : Nat := q / 2 ^ d % 2
theorem ml_b01 (q d : Nat) : ml_b q d = 0 ∨ ml_b q d = 1 := by
  have : ml_b q d < 2 := Nat.mod_lt _ (by decide)
  omega
/-- a tree of height at most d at x: nodes below 512 that A allows, stamps falling on the way down, below b -/
def ml_T (ch st : Nat → Int32) (A : Nat → Prop) : Nat → Int → Int32 → Prop
  | 0 => fun _ x => x = -1
  | d + 1 => fun b x => x = -1 ∨ ∃ n, n < 512 ∧ A n ∧ x = nI n ∧ (st n).toInt ≤ b ∧ ml_T ch st A d (st n).toInt (ch (2 * n)) ∧ ml_T ch st A d (st n).toInt (ch (2 * n + 1))
/-- the node at depth d on the way of key q -/
def ml_lf (ch : Nat → Int32) : Nat → Int32 → Nat → Int32
  | 0 => fun x _ => x
  | d + 1 => fun x q => if x < 0 then x else ml_lf ch d (ch (2 * x.toNatClampNeg + ml_b q d)) q
/-- the nodes -/
def ml_nd (ch : Nat → Int32) : Nat → Int32 → List Nat
  | 0 => fun _ => []
  | d + 1 => fun x => if x < 0 then [] else x.toNatClampNeg :: (ml_nd ch d (ch (2 * x.toNatClampNeg)) ++ ml_nd ch d (ch (2 * x.toNatClampNeg + 1)))
/-- what f says at the leaf of key q -/
def ml_at (ch f : Nat → Int32) (d : Nat) (x : Int32) (q : Nat) : Int32 := if ml_lf ch d x q < 0 then 0 else f (ml_lf ch d x q).toNatClampNeg
section
variable {ch st ch' st' : Nat → Int32} {A A' : Nat → Prop}
theorem ml_T_neg (d : Nat) (b : Int) : ml_T ch st A d b (-1) := by
  cases d with
  | zero => rfl
  | succ d => exact Or.inl rfl
theorem ml_T_le (hA : ∀ n, A n → A' n) : ∀ (d : Nat) (b b' : Int) (x : Int32), b ≤ b' → ml_T ch st A d b x → ml_T ch st A' d b' x := by
  intro d
  induction d with
  | zero => exact fun b b' x _ h => h
  | succ d ih =>
    intro b b' x hb h
    rcases h with h | ⟨n, h1, h2, h3, h4, h5, h6⟩
    · exact Or.inl h
    · exact Or.inr ⟨n, h1, hA n h2, h3, Int.le_trans h4 hb, ih _ _ _ (Int.le_refl _) h5, ih _ _ _ (Int.le_refl _) h6⟩
/-- the two heaps are alike on A -/
def ml_Ag (A : Nat → Prop) (ch st ch' st' : Nat → Int32) : Prop := ∀ n, n < 512 → A n → ch' (2 * n) = ch (2 * n) ∧ ch' (2 * n + 1) = ch (2 * n + 1) ∧ st' n = st n
theorem ml_T_fr (h : ml_Ag A ch st ch' st') : ∀ (d : Nat) (b : Int) (x : Int32), ml_T ch st A d b x → ml_T ch' st' A d b x := by
  intro d
  induction d with
  | zero => exact fun b x h => h
  | succ d ih =>
    intro b x hT
    rcases hT with hT | ⟨n, h1, h2, h3, h4, h5, h6⟩
    · exact Or.inl hT
    · obtain ⟨e0, e1, e2⟩ := h n h1 h2
      refine Or.inr ⟨n, h1, h2, h3, by rw [e2]; exact h4, ?_, ?_⟩
      · rw [e2, e0]; exact ih _ _ h5
      · rw [e2, e1]; exact ih _ _ h6
theorem ml_lf_neg {d : Nat} {x : Int32} {q : Nat} (h : x < 0) : ml_lf ch d x q = x := by
  cases d with
  | zero => rfl
  | succ d => exact if_pos h
theorem ml_lf_node {d n q : Nat} (hn : n < 512) : ml_lf ch (d + 1) (nI n) q = ml_lf ch d (ch (2 * n + ml_b q d)) q := by
  show (if nI n < 0 then nI n else ml_lf ch d (ch (2 * (nI n).toNatClampNeg + ml_b q d)) q) = _
  rw [if_neg (nI_pos (by omega)), nI_clamp (by omega)]
theorem ml_nd_neg {d : Nat} {x : Int32} (h : x < 0) : ml_nd ch d x = [] := by
  cases d with
  | zero => rfl
  | succ d => exact if_pos h
theorem ml_nd_node {d n : Nat} (hn : n < 512) : ml_nd ch (d + 1) (nI n) = n :: (ml_nd ch d (ch (2 * n)) ++ ml_nd ch d (ch (2 * n + 1))) := by
  show (if nI n < 0 then [] else (nI n).toNatClampNeg :: (ml_nd ch d (ch (2 * (nI n).toNatClampNeg)) ++ ml_nd ch d (ch (2 * (nI n).toNatClampNeg + 1)))) = _
  rw [if_neg (nI_pos (by omega)), nI_clamp (by omega)]
theorem ml_nd_len : ∀ (d : Nat) (x : Int32), (ml_nd ch d x).length + 1 ≤ 2 ^ d := by
  intro d
  induction d with
  | zero => exact fun x => Nat.le_refl _
  | succ d ih =>
    intro x
    by_cases h : x < 0
    · rw [ml_nd_neg h]
      exact Nat.one_le_two_pow
    · have e : ml_nd ch (d + 1) x = x.toNatClampNeg :: (ml_nd ch d (ch (2 * x.toNatClampNeg)) ++ ml_nd ch d (ch (2 * x.toNatClampNeg + 1))) := if_neg h
      have h1 := ih (ch (2 * x.toNatClampNeg))
      have h2 := ih (ch (2 * x.toNatClampNeg + 1))
      rw [e, List.length_cons, List.length_append, Nat.pow_succ]
      omega
/-- a child that is written as 2 * n + (0 or 1) -/
theorem ml_Ag_s (h : ml_Ag A ch st ch' st') {n s : Nat} (h1 : n < 512) (h2 : A n) (hs : s = 0 ∨ s = 1) : ch' (2 * n + s) = ch (2 * n + s) := by
  rcases hs with rfl | rfl
  · exact (h n h1 h2).1
  · exact (h n h1 h2).2.1
theorem ml_T_s {d n s : Nat} {b : Int} (h5 : ml_T ch st A d b (ch (2 * n))) (h6 : ml_T ch st A d b (ch (2 * n + 1))) (hs : s = 0 ∨ s = 1) : ml_T ch st A d b (ch (2 * n + s)) := by
  rcases hs with rfl | rfl
  · exact h5
  · exact h6
theorem ml_lf_fr (h : ml_Ag A ch st ch' st') (q : Nat) : ∀ (d : Nat) (b : Int) (x : Int32), ml_T ch st A (d + 1) b x → ml_lf ch' d x q = ml_lf ch d x q := by
  intro d
  induction d with
  | zero => exact fun b x _ => rfl
  | succ d ih =>
    intro b x hT
    rcases hT with rfl | ⟨n, h1, h2, rfl, h4, h5, h6⟩
    · rw [ml_lf_neg ml_m1, ml_lf_neg ml_m1]
    · rw [ml_lf_node h1, ml_lf_node h1, ml_Ag_s h h1 h2 (ml_b01 q d)]
      exact ih _ _ (ml_T_s h5 h6 (ml_b01 q d))
theorem ml_nd_fr (h : ml_Ag A ch st ch' st') : ∀ (d : Nat) (b : Int) (x : Int32), ml_T ch st A d b x → ml_nd ch' d x = ml_nd ch d x := by
  intro d
  induction d with
  | zero => exact fun b x _ => rfl
  | succ d ih =>
    intro b x hT
    rcases hT with rfl | ⟨n, h1, h2, rfl, h4, h5, h6⟩
    · rw [ml_nd_neg ml_m1, ml_nd_neg ml_m1]
    · obtain ⟨e0, e1, e2⟩ := h n h1 h2
      rw [ml_nd_node h1, ml_nd_node h1, e0, e1, ih _ _ h5, ih _ _ h6]
theorem ml_T_sub : ∀ (d : Nat) (b : Int) (x : Int32), ml_T ch st A d b x → (∀ n, n ∈ ml_nd ch d x → A' n) → ml_T ch st A' d b x := by
  intro d
  induction d with
  | zero => exact fun b x h _ => h
  | succ d ih =>
    intro b x hT hA
    rcases hT with rfl | ⟨n, h1, h2, rfl, h4, h5, h6⟩
    · exact Or.inl rfl
    · rw [ml_nd_node h1] at hA
      exact Or.inr ⟨n, h1, hA n (List.mem_cons_self ..), rfl, h4, ih _ _ h5 (fun m hm => hA m (List.mem_cons_of_mem _ (List.mem_append_left _ hm))), ih _ _ h6 (fun m hm => hA m (List.mem_cons_of_mem _ (List.mem_append_right _ hm)))⟩
theorem ml_lf_T (q : Nat) : ∀ (d : Nat) (b : Int) (x : Int32), ml_T ch st A (d + 1) b x → ml_lf ch d x q = -1 ∨ ∃ n, n < 512 ∧ A n ∧ ml_lf ch d x q = nI n ∧ (st n).toInt ≤ b := by
  intro d
  induction d with
  | zero =>
    intro b x hT
    rcases hT with rfl | ⟨n, h1, h2, rfl, h4, h5, h6⟩
    · exact Or.inl rfl
    · exact Or.inr ⟨n, h1, h2, rfl, h4⟩
  | succ d ih =>
    intro b x hT
    rcases hT with rfl | ⟨n, h1, h2, rfl, h4, h5, h6⟩
    · exact Or.inl (ml_lf_neg ml_m1)
    · rw [ml_lf_node h1]
      rcases ih _ _ (ml_T_s h5 h6 (ml_b01 q d)) with e | ⟨m, g1, g2, g3, g4⟩
      · exact Or.inl e
      · exact Or.inr ⟨m, g1, g2, g3, Int.le_trans g4 h4⟩
theorem ml_lf_bits {q q' : Nat} : ∀ (d : Nat) (x : Int32), (∀ e, e < d → ml_b q e = ml_b q' e) → ml_lf ch d x q = ml_lf ch d x q' := by
  intro d
  induction d with
  | zero => exact fun x _ => rfl
  | succ d ih =>
    intro x h
    by_cases hx : x < 0
    · rw [ml_lf_neg hx, ml_lf_neg hx]
    · show (if x < 0 then x else ml_lf ch d (ch (2 * x.toNatClampNeg + ml_b q d)) q) = (if x < 0 then x else ml_lf ch d (ch (2 * x.toNatClampNeg + ml_b q' d)) q')
      rw [if_neg hx, if_neg hx, h d (Nat.lt_succ_self d)]
      exact ih _ (fun e he => h e (Nat.lt_succ_of_lt he))
end
section
variable {ch st f ch' st' f' : Nat → Int32} {A : Nat → Prop}
theorem ml_at_neg {d q : Nat} {x : Int32} (h : x < 0) : ml_at ch f d x q = 0 := by
  unfold ml_at
  rw [ml_lf_neg h, if_pos h]
theorem ml_at_of {d n q : Nat} {x : Int32} (h : ml_lf ch d x q = nI n) (hn : n < 512) : ml_at ch f d x q = f n := by
  unfold ml_at
  rw [h, if_neg (nI_pos (by omega)), nI_clamp (by omega)]
theorem ml_at_node {d n q : Nat} (hn : n < 512) : ml_at ch f (d + 1) (nI n) q = ml_at ch f d (ch (2 * n + ml_b q d)) q := by
  unfold ml_at
  rw [ml_lf_node hn]
theorem ml_at_fr (h : ml_Ag A ch st ch' st') (hf : ∀ n, n < 512 → A n → f' n = f n) (q d : Nat) (b : Int) (x : Int32) (hT : ml_T ch st A (d + 1) b x) : ml_at ch' f' d x q = ml_at ch f d x q := by
  have e := ml_lf_fr h q d b x hT
  rcases ml_lf_T q d b x hT with z | ⟨n, h1, h2, h3, h4⟩
  · unfold ml_at
    rw [e, z, if_pos ml_m1, if_pos ml_m1]
  · rw [ml_at_of h3 h1, ml_at_of (e.trans h3) h1, hf n h1 h2]
theorem ml_at_le (q d : Nat) (b : Int) (x : Int32) (hT : ml_T ch st A (d + 1) b x) : ml_at ch st d x q = 0 ∨ (ml_at ch st d x q).toInt ≤ b := by
  rcases ml_lf_T q d b x hT with z | ⟨n, h1, h2, h3, h4⟩
  · exact Or.inl (by unfold ml_at; rw [z, if_pos ml_m1])
  · exact Or.inr (by rw [ml_at_of h3 h1]; exact h4)
theorem ml_at_01 (hf : ∀ n, f n = 0 ∨ f n = 1) (d q : Nat) (x : Int32) : ml_at ch f d x q = 0 ∨ ml_at ch f d x q = 1 := by
  unfold ml_at
  by_cases h : ml_lf ch d x q < 0
  · rw [if_pos h]; exact Or.inl rfl
  · rw [if_neg h]; exact hf _
end
/-! counting -/
def ml_ct (p : Nat → Bool) : Nat → Nat
  | 0 => 0
  | n + 1 => ml_ct p n + (if p n = true then 1 else 0)
theorem ml_ct_s (p : Nat → Bool) (n : Nat) : ml_ct p (n + 1) = ml_ct p n + (if p n = true then 1 else 0) := rfl
theorem ml_ct_add (p : Nat → Bool) (a : Nat) : ∀ b, ml_ct p (a + b) = ml_ct p a + ml_ct (fun j => p (a + j)) b := by
  intro b
  induction b with
  | zero => rfl
  | succ b ih =>
    show ml_ct p (a + b) + _ = _ + (ml_ct (fun j => p (a + j)) b + _)
    rw [ih, Nat.add_assoc]
    rfl
theorem ml_ct_cg {p p' : Nat → Bool} : ∀ n, (∀ j, j < n → p j = p' j) → ml_ct p n = ml_ct p' n := by
  intro n
  induction n with
  | zero => exact fun _ => rfl
  | succ n ih =>
    intro h
    rw [ml_ct_s, ml_ct_s, ih (fun j hj => h j (Nat.lt_succ_of_lt hj)), h n (Nat.lt_succ_self n)]
theorem ml_ct_0 {p : Nat → Bool} : ∀ n, (∀ j, j < n → p j = false) → ml_ct p n = 0 := by
  intro n
  induction n with
  | zero => exact fun _ => rfl
  | succ n ih =>
    intro h
    rw [ml_ct_s, ih (fun j hj => h j (Nat.lt_succ_of_lt hj)), h n (Nat.lt_succ_self n)]
    rfl
theorem ml_ct_n {p : Nat → Bool} : ∀ n, ml_ct p n = 0 → ∀ j, j < n → p j = false := by
  intro n
  induction n with
  | zero => exact fun _ j hj => absurd hj (Nat.not_lt_zero j)
  | succ n ih =>
    intro h j hj
    rw [ml_ct_s] at h
    rcases Nat.lt_or_ge j n with z | z
    · exact ih (by omega) j z
    · have e : j = n := by omega
      subst e
      cases hp : p j with
      | false => rfl
      | true =>
        rw [hp, if_pos rfl] at h
        omega
theorem ml_ct_le (p : Nat → Bool) : ∀ n, ml_ct p n ≤ n := by
  intro n
  induction n with
  | zero => exact Nat.le_refl _
  | succ n ih =>
    rw [ml_ct_s]
    split <;> omega
theorem ml_ct_not (p : Nat → Bool) : ∀ n, ml_ct p n + ml_ct (fun j => !p j) n = n := by
  intro n
  induction n with
  | zero => rfl
  | succ n ih =>
    rw [ml_ct_s, ml_ct_s]
    cases p n <;> simp <;> omega
theorem ml_ct_one {p p' : Nat → Bool} {k : Nat} (h0 : p k = false) (h1 : p' k = true) (h : ∀ j, j ≠ k → p' j = p j) : ∀ n, ml_ct p' n = ml_ct p n + (if k < n then 1 else 0) := by
  intro n
  induction n with
  | zero => rfl
  | succ n ih =>
    rw [ml_ct_s, ml_ct_s, ih]
    by_cases e : n = k
    · subst e
      rw [h0, h1, if_neg (Nat.lt_irrefl n), if_pos (Nat.lt_succ_self n)]
      simp
    · rw [h n e]
      by_cases z : k < n
      · rw [if_pos z, if_pos (Nat.lt_succ_of_lt z)]
        omega
      · rw [if_neg z, if_neg (show ¬ k < n + 1 by omega)]
        omega
theorem ml_ct_drop (p : Nat → Bool) (a : Nat) : ∀ n, ml_ct p n ≤ ml_ct (fun j => p j && !decide (j = a)) n + (if a < n then 1 else 0) := by
  intro n
  induction n with
  | zero => exact Nat.zero_le _
  | succ n ih =>
    rw [ml_ct_s, ml_ct_s]
    by_cases e : n = a
    · subst e
      rw [if_neg (Nat.lt_irrefl n)] at ih
      rw [if_pos (Nat.lt_succ_self n)]
      split <;> omega
    · have e2 : (p n && !decide (n = a)) = p n := by simp [e]
      rw [e2]
      by_cases z : a < n
      · rw [if_pos z] at ih
        rw [if_pos (Nat.lt_succ_of_lt z)]
        omega
      · rw [if_neg z] at ih
        rw [if_neg (show ¬ a < n + 1 by omega)]
        omega
theorem ml_ct_list (n : Nat) : ∀ (M : List Nat) (p : Nat → Bool), (∀ j, j < n → p j = true → j ∈ M) → ml_ct p n ≤ M.length := by
  intro M
  induction M with
  | nil =>
    intro p h
    rw [ml_ct_0 n (fun j hj => ?_)]
    · exact Nat.zero_le _
    · cases hp : p j with
      | false => rfl
      | true => exact absurd (h j hj hp) (List.not_mem_nil)
  | cons a M ih =>
    intro p h
    have h1 := ml_ct_drop p a n
    have h2 := ih (fun j => p j && !decide (j = a)) (fun j hj hp => by
      have hp1 : p j = true ∧ ¬ j = a := by simpa using hp
      rcases List.mem_cons.mp (h j hj hp1.1) with e | e
      · exact absurd e hp1.2
      · exact e)
    rw [List.length_cons]
    have h3 : (if a < n then 1 else 0) ≤ 1 := by split <;> omega
    omega
end
section
/-! the count of keys written after a state -/
def ml_is (set : Int32) (k d : Nat) : Bool := decide (0 < ml_ct (fun j => bt set (k + j)) (2 ^ d))
def ml_cs (ch st : Nat → Int32) (s set : Int32) : Nat → Int32 → Nat → Nat
  | 0 => fun x k => if x < 0 then 0 else if st x.toNatClampNeg ≤ s then 0 else if ml_is set k 0 = true then 1 else 0
  | d + 1 => fun x k => if x < 0 then 0 else if st x.toNatClampNeg ≤ s then 0 else if ml_is set k (d + 1) = true then ml_cs ch st s set d (ch (2 * x.toNatClampNeg + 1)) (k + 2 ^ d) + ml_cs ch st s set d (ch (2 * x.toNatClampNeg)) k else 0
theorem ml_b_hi {d j : Nat} (h : j < 2 ^ d) : ml_b (2 ^ d + j) d = 1 := by
  unfold ml_b
  rw [Nat.add_div_left _ (Nat.two_pow_pos d), Nat.div_eq_of_lt h]
theorem ml_b_lo {d j : Nat} (h : j < 2 ^ d) : ml_b j d = 0 := by
  unfold ml_b
  rw [Nat.div_eq_of_lt h]
theorem ml_b_sh {d e j : Nat} (h : e < d) : ml_b (2 ^ d + j) e = ml_b j e := by
  unfold ml_b
  obtain ⟨c, rfl⟩ : ∃ c, d = e + 1 + c := ⟨d - e - 1, by omega⟩
  have e1 : 2 ^ (e + 1 + c) + j = j + 2 ^ e * (2 * 2 ^ c) := by
    rw [Nat.pow_add, Nat.pow_succ, Nat.mul_assoc, Nat.add_comm]
  rw [e1, Nat.add_mul_div_left _ _ (Nat.two_pow_pos e), Nat.add_mul_mod_self_left]
section
variable {ch st : Nat → Int32} {A : Nat → Prop}
theorem ml_cs_neg {s set : Int32} {d k : Nat} {x : Int32} (h : x < 0) : ml_cs ch st s set d x k = 0 := by
  cases d with
  | zero => exact if_pos h
  | succ d => exact if_pos h
theorem ml_cs_old {s set : Int32} {d k n : Nat} (hn : n < 512) (h : st n ≤ s) : ml_cs ch st s set d (nI n) k = 0 := by
  have e := nI_clamp (n := n) (by omega)
  cases d with
  | zero => exact (if_neg (nI_pos (by omega))).trans (if_pos (by rw [e]; exact h))
  | succ d => exact (if_neg (nI_pos (by omega))).trans (if_pos (by rw [e]; exact h))
theorem ml_cs_out {s set : Int32} {d k n : Nat} (hn : n < 512) (h : ml_is set k d = false) : ml_cs ch st s set d (nI n) k = 0 := by
  by_cases hs : st n ≤ s
  · exact ml_cs_old hn hs
  · have e := nI_clamp (n := n) (by omega)
    cases d with
    | zero => exact (if_neg (nI_pos (by omega))).trans ((if_neg (by rw [e]; exact hs)).trans (if_neg (by rw [h]; decide)))
    | succ d => exact (if_neg (nI_pos (by omega))).trans ((if_neg (by rw [e]; exact hs)).trans (if_neg (by rw [h]; decide)))
theorem ml_cs_leaf {s set : Int32} {k n : Nat} (hn : n < 512) (hs : ¬ st n ≤ s) (h : ml_is set k 0 = true) : ml_cs ch st s set 0 (nI n) k = 1 := by
  have e := nI_clamp (n := n) (by omega)
  exact (if_neg (nI_pos (by omega))).trans ((if_neg (by rw [e]; exact hs)).trans (if_pos h))
theorem ml_cs_node {s set : Int32} {d k n : Nat} (hn : n < 512) (hs : ¬ st n ≤ s) (h : ml_is set k (d + 1) = true) : ml_cs ch st s set (d + 1) (nI n) k = ml_cs ch st s set d (ch (2 * n + 1)) (k + 2 ^ d) + ml_cs ch st s set d (ch (2 * n)) k := by
  have e := nI_clamp (n := n) (by omega)
  refine (if_neg (nI_pos (by omega))).trans ((if_neg (by rw [e]; exact hs)).trans ((if_pos h).trans ?_))
  rw [e]
theorem ml_cs_law {s set : Int32} (hs : 0 ≤ s.toInt) : ∀ (d : Nat) (b : Int) (x : Int32) (k : Nat), ml_T ch st A (d + 1) b x → ml_cs ch st s set d x k = ml_ct (fun j => bt set (k + j) && decide (s.toInt < (ml_at ch st d x j).toInt)) (2 ^ d) := by
  intro d
  induction d with
  | zero =>
    intro b x k hT
    rcases hT with rfl | ⟨n, h1, h2, rfl, h4, h5, h6⟩
    · rw [ml_cs_neg ml_m1, ml_ct_0]
      intro j _
      rw [ml_at_neg ml_m1, ml_z, decide_eq_false (by omega), Bool.and_false]
    · have ea : ml_at ch st 0 (nI n) 0 = st n := ml_at_of rfl h1
      by_cases hle : st n ≤ s
      · rw [ml_cs_old h1 hle, ml_ct_0]
        intro j hj
        have hj0 : j = 0 := by
          have : j < 1 := hj
          omega
        subst hj0
        rw [ea]
        rw [Int32.le_iff_toInt_le] at hle
        rw [decide_eq_false (by omega), Bool.and_false]
      · cases hi : ml_is set k 0 with
        | false =>
          rw [ml_cs_out h1 hi, ml_ct_0]
          intro j hj
          have hc : ml_ct (fun j => bt set (k + j)) (2 ^ 0) = 0 := by
            have := of_decide_eq_false hi
            omega
          have hb : bt set (k + j) = false := ml_ct_n _ hc j hj
          rw [hb, Bool.false_and]
        | true =>
          rw [ml_cs_leaf h1 hle hi]
          have hb : bt set (k + 0) = true := by
            cases hq : bt set (k + 0) with
            | true => rfl
            | false =>
              have h9 : 0 < ml_ct (fun j => bt set (k + j)) (2 ^ 0) := of_decide_eq_true hi
              rw [ml_ct_0 (2 ^ 0) (fun j hj => by
                have hj0 : j = 0 := by
                  have : j < 1 := hj
                  omega
                subst hj0
                exact hq)] at h9
              omega
          show 1 = 0 + (if (bt set (k + 0) && decide (s.toInt < (ml_at ch st 0 (nI n) 0).toInt)) = true then 1 else 0)
          rw [Int32.le_iff_toInt_le] at hle
          rw [ea, hb, decide_eq_true (by omega)]
          rfl
  | succ d ih =>
    intro b x k hT
    rcases hT with rfl | ⟨n, h1, h2, rfl, h4, h5, h6⟩
    · rw [ml_cs_neg ml_m1, ml_ct_0]
      intro j _
      rw [ml_at_neg ml_m1, ml_z, decide_eq_false (by omega), Bool.and_false]
    · by_cases hle : st n ≤ s
      · rw [ml_cs_old h1 hle, ml_ct_0]
        intro j hj
        rw [Int32.le_iff_toInt_le] at hle
        have hT2 : ml_T ch st A (d + 2) (st n).toInt (nI n) := Or.inr ⟨n, h1, h2, rfl, Int.le_refl _, h5, h6⟩
        have hd : decide (s.toInt < (ml_at ch st (d + 1) (nI n) j).toInt) = false := by
          rcases ml_at_le j (d + 1) _ _ hT2 with z | z
          · rw [z, ml_z]; exact decide_eq_false (by omega)
          · exact decide_eq_false (by omega)
        rw [hd, Bool.and_false]
      · cases hi : ml_is set k (d + 1) with
        | false =>
          rw [ml_cs_out h1 hi, ml_ct_0]
          intro j hj
          have hc : ml_ct (fun j => bt set (k + j)) (2 ^ (d + 1)) = 0 := by
            have := of_decide_eq_false hi
            omega
          have hb : bt set (k + j) = false := ml_ct_n _ hc j hj
          rw [hb, Bool.false_and]
        | true =>
          rw [ml_cs_node h1 hle hi, ih _ _ _ h5, ih _ _ _ h6, Nat.pow_succ, Nat.mul_two, ml_ct_add, Nat.add_comm]
          congr 1
          · apply ml_ct_cg
            intro j hj
            rw [ml_at_node h1, ml_b_lo hj]
            rfl
          · apply ml_ct_cg
            intro j hj
            rw [ml_at_node h1, ml_b_hi hj, Nat.add_assoc]
            have e : ml_at ch st d (ch (2 * n + 1)) (2 ^ d + j) = ml_at ch st d (ch (2 * n + 1)) j := by
              unfold ml_at
              rw [ml_lf_bits (q := 2 ^ d + j) (q' := j) d _ (fun e he => ml_b_sh he)]
            rw [e]
end
/-! marking -/
def ml_mk (ch : Nat → Int32) : Nat → Int32 → (Nat → Int32) → (Nat → Int32)
  | 0 => fun _ m => m
  | d + 1 => fun x m => if x < 0 then m else if m x.toNatClampNeg = 0 then ml_mk ch d (ch (2 * x.toNatClampNeg)) (ml_mk ch d (ch (2 * x.toNatClampNeg + 1)) (upd m x.toNatClampNeg 1)) else m
def ml_C (ch m : Nat → Int32) (P : List Int32) : Prop := ∀ n, n < 512 → m n ≠ 0 → ∀ s, s < 2 → ch (2 * n + s) < 0 ∨ m (ch (2 * n + s)).toNatClampNeg ≠ 0 ∨ ch (2 * n + s) ∈ P
section
variable {ch st m : Nat → Int32} {A : Nat → Prop}
theorem ml_mk_neg {d : Nat} {x : Int32} (h : x < 0) : ml_mk ch d x m = m := by
  cases d with
  | zero => rfl
  | succ d => exact if_pos h
theorem ml_mk_old {d n : Nat} (hn : n < 512) (h : ¬ m n = 0) : ml_mk ch d (nI n) m = m := by
  cases d with
  | zero => rfl
  | succ d => exact (if_neg (nI_pos (by omega))).trans (if_neg (by rw [nI_clamp (by omega)]; exact h))
theorem ml_mk_new {d n : Nat} (hn : n < 512) (h : m n = 0) : ml_mk ch (d + 1) (nI n) m = ml_mk ch d (ch (2 * n)) (ml_mk ch d (ch (2 * n + 1)) (upd m n 1)) := by
  have e := nI_clamp (n := n) (by omega)
  refine (if_neg (nI_pos (by omega))).trans ((if_pos (by rw [e]; exact h)).trans ?_)
  rw [e]
theorem ml_u1 {k n : Nat} (h : m n ≠ 0) : upd m k 1 n ≠ 0 := by
  by_cases e : n = k
  · subst e
    rw [pk_us]
    decide
  · rw [pk_un e]
    exact h
theorem ml_mk_mono {n : Nat} : ∀ (d : Nat) (x : Int32) (m : Nat → Int32), m n ≠ 0 → ml_mk ch d x m n ≠ 0 := by
  intro d
  induction d with
  | zero => exact fun x m h => h
  | succ d ih =>
    intro x m h
    show (if x < 0 then m else if m x.toNatClampNeg = 0 then ml_mk ch d (ch (2 * x.toNatClampNeg)) (ml_mk ch d (ch (2 * x.toNatClampNeg + 1)) (upd m x.toNatClampNeg 1)) else m) n ≠ 0
    by_cases h1 : x < 0
    · rw [if_pos h1]; exact h
    · rw [if_neg h1]
      by_cases h2 : m x.toNatClampNeg = 0
      · rw [if_pos h2]
        exact ih _ _ (ih _ _ (ml_u1 h))
      · rw [if_neg h2]; exact h
theorem ml_mk_sub {n : Nat} : ∀ (d : Nat) (x : Int32) (m : Nat → Int32), ml_mk ch d x m n ≠ 0 → m n ≠ 0 ∨ n ∈ ml_nd ch d x := by
  intro d
  induction d with
  | zero => exact fun x m h => Or.inl h
  | succ d ih =>
    intro x m h
    by_cases h1 : x < 0
    · rw [ml_mk_neg h1] at h
      exact Or.inl h
    · have e : ml_nd ch (d + 1) x = x.toNatClampNeg :: (ml_nd ch d (ch (2 * x.toNatClampNeg)) ++ ml_nd ch d (ch (2 * x.toNatClampNeg + 1))) := if_neg h1
      have e2 : ml_mk ch (d + 1) x m = if m x.toNatClampNeg = 0 then ml_mk ch d (ch (2 * x.toNatClampNeg)) (ml_mk ch d (ch (2 * x.toNatClampNeg + 1)) (upd m x.toNatClampNeg 1)) else m := if_neg h1
      rw [e2] at h
      rw [e]
      by_cases h2 : m x.toNatClampNeg = 0
      · rw [if_pos h2] at h
        rcases ih _ _ h with z | z
        · rcases ih _ _ z with y | y
          · by_cases en : n = x.toNatClampNeg
            · subst en
              exact Or.inr (List.mem_cons_self ..)
            · rw [pk_un en] at y
              exact Or.inl y
          · exact Or.inr (List.mem_cons_of_mem _ (List.mem_append_right _ y))
        · exact Or.inr (List.mem_cons_of_mem _ (List.mem_append_left _ z))
      · rw [if_neg h2] at h
        exact Or.inl h
theorem ml_C_neg {x : Int32} {P : List Int32} (hx : x < 0) (h : ml_C ch m (x :: P)) : ml_C ch m P := by
  intro n hn hm s hs
  rcases h n hn hm s hs with z | z | z
  · exact Or.inl z
  · exact Or.inr (Or.inl z)
  · rcases List.mem_cons.mp z with e | e
    · exact Or.inl (by rw [e]; exact hx)
    · exact Or.inr (Or.inr e)
theorem ml_mk_C : ∀ (d : Nat) (b : Int) (x : Int32) (m : Nat → Int32) (P : List Int32), ml_T ch st A d b x → ml_C ch m (x :: P) → ml_C ch (ml_mk ch d x m) P ∧ (x < 0 ∨ ml_mk ch d x m x.toNatClampNeg ≠ 0) := by
  intro d
  induction d with
  | zero =>
    intro b x m P hT hC
    have e : x = -1 := hT
    subst e
    exact ⟨ml_C_neg ml_m1 hC, Or.inl ml_m1⟩
  | succ d ih =>
    intro b x m P hT hC
    rcases hT with rfl | ⟨n, h1, h2, rfl, h4, h5, h6⟩
    · rw [ml_mk_neg ml_m1]
      exact ⟨ml_C_neg ml_m1 hC, Or.inl ml_m1⟩
    · have ec := nI_clamp (n := n) (by omega)
      by_cases hm : m n = 0
      · rw [ml_mk_new h1 hm]
        have c1 : ml_C ch (upd m n 1) (ch (2 * n + 1) :: ch (2 * n) :: P) := by
          intro n' hn' hm' s hs
          by_cases en : n' = n
          · subst en
            have hs2 : s = 0 ∨ s = 1 := by omega
            rcases hs2 with rfl | rfl
            · exact Or.inr (Or.inr (List.mem_cons_of_mem _ (List.mem_cons_self ..)))
            · exact Or.inr (Or.inr (List.mem_cons_self ..))
          · rw [pk_un en] at hm'
            rcases hC n' hn' hm' s hs with z | z | z
            · exact Or.inl z
            · exact Or.inr (Or.inl (ml_u1 z))
            · rcases List.mem_cons.mp z with e | e
              · refine Or.inr (Or.inl ?_)
                rw [e, ec, pk_us]
                decide
              · exact Or.inr (Or.inr (List.mem_cons_of_mem _ (List.mem_cons_of_mem _ e)))
        have c2 := (ih _ _ _ _ h6 c1).1
        have c3 := (ih _ _ _ _ h5 c2).1
        refine ⟨c3, Or.inr ?_⟩
        rw [ec]
        refine ml_mk_mono _ _ _ (ml_mk_mono _ _ _ ?_)
        rw [pk_us]
        decide
      · rw [ml_mk_old h1 hm]
        refine ⟨?_, Or.inr (by rw [ec]; exact hm)⟩
        intro n' hn' hm' s hs
        rcases hC n' hn' hm' s hs with z | z | z
        · exact Or.inl z
        · exact Or.inr (Or.inl z)
        · rcases List.mem_cons.mp z with e | e
          · exact Or.inr (Or.inl (by rw [e, ec]; exact hm))
          · exact Or.inr (Or.inr e)
theorem ml_C_all (hC : ml_C ch m []) : ∀ (d : Nat) (b : Int) (x : Int32), ml_T ch st A d b x → (x < 0 ∨ m x.toNatClampNeg ≠ 0) → ∀ n, n ∈ ml_nd ch d x → m n ≠ 0 := by
  intro d
  induction d with
  | zero => exact fun b x _ _ n hn => absurd hn (List.not_mem_nil)
  | succ d ih =>
    intro b x hT hx n hn
    rcases hT with rfl | ⟨k, h1, h2, rfl, h4, h5, h6⟩
    · rw [ml_nd_neg ml_m1] at hn
      exact absurd hn (List.not_mem_nil)
    · rw [ml_nd_node h1] at hn
      have hk : m k ≠ 0 := by
        rcases hx with z | z
        · exact absurd z (nI_pos (by omega))
        · rw [nI_clamp (by omega)] at z
          exact z
      have hc : ∀ s, s < 2 → ch (2 * k + s) < 0 ∨ m (ch (2 * k + s)).toNatClampNeg ≠ 0 := by
        intro s hs
        rcases hC k h1 hk s hs with z | z | z
        · exact Or.inl z
        · exact Or.inr z
        · exact absurd z (List.not_mem_nil)
      rcases List.mem_cons.mp hn with e | e
      · rw [e]; exact hk
      · rcases List.mem_append.mp e with z | z
        · exact ih _ _ h5 (hc 0 (by decide)) n z
        · exact ih _ _ h6 (hc 1 (by decide)) n z
end
end
section
/-! a new way to a key -/
/-- not among the free ones -/
def ml_A (fn : Nat → Int32) (F n : Nat) : Prop := ∀ i, i < F → fn i ≠ nI n
/-- the free ones: nodes, each once -/
def ml_F (fn : Nat → Int32) (F : Nat) : Prop := (∀ i, i < F → ∃ m, m < 512 ∧ fn i = nI m) ∧ (∀ i j, i < j → j < F → fn i ≠ fn j)
theorem ml_A_le {fn : Nat → Int32} {F F' : Nat} (h : F' ≤ F) (n : Nat) (hA : ml_A fn F n) : ml_A fn F' n := fun i hi => hA i (Nat.lt_of_lt_of_le hi h)
theorem ml_F_le {fn : Nat → Int32} {F F' : Nat} (h : F' ≤ F) (hF : ml_F fn F) : ml_F fn F' := ⟨fun i hi => hF.1 i (by omega), fun i j hi hj => hF.2 i j hi (by omega)⟩
/-- the top free one isn't below -/
theorem ml_A_top {fn : Nat → Int32} {F r : Nat} (hF : ml_F fn (F + 1)) (hr : fn F = nI r) : ml_A fn F r := fun i hi e => hF.2 i F hi (Nat.lt_succ_self F) (e.trans hr.symm)
/-- what stands after d steps up: heap c, st with F free ones; y is the new tree of depth d beside the old one x; c0, st0: the heap after the leaf m0 -/
def ml_W (fn c0 st0 : Nat → Int32) (F0 m0 q : Nat) (L : Int) (d : Nat) (x : Int32) (F : Nat) (c st : Nat → Int32) (y : Int32) : Prop :=
  F + d = F0 ∧ (∃ ny, ny < 512 ∧ y = nI ny) ∧ ml_Ag (ml_A fn F0) c0 st0 c st ∧ ml_T c st (ml_A fn F) (d + 1) L y ∧
  (∀ j, (∀ e, e < d → ml_b j e = ml_b q e) → ml_lf c d y j = nI m0) ∧
  (∀ j, (¬ ∀ e, e < d → ml_b j e = ml_b q e) → ml_lf c d y j = ml_lf c0 d x j) ∧
  (∀ n, n ∈ ml_nd c (d + 1) y → n ∈ ml_nd c0 (d + 1) x ∨ n = m0 ∨ ∃ i, F ≤ i ∧ i < F0 ∧ fn i = nI n)
theorem ml_W_0 {fn c0 st0 : Nat → Int32} {F0 m0 q : Nat} {L : Int} {x : Int32} (hm : m0 < 512) (hA : ml_A fn F0 m0) (hs : (st0 m0).toInt ≤ L) (h0 : c0 (2 * m0) = -1) (h1 : c0 (2 * m0 + 1) = -1) : ml_W fn c0 st0 F0 m0 q L 0 x F0 c0 st0 (nI m0) := by
  refine ⟨rfl, ⟨m0, hm, rfl⟩, fun n _ _ => ⟨rfl, rfl, rfl⟩, Or.inr ⟨m0, hm, hA, rfl, hs, h0, h1⟩, fun j _ => rfl, fun j h => absurd (fun e he => absurd he (Nat.not_lt_zero e)) h, ?_⟩
  intro n hn
  rw [ml_nd_node hm] at hn
  rcases List.mem_cons.mp hn with e | e
  · exact Or.inr (Or.inl e)
  · rcases List.mem_append.mp e with z | z
    · exact absurd z (List.not_mem_nil)
    · exact absurd z (List.not_mem_nil)
/-- the new node's children -/
def ml_cc (c : Nat → Int32) (r s : Nat) (y o : Int32) : Nat → Int32 := upd (upd c (2 * r + s) y) (2 * r + 1 - s) o
theorem ml_cc_s {c : Nat → Int32} {r s : Nat} {y o : Int32} (hs : s = 0 ∨ s = 1) : ml_cc c r s y o (2 * r + s) = y := by
  unfold ml_cc
  rw [pk_un (by omega), pk_us]
theorem ml_cc_o {c : Nat → Int32} {r s : Nat} {y o : Int32} : ml_cc c r s y o (2 * r + 1 - s) = o := pk_us
theorem ml_cc_n {c : Nat → Int32} {r s n e : Nat} {y o : Int32} (hs : s = 0 ∨ s = 1) (he : e = 0 ∨ e = 1) (hn : n ≠ r) : ml_cc c r s y o (2 * n + e) = c (2 * n + e) := by
  unfold ml_cc
  rw [pk_un (by omega), pk_un (by omega)]
theorem ml_W_step {fn c0 st0 c st : Nat → Int32} {F0 m0 q d F r : Nat} {L : Int} {x y lst : Int32} (hF : ml_F fn F0) (hL : lst.toInt = L) (hx : ml_T c0 st0 (ml_A fn F0) (d + 2) L x)
    (hW : ml_W fn c0 st0 F0 m0 q L d (if x < 0 then x else c0 (2 * x.toNatClampNeg + ml_b q d)) (F + 1) c st y) (hr : fn F = nI r) (hr5 : r < 512) (o : Int32) (ho : o = if x < 0 then -1 else c (2 * x.toNatClampNeg + 1 - ml_b q d)) :
    ml_W fn c0 st0 F0 m0 q L (d + 1) x F (ml_cc c r (ml_b q d) y o) (upd st r lst) (nI r) := by
  obtain ⟨w1, ⟨ny, w2, w2'⟩, w3, w4, w5, w6, w7⟩ := hW
  have hb := ml_b01 q d
  have hFF : F < F0 := by omega
  have hAr : ml_A fn F r := ml_A_top (ml_F_le (by omega) hF) hr
  have hne : ∀ n, ml_A fn F0 n → n ≠ r := fun n hn e => hn F hFF (by rw [e]; exact hr)
  have hne1 : ∀ n, ml_A fn (F + 1) n → n ≠ r := fun n hn e => hn F (Nat.lt_succ_self F) (by rw [e]; exact hr)
  have a1 : ml_Ag (ml_A fn (F + 1)) c st (ml_cc c r (ml_b q d) y o) (upd st r lst) := fun n h1 h2 => ⟨ml_cc_n (e := 0) hb (Or.inl rfl) (hne1 n h2), ml_cc_n (e := 1) hb (Or.inr rfl) (hne1 n h2), pk_un (hne1 n h2)⟩
  have a0 : ml_Ag (ml_A fn F0) c0 st0 (ml_cc c r (ml_b q d) y o) (upd st r lst) := fun n h1 h2 => by
    obtain ⟨e0, e1, e2⟩ := w3 n h1 h2
    obtain ⟨g0, g1, g2⟩ := a1 n h1 (ml_A_le (by omega) n h2)
    exact ⟨g0.trans e0, g1.trans e1, g2.trans e2⟩
  have ty : ml_T (ml_cc c r (ml_b q d) y o) (upd st r lst) (ml_A fn F) (d + 1) L y := ml_T_le (ml_A_le (by omega)) _ _ _ _ (Int.le_refl _) (ml_T_fr a1 _ _ _ w4)
  -- the other side
  have key : ml_T c0 st0 (ml_A fn F0) (d + 1) L o ∧ (∀ j, ml_b j d ≠ ml_b q d → ml_lf c0 (d + 1) x j = ml_lf c0 d o j) ∧ (∀ n, n ∈ ml_nd c0 (d + 1) o → n ∈ ml_nd c0 (d + 2) x) := by
    rcases hx with rfl | ⟨n, h1, h2, rfl, h4, h5, h6⟩
    · rw [if_pos ml_m1] at ho
      subst ho
      exact ⟨ml_T_neg _ _, fun j _ => by rw [ml_lf_neg ml_m1, ml_lf_neg ml_m1], fun n hn => by rw [ml_nd_neg ml_m1] at hn; exact absurd hn (List.not_mem_nil)⟩
    · rw [if_neg (nI_pos (by omega)), nI_clamp (by omega)] at ho
      have hb2 : 1 - ml_b q d = 0 ∨ 1 - ml_b q d = 1 := by omega
      have e1 : 2 * n + 1 - ml_b q d = 2 * n + (1 - ml_b q d) := by omega
      have ho2 : o = c0 (2 * n + (1 - ml_b q d)) := by rw [ho, e1]; exact ml_Ag_s w3 h1 h2 hb2
      subst ho2
      refine ⟨ml_T_le (fun _ z => z) _ _ _ _ h4 (ml_T_s h5 h6 hb2), ?_, ?_⟩
      · intro j hj
        have hbj := ml_b01 j d
        rw [ml_lf_node h1]
        have e2 : ml_b j d = 1 - ml_b q d := by omega
        rw [e2]
      · intro m hm
        rw [ml_nd_node h1]
        rcases hb2 with e | e
        · rw [e] at hm
          exact List.mem_cons_of_mem _ (List.mem_append_left _ hm)
        · rw [e] at hm
          exact List.mem_cons_of_mem _ (List.mem_append_right _ hm)
  obtain ⟨k1, k2, k3⟩ := key
  have to : ml_T (ml_cc c r (ml_b q d) y o) (upd st r lst) (ml_A fn F) (d + 1) L o := ml_T_le (ml_A_le (by omega)) _ _ _ _ (Int.le_refl _) (ml_T_fr a0 _ _ _ k1)
  -- the same side, in the old tree
  have same : (∀ j, ml_b j d = ml_b q d → ml_lf c0 (d + 1) x j = ml_lf c0 d (if x < 0 then x else c0 (2 * x.toNatClampNeg + ml_b q d)) j) ∧ (∀ n, n ∈ ml_nd c0 (d + 1) (if x < 0 then x else c0 (2 * x.toNatClampNeg + ml_b q d)) → n ∈ ml_nd c0 (d + 2) x) := by
    by_cases hneg : x < 0
    · rw [if_pos hneg]
      exact ⟨fun j _ => by rw [ml_lf_neg hneg, ml_lf_neg hneg], fun n hn => by rw [ml_nd_neg hneg] at hn; exact absurd hn (List.not_mem_nil)⟩
    · rcases hx with rfl | ⟨n, h1, h2, rfl, h4, h5, h6⟩
      · exact absurd ml_m1 hneg
      · rw [if_neg hneg, nI_clamp (by omega)]
        refine ⟨fun j hj => by rw [ml_lf_node h1, hj], fun m hm => ?_⟩
        rw [ml_nd_node h1]
        rcases hb with e | e
        · rw [e] at hm
          exact List.mem_cons_of_mem _ (List.mem_append_left _ hm)
        · rw [e] at hm
          exact List.mem_cons_of_mem _ (List.mem_append_right _ hm)
  have hchild : ∀ e, e = 0 ∨ e = 1 → (e = ml_b q d → ml_cc c r (ml_b q d) y o (2 * r + e) = y) ∧ (e ≠ ml_b q d → ml_cc c r (ml_b q d) y o (2 * r + e) = o) := by
    intro e he
    refine ⟨fun z => by rw [z]; exact ml_cc_s hb, fun z => ?_⟩
    have e2 : 2 * r + e = 2 * r + 1 - ml_b q d := by omega
    rw [e2]
    exact ml_cc_o
  have stL : (upd st r lst r).toInt = L := by rw [pk_us]; exact hL
  have tch : ∀ e, e = 0 ∨ e = 1 → ml_T (ml_cc c r (ml_b q d) y o) (upd st r lst) (ml_A fn F) (d + 1) (upd st r lst r).toInt (ml_cc c r (ml_b q d) y o (2 * r + e)) := by
    intro e he
    rw [stL]
    by_cases z : e = ml_b q d
    · rw [(hchild e he).1 z]; exact ty
    · rw [(hchild e he).2 z]; exact to
  have lfs : ∀ j, ml_lf (ml_cc c r (ml_b q d) y o) (d + 1) (nI r) j = if ml_b j d = ml_b q d then ml_lf c d y j else ml_lf c0 d o j := by
    intro j
    rw [ml_lf_node hr5]
    by_cases z : ml_b j d = ml_b q d
    · rw [if_pos z, (hchild _ (ml_b01 j d)).1 z]
      exact ml_lf_fr a1 j _ _ _ w4
    · rw [if_neg z, (hchild _ (ml_b01 j d)).2 z]
      exact ml_lf_fr a0 j _ _ _ k1
  refine ⟨by omega, ⟨r, hr5, rfl⟩, a0, Or.inr ⟨r, hr5, hAr, rfl, by rw [stL]; exact Int.le_refl _, tch 0 (Or.inl rfl), tch 1 (Or.inr rfl)⟩, ?_, ?_, ?_⟩
  · intro j hj
    rw [lfs, if_pos (hj d (Nat.lt_succ_self d))]
    exact w5 j (fun e he => hj e (Nat.lt_succ_of_lt he))
  · intro j hj
    rw [lfs]
    by_cases z : ml_b j d = ml_b q d
    · rw [if_pos z, same.1 j z]
      refine w6 j (fun hall => hj (fun e he => ?_))
      rcases Nat.lt_or_ge e d with h | h
      · exact hall e h
      · have : e = d := by omega
        rw [this]; exact z
    · rw [if_neg z, k2 j z]
  · intro n hn
    rw [ml_nd_node hr5] at hn
    have hsub : ∀ e, e = 0 ∨ e = 1 → n ∈ ml_nd (ml_cc c r (ml_b q d) y o) (d + 1) (ml_cc c r (ml_b q d) y o (2 * r + e)) → n ∈ ml_nd c0 (d + 2) x ∨ n = m0 ∨ ∃ i, F ≤ i ∧ i < F0 ∧ fn i = nI n := by
      intro e he hm
      by_cases z : e = ml_b q d
      · rw [(hchild e he).1 z, ml_nd_fr a1 _ _ _ w4] at hm
        rcases w7 n hm with g | g | ⟨i, i1, i2, i3⟩
        · exact Or.inl (same.2 n g)
        · exact Or.inr (Or.inl g)
        · exact Or.inr (Or.inr ⟨i, by omega, i2, i3⟩)
      · rw [(hchild e he).2 z, ml_nd_fr a0 _ _ _ k1] at hm
        exact Or.inl (k3 n hm)
    rcases List.mem_cons.mp hn with e | e
    · exact Or.inr (Or.inr ⟨F, Nat.le_refl _, hFF, by rw [e]; exact hr⟩)
    · rcases List.mem_append.mp e with z | z
      · exact hsub 0 (Or.inl rfl) z
      · exact hsub 1 (Or.inr rfl) z
theorem ml_bits5 : ∀ j, j < 32 → ∀ q, q < 32 → (∀ e, e < 5 → ml_b j e = ml_b q e) → j = q := by decide +kernel
/-- what 'written' leaves: from the heap ch, lv, hv, st with F + 6 free ones and the tree x; y the new tree, F free ones left -/
def ml_R (fn : Nat → Int32) (F q : Nat) (L : Int) (v h lst : Int32) (ch lv hv st : Nat → Int32) (x : Int32) (ch' lv' hv' st' : Nat → Int32) (y : Int32) : Prop :=
  ml_Ag (ml_A fn (F + 6)) ch st ch' st' ∧ (∀ n, n < 512 → ml_A fn (F + 6) n → lv' n = lv n ∧ hv' n = hv n) ∧ ml_T ch' st' (ml_A fn F) 6 L y ∧
  (ml_at ch' lv' 5 y q = v ∧ ml_at ch' hv' 5 y q = h ∧ ml_at ch' st' 5 y q = lst) ∧
  (∀ j, j < 32 → j ≠ q → ml_at ch' lv' 5 y j = ml_at ch lv 5 x j ∧ ml_at ch' hv' 5 y j = ml_at ch hv 5 x j ∧ ml_at ch' st' 5 y j = ml_at ch st 5 x j) ∧
  (∀ n, n ∈ ml_nd ch' 6 y → n ∈ ml_nd ch 6 x ∨ ∃ i, F ≤ i ∧ i < F + 6 ∧ fn i = nI n) ∧ (∃ ny, ny < 512 ∧ y = nI ny) ∧ (∀ n, hv' n = hv n ∨ hv' n = h)
theorem ml_W_R {fn ch lv hv st c s' : Nat → Int32} {F q m0 : Nat} {L : Int} {v h lst x y : Int32} (hF : ml_F fn (F + 6)) (hq : q < 32) (hm : m0 < 512) (hm0 : fn (F + 5) = nI m0) (hx : ml_T ch st (ml_A fn (F + 6)) 6 L x)
    (hW : ml_W fn (upd (upd ch (2 * m0) (-1)) (2 * m0 + 1) (-1)) (upd st m0 lst) (F + 5) m0 q L 5 x F c s' y) :
    ml_R fn F q L v h lst ch lv hv st x c (upd lv m0 v) (upd hv m0 h) s' y := by
  obtain ⟨w1, w2, w3, w4, w5, w6, w7⟩ := hW
  have hAm : ml_A fn (F + 5) m0 := ml_A_top hF hm0
  have hne : ∀ n, ml_A fn (F + 6) n → n ≠ m0 := fun n hn e => hn (F + 5) (by omega) (by rw [e]; exact hm0)
  have a0 : ml_Ag (ml_A fn (F + 6)) ch st (upd (upd ch (2 * m0) (-1)) (2 * m0 + 1) (-1)) (upd st m0 lst) := fun n h1 h2 => by
    have := hne n h2
    exact ⟨by rw [pk_un (by omega), pk_un (by omega)], by rw [pk_un (by omega), pk_un (by omega)], pk_un this⟩
  have a1 : ml_Ag (ml_A fn (F + 6)) ch st c s' := fun n h1 h2 => by
    obtain ⟨e0, e1, e2⟩ := a0 n h1 h2
    obtain ⟨g0, g1, g2⟩ := w3 n h1 (ml_A_le (by omega) n h2)
    exact ⟨g0.trans e0, g1.trans e1, g2.trans e2⟩
  have hlf : ml_lf c 5 y q = nI m0 := w5 q (fun e _ => rfl)
  have hat : ∀ (f f' : Nat → Int32), (∀ n, n < 512 → ml_A fn (F + 6) n → f' n = f n) → ∀ j, j < 32 → j ≠ q → ml_at c f' 5 y j = ml_at ch f 5 x j := by
    intro f f' hf j hj hjq
    have e1 : ml_lf c 5 y j = ml_lf ch 5 x j := (w6 j (fun hall => hjq (ml_bits5 j hj q hq hall))).trans (ml_lf_fr a0 j 5 L x hx)
    rcases ml_lf_T j 5 L x hx with z | ⟨n, h1, h2, h3, h4⟩
    · unfold ml_at
      rw [e1, z, if_pos ml_m1, if_pos ml_m1]
    · rw [ml_at_of h3 h1, ml_at_of (e1.trans h3) h1]
      exact hf n h1 h2
  have hl : ∀ n, n < 512 → ml_A fn (F + 6) n → upd lv m0 v n = lv n := fun n _ h2 => pk_un (hne n h2)
  have hh : ∀ n, n < 512 → ml_A fn (F + 6) n → upd hv m0 h n = hv n := fun n _ h2 => pk_un (hne n h2)
  have hs : ∀ n, n < 512 → ml_A fn (F + 6) n → s' n = st n := fun n h1 h2 => (a1 n h1 h2).2.2
  refine ⟨a1, fun n h1 h2 => ⟨hl n h1 h2, hh n h1 h2⟩, w4, ⟨?_, ?_, ?_⟩, fun j hj hjq => ⟨hat lv _ hl j hj hjq, hat hv _ hh j hj hjq, hat st _ hs j hj hjq⟩, ?_, w2, fun n => by
    by_cases e : n = m0
    · exact Or.inr (by rw [e, pk_us])
    · exact Or.inl (pk_un e)⟩
  · rw [ml_at_of hlf hm, pk_us]
  · rw [ml_at_of hlf hm, pk_us]
  · rw [ml_at_of hlf hm, (w3 m0 hm hAm).2.2, pk_us]
  · intro n hn
    rcases w7 n hn with g | g | ⟨i, i1, i2, i3⟩
    · rw [ml_nd_fr a0 6 L x hx] at g
      exact Or.inl g
    · exact Or.inr ⟨F + 5, by omega, by omega, by rw [g]; exact hm0⟩
    · exact Or.inr ⟨i, i1, by omega, i3⟩
end
section
/-! the heap with all its trees, and what is counted -/
theorem ml_nI_inj {a b : Nat} (ha : a < 512) (hb : b < 512) (h : nI a = nI b) : a = b := (nI_eq (by omega) (by omega)).mp h
def ml_HP (F L : Nat) (ch lv hv st fn ro br th va : Nat → Int32) (RS BH BV : Nat → Nat → Int32) : Prop :=
  F ≤ 512 ∧ ml_F fn F ∧ (∀ n, hv n = 0 ∨ hv n = 1) ∧
  (∀ j, j < 6 → ml_T ch st (ml_A fn F) 6 (L : Int) (ro j)) ∧ (∀ t, t < 4 → ml_T ch st (ml_A fn F) 6 (L : Int) (br t)) ∧
  (∀ j, j < 6 → ∀ q, q < 32 → ml_at ch hv 5 (ro j) q = th (32 * j + q) ∧ ml_at ch lv 5 (ro j) q = va (32 * j + q) ∧ ml_at ch st 5 (ro j) q = RS j q) ∧
  (∀ t, t < 4 → ∀ q, q < 32 → ml_at ch hv 5 (br t) q = BH t q ∧ ml_at ch lv 5 (br t) q = BV t q)
def ml_CN (ch ro : Nat → Int32) (L e : Nat) : Prop := ∀ i, i < 5 → ∃ M : List Nat, M.length ≤ (if i = 4 then e else 36) ∧ ∀ n, n ∈ ml_nd ch 6 (ro ((L + 2 + i) % 6)) → n ∈ ml_nd ch 6 (ro ((L + 1 + i) % 6)) ∨ n ∈ M
section
variable {F L e : Nat} {ch lv hv st fn ro br th va : Nat → Int32} {RS BH BV : Nat → Nat → Int32}
theorem ml_CN_shift (h : ml_CN ch ro L 36) : ml_CN ch (upd ro ((L + 1) % 6) (ro (L % 6))) (L + 1) 0 := by
  intro i hi
  by_cases h4 : i = 4
  · subst h4
    refine ⟨[], Nat.zero_le _, fun n hn => Or.inl ?_⟩
    have e1 : (L + 1 + 2 + 4) % 6 = (L + 1) % 6 := by omega
    have e2 : (L + 1 + 1 + 4) % 6 = L % 6 := by omega
    rw [e1, pk_us] at hn
    rw [e2, pk_un (by omega)]
    exact hn
  · obtain ⟨M, h1, h2⟩ := h (i + 1) (by omega)
    refine ⟨M, ?_, ?_⟩
    · rw [if_neg h4]
      have : (if i + 1 = 4 then 36 else 36) = 36 := by split <;> rfl
      omega
    · rw [pk_un (by omega), pk_un (by omega)]
      have e1 : L + 1 + 2 + i = L + 2 + (i + 1) := by omega
      have e2 : L + 1 + 1 + i = L + 1 + (i + 1) := by omega
      rw [e1, e2]
      exact h2
theorem ml_CN_all (h : ml_CN ch ro L 0) : ∃ K : List Nat, K.length ≤ 207 ∧ ∀ j, j < 6 → ∀ n, n ∈ ml_nd ch 6 (ro j) → n ∈ K := by
  obtain ⟨M0, l0, s0⟩ := h 0 (by decide)
  obtain ⟨M1, l1, s1⟩ := h 1 (by decide)
  obtain ⟨M2, l2, s2⟩ := h 2 (by decide)
  obtain ⟨M3, l3, s3⟩ := h 3 (by decide)
  obtain ⟨M4, l4, s4⟩ := h 4 (by decide)
  rw [if_neg (by decide)] at l0 l1 l2 l3
  rw [if_pos rfl] at l4
  have hl := ml_nd_len (ch := ch) 6 (ro ((L + 1) % 6))
  refine ⟨ml_nd ch 6 (ro ((L + 1) % 6)) ++ (M0 ++ (M1 ++ (M2 ++ (M3 ++ M4)))), ?_, ?_⟩
  · simp only [List.length_append]
    have : (2 : Nat) ^ 6 = 64 := rfl
    omega
  · have k0 : ∀ n, n ∈ ml_nd ch 6 (ro ((L + 1) % 6)) → n ∈ ml_nd ch 6 (ro ((L + 1) % 6)) ++ (M0 ++ (M1 ++ (M2 ++ (M3 ++ M4)))) := fun n hn => List.mem_append_left _ hn
    have k1 : ∀ n, n ∈ ml_nd ch 6 (ro ((L + 2) % 6)) → n ∈ ml_nd ch 6 (ro ((L + 1) % 6)) ++ (M0 ++ (M1 ++ (M2 ++ (M3 ++ M4)))) := fun n hn => (s0 n hn).elim (k0 n) (fun z => List.mem_append_right _ (List.mem_append_left _ z))
    have k2 : ∀ n, n ∈ ml_nd ch 6 (ro ((L + 3) % 6)) → n ∈ ml_nd ch 6 (ro ((L + 1) % 6)) ++ (M0 ++ (M1 ++ (M2 ++ (M3 ++ M4)))) := fun n hn => (s1 n hn).elim (k1 n) (fun z => List.mem_append_right _ (List.mem_append_right _ (List.mem_append_left _ z)))
    have k3 : ∀ n, n ∈ ml_nd ch 6 (ro ((L + 4) % 6)) → n ∈ ml_nd ch 6 (ro ((L + 1) % 6)) ++ (M0 ++ (M1 ++ (M2 ++ (M3 ++ M4)))) := fun n hn => (s2 n hn).elim (k2 n) (fun z => List.mem_append_right _ (List.mem_append_right _ (List.mem_append_right _ (List.mem_append_left _ z))))
    have k4 : ∀ n, n ∈ ml_nd ch 6 (ro ((L + 5) % 6)) → n ∈ ml_nd ch 6 (ro ((L + 1) % 6)) ++ (M0 ++ (M1 ++ (M2 ++ (M3 ++ M4)))) := fun n hn => (s3 n hn).elim (k3 n) (fun z => List.mem_append_right _ (List.mem_append_right _ (List.mem_append_right _ (List.mem_append_right _ (List.mem_append_left _ z)))))
    have k5 : ∀ n, n ∈ ml_nd ch 6 (ro ((L + 6) % 6)) → n ∈ ml_nd ch 6 (ro ((L + 1) % 6)) ++ (M0 ++ (M1 ++ (M2 ++ (M3 ++ M4)))) := fun n hn => (s4 n hn).elim (k4 n) (fun z => List.mem_append_right _ (List.mem_append_right _ (List.mem_append_right _ (List.mem_append_right _ (List.mem_append_right _ z)))))
    intro j hj n hn
    have hc : j = (L + 1) % 6 ∨ j = (L + 2) % 6 ∨ j = (L + 3) % 6 ∨ j = (L + 4) % 6 ∨ j = (L + 5) % 6 ∨ j = (L + 6) % 6 := by omega
    rcases hc with e | e | e | e | e | e
    · rw [e] at hn; exact k0 n hn
    · rw [e] at hn; exact k1 n hn
    · rw [e] at hn; exact k2 n hn
    · rw [e] at hn; exact k3 n hn
    · rw [e] at hn; exact k4 n hn
    · rw [e] at hn; exact k5 n hn
/-- one write into the tree of the latest state -/
theorem ml_CN_wr {q : Nat} {v h lst y : Int32} {ch' lv' hv' st' : Nat → Int32} (H : ml_HP (F + 6) L ch lv hv st fn ro br th va RS BH BV) (hC : ml_CN ch ro L e)
    (hR : ml_R fn F q L v h lst ch lv hv st (ro (L % 6)) ch' lv' hv' st' y) : ml_CN ch' (upd ro (L % 6) y) L (e + 6) := by
  obtain ⟨H1, H2, H3, H4, H5, H6, H7⟩ := H
  obtain ⟨r1, r2, r3, r4, r5, r6, r7⟩ := hR
  intro i hi
  obtain ⟨M, h1, h2⟩ := hC i hi
  have hlt : ∀ a, a % 6 < 6 := fun a => Nat.mod_lt _ (by decide)
  by_cases h4 : i = 4
  · subst h4
    refine ⟨M ++ (List.range 6).map (fun i => (fn (F + i)).toNatClampNeg), ?_, ?_⟩
    · rw [if_pos rfl] at h1 ⊢
      simp only [List.length_append, List.length_map, List.length_range]
      omega
    · have e1 : (L + 2 + 4) % 6 = L % 6 := by omega
      rw [e1] at h2 ⊢
      rw [pk_us, pk_un (by omega)]
      intro n hn
      rcases r6 n hn with z | ⟨i, i1, i2, i3⟩
      · rcases h2 n z with y1 | y1
        · refine Or.inl ?_
          rw [ml_nd_fr r1 _ _ _ (H4 _ (hlt _))]
          exact y1
        · exact Or.inr (List.mem_append_left _ y1)
      · refine Or.inr (List.mem_append_right _ (List.mem_map.mpr ⟨i - F, List.mem_range.mpr (by omega), ?_⟩))
        obtain ⟨m, hm, em⟩ := H2.1 i (by omega)
        have e2 : F + (i - F) = i := by omega
        have hn5 : nI m = nI n := em.symm.trans i3
        have hnd : ∃ k, k < 512 ∧ n = k := by
          have : ∀ (d : Nat) (b : Int) (x : Int32), ml_T ch' st' (ml_A fn F) d b x → ∀ n, n ∈ ml_nd ch' d x → n < 512 := by
            intro d
            induction d with
            | zero => exact fun b x _ n hn => absurd hn (List.not_mem_nil)
            | succ d ih =>
              intro b x hT n hn
              rcases hT with rfl | ⟨k, h1, h2, rfl, h4, h5, h6⟩
              · rw [ml_nd_neg ml_m1] at hn
                exact absurd hn (List.not_mem_nil)
              · rw [ml_nd_node h1] at hn
                rcases List.mem_cons.mp hn with e | e
                · omega
                · rcases List.mem_append.mp e with z | z
                  · exact ih _ _ h5 n z
                  · exact ih _ _ h6 n z
          exact ⟨n, this 6 _ _ r3 n hn, rfl⟩
        obtain ⟨k, hk, rfl⟩ := hnd
        rw [e2, i3, nI_clamp (by omega)]
  · refine ⟨M, ?_, ?_⟩
    · rw [if_neg h4] at h1 ⊢
      exact h1
    · rw [pk_un (by omega), pk_un (by omega)]
      rw [ml_nd_fr r1 _ _ _ (H4 _ (hlt _)), ml_nd_fr r1 _ _ _ (H4 _ (hlt _))]
      exact h2
theorem ml_HP_wr {q : Nat} {v h lst y : Int32} {ch' lv' hv' st' th' va' : Nat → Int32} {RS' : Nat → Nat → Int32} {j0 : Nat} (H : ml_HP (F + 6) L ch lv hv st fn ro br th va RS BH BV)
    (hR : ml_R fn F q L v h lst ch lv hv st (ro j0) ch' lv' hv' st' y) (h01 : ∀ n, hv' n = 0 ∨ hv' n = 1)
    (g1 : ∀ j, j < 6 → ∀ a, a < 32 → ¬ (j = j0 ∧ a = q) → th' (32 * j + a) = th (32 * j + a) ∧ va' (32 * j + a) = va (32 * j + a) ∧ RS' j a = RS j a)
    (g2 : th' (32 * j0 + q) = h ∧ va' (32 * j0 + q) = v ∧ RS' j0 q = lst) : ml_HP F L ch' lv' hv' st' fn (upd ro j0 y) br th' va' RS' BH BV := by
  obtain ⟨H1, H2, H3, H4, H5, H6, H7⟩ := H
  obtain ⟨r1, r2, r3, r4, r5, r6, r7⟩ := hR
  have mono : ∀ n, ml_A fn (F + 6) n → ml_A fn F n := ml_A_le (by omega)
  have hl : ∀ n, n < 512 → ml_A fn (F + 6) n → lv' n = lv n := fun n a b => (r2 n a b).1
  have hh : ∀ n, n < 512 → ml_A fn (F + 6) n → hv' n = hv n := fun n a b => (r2 n a b).2
  have hs : ∀ n, n < 512 → ml_A fn (F + 6) n → st' n = st n := fun n a b => (r1 n a b).2.2
  refine ⟨by omega, ml_F_le (by omega) H2, h01, ?_, fun t ht => ml_T_le mono _ _ _ _ (Int.le_refl _) (ml_T_fr r1 _ _ _ (H5 t ht)), ?_, ?_⟩
  · intro j hj
    by_cases e : j = j0
    · subst e
      rw [pk_us]
      exact r3
    · rw [pk_un e]
      exact ml_T_le mono _ _ _ _ (Int.le_refl _) (ml_T_fr r1 _ _ _ (H4 j hj))
  · intro j hj a ha
    by_cases e : j = j0
    · subst e
      rw [pk_us]
      by_cases ea : a = q
      · subst ea
        rw [g2.1, g2.2.1, g2.2.2]
        exact ⟨r4.2.1, r4.1, r4.2.2⟩
      · obtain ⟨x1, x2, x3⟩ := g1 j hj a ha (fun z => ea z.2)
        obtain ⟨y1, y2, y3⟩ := r5 a ha ea
        obtain ⟨z1, z2, z3⟩ := H6 j hj a ha
        rw [x1, x2, x3]
        exact ⟨y2.trans z1, y1.trans z2, y3.trans z3⟩
    · rw [pk_un e]
      obtain ⟨x1, x2, x3⟩ := g1 j hj a ha (fun z => e z.1)
      obtain ⟨z1, z2, z3⟩ := H6 j hj a ha
      rw [x1, x2, x3]
      exact ⟨(ml_at_fr r1 hh a 5 _ _ (H4 j hj)).trans z1, (ml_at_fr r1 hl a 5 _ _ (H4 j hj)).trans z2, (ml_at_fr r1 hs a 5 _ _ (H4 j hj)).trans z3⟩
  · intro t ht a ha
    obtain ⟨z1, z2⟩ := H7 t ht a ha
    exact ⟨(ml_at_fr r1 hh a 5 _ _ (H5 t ht)).trans z1, (ml_at_fr r1 hl a 5 _ _ (H5 t ht)).trans z2⟩
/-- what the collector leaves: m the marks, fn' and F' the new free ones -/
theorem ml_HP_gc {m fn' : Nat → Int32} {F' : Nat} (H : ml_HP F L ch lv hv st fn ro br th va RS BH BV) (hC : ml_CN ch ro L 0) (c1 : ml_C ch m [])
    (c2 : ∀ j, j < 6 → ro j < 0 ∨ m (ro j).toNatClampNeg ≠ 0) (c3 : ∀ t, t < 4 → br t < 0 ∨ m (br t).toNatClampNeg ≠ 0)
    (c4 : ∀ n, n < 512 → m n ≠ 0 → (∃ j, j < 6 ∧ n ∈ ml_nd ch 6 (ro j)) ∨ ∃ t, t < 4 ∧ n ∈ ml_nd ch 6 (br t))
    (d1 : ∀ i, i < F' → ∃ k, k < 512 ∧ fn' i = nI k ∧ m k = 0) (d2 : ∀ i j, i < j → j < F' → fn' i ≠ fn' j) (d3 : F' = ml_ct (fun n => decide (m n = 0)) 512) :
    ml_HP F' L ch lv hv st fn' ro br th va RS BH BV ∧ 36 ≤ F' := by
  obtain ⟨H1, H2, H3, H4, H5, H6, H7⟩ := H
  obtain ⟨K, k1, k2⟩ := ml_CN_all hC
  have hF : ml_F fn' F' := ⟨fun i hi => by obtain ⟨k, a, b, c⟩ := d1 i hi; exact ⟨k, a, b⟩, d2⟩
  have hbig : ∀ (d : Nat) (b : Int) (x : Int32), ml_T ch st (ml_A fn F) d b x → ∀ n, n ∈ ml_nd ch d x → n < 512 := by
    intro d
    induction d with
    | zero => exact fun b x _ n hn => absurd hn (List.not_mem_nil)
    | succ d ih =>
      intro b x hT n hn
      rcases hT with rfl | ⟨k, h1, h2, rfl, h4, h5, h6⟩
      · rw [ml_nd_neg ml_m1] at hn
        exact absurd hn (List.not_mem_nil)
      · rw [ml_nd_node h1] at hn
        rcases List.mem_cons.mp hn with e | e
        · omega
        · rcases List.mem_append.mp e with z | z
          · exact ih _ _ h5 n z
          · exact ih _ _ h6 n z
  have live : ∀ x, ml_T ch st (ml_A fn F) 6 (L : Int) x → (x < 0 ∨ m x.toNatClampNeg ≠ 0) → ml_T ch st (ml_A fn' F') 6 (L : Int) x := by
    intro x hT hx
    refine ml_T_sub _ _ _ hT (fun n hn i hi e => ?_)
    obtain ⟨k, a, b, c⟩ := d1 i hi
    have : k = n := ml_nI_inj a (hbig _ _ _ hT n hn) (b.symm.trans e)
    subst this
    exact ml_C_all c1 _ _ _ hT hx k hn c
  have hct := ml_ct_list 512 (K ++ (ml_nd ch 6 (br 0) ++ (ml_nd ch 6 (br 1) ++ (ml_nd ch 6 (br 2) ++ ml_nd ch 6 (br 3))))) (fun j => !decide (m j = 0)) (fun j hj hp => by
    have hp2 : ¬ m j = 0 := by simpa using hp
    rcases c4 j hj hp2 with ⟨a, ha, hn⟩ | ⟨t, ht, hn⟩
    · exact List.mem_append_left _ (k2 a ha j hn)
    · have ht4 : t = 0 ∨ t = 1 ∨ t = 2 ∨ t = 3 := by omega
      rcases ht4 with rfl | rfl | rfl | rfl
      · exact List.mem_append_right _ (List.mem_append_left _ hn)
      · exact List.mem_append_right _ (List.mem_append_right _ (List.mem_append_left _ hn))
      · exact List.mem_append_right _ (List.mem_append_right _ (List.mem_append_right _ (List.mem_append_left _ hn)))
      · exact List.mem_append_right _ (List.mem_append_right _ (List.mem_append_right _ (List.mem_append_right _ hn))))
  have hno := ml_ct_not (fun n => decide (m n = 0)) 512
  have hle := ml_ct_le (fun n => decide (m n = 0)) 512
  have l0 := ml_nd_len (ch := ch) 6 (br 0)
  have l1 := ml_nd_len (ch := ch) 6 (br 1)
  have l2 := ml_nd_len (ch := ch) 6 (br 2)
  have l3 := ml_nd_len (ch := ch) 6 (br 3)
  simp only [List.length_append] at hct
  have h64 : (2 : Nat) ^ 6 = 64 := rfl
  rw [h64] at l0 l1 l2 l3
  refine ⟨⟨by omega, hF, H3, fun j hj => live _ (H4 j hj) (c2 j hj), fun t ht => live _ (H5 t ht) (c3 t ht), H6, H7⟩, by omega⟩
end
end
section
/-! the relation -/
def ml_TX (L : Nat) (sg bh bv : Nat → Int32) (bat wct wrt sit : Int32) (wk wv wh se vw : Nat → Int32) : Prop := ∃ w b : Nat, wct = nI w ∧ w ≤ 6 ∧ bat = nI b ∧ b ≤ L ∧
  (∀ i, i < w → ∃ q, q < 32 ∧ wk i = nI q) ∧ (∀ i j, i < j → j < w → wk i ≠ wk j) ∧ (∀ i, i < w → (wh i = 0 ∧ wv i = 0) ∨ wh i = 1) ∧ ml_ct (bt wrt) 32 = w ∧
  (∀ q, q < 32 → (bt wrt q = true ↔ ∃ i, i < w ∧ wk i = nI q)) ∧ (∀ q, q < 32 → (bt sit q = true ↔ (b : Int) < (sg q).toInt)) ∧
  (∀ q, q < 32 → ∀ i, i < w → wk i = nI q → se q = wh i ∧ vw q = wv i) ∧ (∀ q, q < 32 → (∀ i, i < w → wk i ≠ nI q) → se q = bh q ∧ vw q = bv q)
def ml_LG (L : Nat) (RS BH BV : Nat → Nat → Int32) (op ba wc wk wv wh tu se vw wr si : Nat → Int32) : Prop :=
  (∀ p, p ≤ L → L < p + 6 → ∀ q, q < 32 → (RS (p % 6) q).toInt ≤ (p : Int)) ∧
  (∀ p, p + 1 ≤ L → L < p + 6 → ∀ q, q < 32 → (bt (tu ((p + 1) % 6)) q = true → (RS ((p + 1) % 6) q).toInt = ((p + 1 : Nat) : Int)) ∧ (bt (tu ((p + 1) % 6)) q = false → RS ((p + 1) % 6) q = RS (p % 6) q)) ∧
  (∀ t, t < 4 → op t ≠ 0 → ml_TX L (RS (L % 6)) (BH t) (BV t) (ba t) (wc t) (wr t) (si t) (fun i => wk (6 * t + i)) (fun i => wv (6 * t + i)) (fun i => wh (6 * t + i)) (fun q => se (32 * t + q)) (fun q => vw (32 * t + q)))
def i_Rel (k : Nat) (u : SX) (v : SY) : Prop := match u, v with
  | (fc, ls, tp, ch, lv, hv, st, mr, fn, ro, op, ba, br, rs, wc, wk, wv, wh, sn, sk, ss), (la, th, va, tu, op', se, vw, wr, rk, si) =>
    ∃ (F L : Nat) (RS BH BV : Nat → Nat → Int32), fc = nI F ∧ ls = nI L ∧ la = nI L ∧ op' = op ∧ rk = rs ∧ 4 * L ≤ k ∧ ml_HP F L ch lv hv st fn ro br th va RS BH BV ∧ ml_CN ch ro L 36 ∧ ml_LG L RS BH BV op ba wc wk wv wh tu se vw wr si
theorem ml_el {k : Nat} {P : SX → SY → Prop} (h : ∀ (F L : Nat) (RS BH BV : Nat → Nat → Int32) (tp : Int32) (ch lv hv st mr fn ro op ba br rs wc wk wv wh sn sk ss th va tu se vw wr si : Nat → Int32), 4 * L ≤ k →
    ml_HP F L ch lv hv st fn ro br th va RS BH BV → ml_CN ch ro L 36 → ml_LG L RS BH BV op ba wc wk wv wh tu se vw wr si → P (nI F, nI L, tp, ch, lv, hv, st, mr, fn, ro, op, ba, br, rs, wc, wk, wv, wh, sn, sk, ss) (nI L, th, va, tu, op, se, vw, wr, rs, si)) {u : SX} {v : SY} (I : i_Rel k u v) : P u v := by
  obtain ⟨fc, ls, tp, ch, lv, hv, st, mr, fn, ro, op, ba, br, rs, wc, wk, wv, wh, sn, sk, ss⟩ := u
  obtain ⟨la, th, va, tu, op', se, vw, wr, rk, si⟩ := v
  obtain ⟨F, L, RS, BH, BV, e1, e2, e3, e4, e5, h1, h2, h3, h4⟩ := I
  subst e1 e2 e3 e4 e5
  exact h F L RS BH BV tp ch lv hv st mr fn ro _ ba br _ wc wk wv wh sn sk ss th va tu se vw wr si h1 h2 h3 h4
theorem ml_mkR {k : Nat} {F L : Nat} {RS BH BV : Nat → Nat → Int32} {tp : Int32} {ch lv hv st mr fn ro op ba br rs wc wk wv wh sn sk ss th va tu se vw wr si : Nat → Int32} (h1 : 4 * L ≤ k) (h2 : ml_HP F L ch lv hv st fn ro br th va RS BH BV) (h3 : ml_CN ch ro L 36) (h4 : ml_LG L RS BH BV op ba wc wk wv wh tu se vw wr si) :
    i_Rel k (nI F, nI L, tp, ch, lv, hv, st, mr, fn, ro, op, ba, br, rs, wc, wk, wv, wh, sn, sk, ss) (nI L, th, va, tu, op, se, vw, wr, rs, si) := ⟨F, L, RS, BH, BV, rfl, rfl, rfl, rfl, rfl, h1, h2, h3, h4⟩
theorem i_up {k : Nat} {u : SX} {v : SY} (h : i_Rel k u v) : i_Rel (k + 4) u v := by
  refine ml_el (P := fun u v => i_Rel (k + 4) u v) ?_ h
  intro F L RS BH BV tp ch lv hv st mr fn ro op ba br rs wc wk wv wh sn sk ss th va tu se vw wr si h1 h2 h3 h4
  exact ml_mkR (by omega) h2 h3 h4
/-- the same transaction by other names -/
theorem ml_TX_cg {L : Nat} {sg sg' bh bv bh' bv' : Nat → Int32} {bat wct wrt sit sit' : Int32} {wk wv wh se vw wk' wv' wh' se' vw' : Nat → Int32} (h : ml_TX L sg bh bv bat wct wrt sit wk wv wh se vw)
    (h1 : ∀ i, i < 6 → wk' i = wk i ∧ wv' i = wv i ∧ wh' i = wh i) (h2 : ∀ q, q < 32 → se' q = se q ∧ vw' q = vw q ∧ bh' q = bh q ∧ bv' q = bv q) (L' : Nat) (hL : L ≤ L')
    (h3 : ∀ q, q < 32 → ∀ b : Nat, b ≤ L → ((bt sit q = true ↔ (b : Int) < (sg q).toInt) → (bt sit' q = true ↔ (b : Int) < (sg' q).toInt))) : ml_TX L' sg' bh' bv' bat wct wrt sit' wk' wv' wh' se' vw' := by
  obtain ⟨w, b, a1, a2, a3, a4, a5, a6, a7, a8, a9, a10, a11, a12⟩ := h
  have k : ∀ i, i < w → wk' i = wk i := fun i hi => (h1 i (by omega)).1
  refine ⟨w, b, a1, a2, a3, by omega, ?_, ?_, ?_, a8, ?_, fun q hq => h3 q hq b a4 (a10 q hq), ?_, ?_⟩
  · intro i hi
    rw [k i hi]; exact a5 i hi
  · intro i j hi hj
    rw [k i (by omega), k j hj]; exact a6 i j hi hj
  · intro i hi
    obtain ⟨x1, x2, x3⟩ := h1 i (by omega)
    rw [x2, x3]; exact a7 i hi
  · intro q hq
    rw [a9 q hq]
    exact ⟨fun ⟨i, hi, e⟩ => ⟨i, hi, by rw [k i hi]; exact e⟩, fun ⟨i, hi, e⟩ => ⟨i, hi, by rw [← k i hi]; exact e⟩⟩
  · intro q hq i hi e
    obtain ⟨x1, x2, x3⟩ := h1 i (by omega)
    obtain ⟨y1, y2, y3, y4⟩ := h2 q hq
    rw [y1, y2, x2, x3]
    exact a11 q hq i hi (by rw [← x1]; exact e)
  · intro q hq hn
    obtain ⟨y1, y2, y3, y4⟩ := h2 q hq
    rw [y1, y2, y3, y4]
    exact a12 q hq (fun i hi => by rw [← k i hi]; exact hn i hi)
end
section
/-! numbers and indices as the print has them -/
theorem ml_r6 {L : Nat} (h : L < 2 ^ 31) : nI L - nI L / 6 * 6 = nI (L % 6) := pk_rem (d := 6) h (by decide) (by decide)
theorem ml_i32 (t q : Nat) : (32 * nI t) + nI q = nI (32 * t + q) := by
  show nI 32 * nI t + nI q = _
  rw [pk_mul, nI_add]
theorem ml_m32 (t : Nat) : 32 * nI t = nI (32 * t) := pk_mul 32 t
theorem ml_i6 (t w : Nat) : (6 * nI t) + nI w = nI (6 * t + w) := by
  show nI 6 * nI t + nI w = _
  rw [pk_mul, nI_add]
theorem ml_m6 (t : Nat) : 6 * nI t = nI (6 * t) := pk_mul 6 t
theorem ml_2n (n : Nat) : 2 * nI n = nI (2 * n) := pk_mul 2 n
theorem ml_2n1 (n : Nat) : (2 * nI n) + 1 = nI (2 * n + 1) := by rw [ml_2n, nI_1]
theorem ml_2ns (n s : Nat) : (2 * nI n) + nI s = nI (2 * n + s) := by rw [ml_2n, nI_add]
theorem ml_2no (n s : Nat) (h : s ≤ 1) : ((2 * nI n) + 1) - nI s = nI (2 * n + 1 - s) := by rw [ml_2n1, pk_sub (by omega)]
theorem ml_kb {q d : Nat} (hq : q < 32) (hd : d < 32) : (nI q >>> (nI d &&& 31)) &&& 1 = nI (ml_b q d) := by
  have h : q / 2 ^ d ≤ q := Nat.div_le_self _ _
  rw [pk_shrN (by omega) _ d (s_l d hd), pk_andN (m := 1) (by omega) 1 (by decide)]
  rfl
theorem ml_kbi {n q d : Nat} (hq : q < 32) (hd : d < 32) : (2 * nI n) + ((nI q >>> (nI d &&& 31)) &&& 1) = nI (2 * n + ml_b q d) := by rw [ml_kb hq hd, ml_2ns]
/-- a pointer -/
def ml_P (x : Int32) : Prop := x = -1 ∨ ∃ n, n < 512 ∧ x = nI n
theorem ml_s512 : ∀ n, n < 512 → (nI n).toInt16.toInt32 = nI n := by decide +kernel
theorem ml_sP {x : Int32} (h : ml_P x) : x.toInt16.toInt32 = x := by
  rcases h with rfl | ⟨n, hn, rfl⟩
  · decide
  · exact ml_s512 n hn
theorem ml_ns {x : Int32} (h : ml_P x) : vp_nar .short x = x := by rw [vp_nar_short, ml_sP h]
theorem ml_nss {x : Int32} (h : ml_P x) : vp_nar .short x.toInt16.toInt32 = x := by rw [pk_vs, ml_sP h]
theorem ml_P1 : ml_P (-1) := Or.inl rfl
theorem ml_nsm : vp_nar .short (-1) = -1 := ml_ns ml_P1
theorem ml_b64 : ∀ n, n < 64 → (nI n).toInt8.toInt32 = nI n := by decide +kernel
theorem ml_nbb {n : Nat} (h : n < 64) : vp_nar .byte (nI n).toInt8.toInt32 = nI n := by rw [pk_vb, ml_b64 n h]
theorem ml_nb0 : vp_nar .boolean 0 = 0 := rfl
theorem ml_nb1 : vp_nar .boolean 1 = 1 := rfl
theorem ml_nb {x : Int32} (h : x = 0 ∨ x = 1) : vp_nar .boolean x = x := by
  rcases h with rfl | rfl
  · rfl
  · rfl
theorem ml_T_P {ch st : Nat → Int32} {A : Nat → Prop} {d : Nat} {b : Int} {x : Int32} (h : ml_T ch st A d b x) : ml_P x := by
  cases d with
  | zero => exact Or.inl h
  | succ d =>
    rcases h with h | ⟨n, h1, h2, h3, _⟩
    · exact Or.inl h
    · exact Or.inr ⟨n, h1, h3⟩
theorem ml_nu {a : Nat → Int32} {i n : Nat} {v w : Int32} {P : (Nat → Int32) → Prop} (hi : i = n) (hv : v = w) (h : P (upd a n w)) : ∀ x, x = upd a i v → P x := fun x ex => by rw [ex, hi, hv]; exact h
theorem ml_6n : ¬ (6 : Int32) = 0 := by decide
theorem ml_2z : ¬ (2 : Int32) = 0 := by decide
theorem ml_10 : ¬ (1 : Int32) = 0 := by decide
/-- one bit -/
theorem ml_bt1 : ∀ i, i < 32 → bt 1 i = decide (i = 0) := by decide +kernel
theorem ml_bit1 (x : Int32) {j : Nat} (hj : j < 32) : (((x.toUInt32 >>> ((nI j).toUInt32 &&& Int32.toUInt32 31)).toInt32) &&& 1) = 1 ↔ bt x j = true := by
  constructor
  · intro h
    have e := congrArg (fun z => bt z 0) h
    rw [b_and, b_ushr j hj, ml_bt1 0 (by decide)] at e
    simpa using e
  · intro h
    apply b_ext
    intro i hi
    rw [b_and, b_ushr j hj, ml_bt1 i hi]
    by_cases z : i = 0
    · subst z
      rw [Nat.add_zero, h]
      rfl
    · rw [decide_eq_false z, Bool.and_false]
theorem ml_btset (x : Int32) {q : Nat} (hq : q < 32) {j : Nat} (hj : j < 32) : bt (x ||| ((1 : Int32) <<< (nI q &&& 31))) j = (bt x j || decide (j = q)) := by
  rw [b_or, b_shl q hq 1 hj]
  congr 1
  by_cases h : q ≤ j
  · rw [decide_eq_true h, Bool.true_and, ml_bt1 (j - q) (by omega)]
    exact decide_eq_decide.mpr (by omega)
  · rw [decide_eq_false h, Bool.false_and, decide_eq_false (by omega)]
theorem ml_btmask : ∀ d, d < 5 → ∀ i, i < 32 → bt (((1 : Int32) <<< (nI (2 ^ d) &&& 31)) - 1) i = decide (i < 2 ^ d) := by decide +kernel
/-- the part of a set below a node -/
theorem ml_isz (set : Int32) {k d : Nat} (hk : k < 32) (hd : d < 5) : (((set.toUInt32 >>> ((nI k).toUInt32 &&& Int32.toUInt32 31)).toInt32) &&& (((1 : Int32) <<< (nI (2 ^ d) &&& 31)) - 1)) = 0 ↔ ml_is set k d = false := by
  have h32 : 2 ^ d ≤ 16 := by
    have : d = 0 ∨ d = 1 ∨ d = 2 ∨ d = 3 ∨ d = 4 := by omega
    rcases this with rfl | rfl | rfl | rfl | rfl <;> decide
  constructor
  · intro h
    have h0 : ml_ct (fun j => bt set (k + j)) (2 ^ d) = 0 := by
      apply ml_ct_0
      intro j hj
      have e := congrArg (fun z => bt z j) h
      rw [b_and, b_ushr k hk, ml_btmask d hd j (by omega), b_0, decide_eq_true hj, Bool.and_true] at e
      exact e
    unfold ml_is
    rw [h0]
    rfl
  · intro h
    have h0 : ml_ct (fun j => bt set (k + j)) (2 ^ d) = 0 := by
      have := of_decide_eq_false h
      omega
    apply b_ext
    intro i hi
    rw [b_and, b_ushr k hk, ml_btmask d hd i hi, b_0]
    by_cases z : i < 2 ^ d
    · have := ml_ct_n _ h0 i z
      rw [this, Bool.false_and]
    · rw [decide_eq_false z, Bool.and_false]
theorem ml_isz5 (set : Int32) : set = 0 ↔ ml_is set 0 5 = false := by
  constructor
  · intro h
    have h0 : ml_ct (fun j => bt set (0 + j)) (2 ^ 5) = 0 := ml_ct_0 _ (fun j _ => by rw [h]; exact b_0 _)
    unfold ml_is
    rw [h0]
    rfl
  · intro h
    have h0 : ml_ct (fun j => bt set (0 + j)) (2 ^ 5) = 0 := by
      have := of_decide_eq_false h
      omega
    apply b_ext
    intro i hi
    have := ml_ct_n _ h0 i hi
    rw [Nat.zero_add] at this
    rw [this, b_0]
/-- a counter that falls: d turns are left -/
def ml_k : Nat → Int32
  | 0 => -1
  | d + 1 => nI d
theorem ml_kd (d : Nat) : nI d + (-1) = ml_k d := by
  cases d with
  | zero => decide
  | succ d => exact pk_m1 d
end
section
/-! the reference: small methods, begin, give, read, peek -/
theorem ml_n3 {t : Nat} (h : t < 4) : ¬ (3 : Int32) < nI t := nI_nlt (a := 3) (by omega) (by decide)
theorem ml_n31 {q : Nat} (h : q < 32) : ¬ (31 : Int32) < nI q := nI_nlt (a := 31) (by omega) (by decide)
theorem ml_l3 {t : Nat} (h : t < 4) : nI t ≤ (3 : Int32) := nI_le (b := 3) (by omega) (by decide)
theorem ml_l31 {q : Nat} (h : q < 32) : nI q ≤ (31 : Int32) := nI_le (b := 31) (by omega) (by decide)
theorem ml_tc (x : Int32) : (x < 0 ∨ 3 < x) ∨ ∃ t, t < 4 ∧ x = nI t := by
  by_cases h : x < 0
  · exact Or.inl (Or.inl h)
  · obtain ⟨j, hj, rfl⟩ := nI_of h
    by_cases h2 : j < 4
    · exact Or.inr ⟨j, h2, rfl⟩
    · exact Or.inl (Or.inr (nI_lt (a := 3) (by omega) hj))
theorem ml_kc (x : Int32) : (x < 0 ∨ 31 < x) ∨ ∃ q, q < 32 ∧ x = nI q := by
  by_cases h : x < 0
  · exact Or.inl (Or.inl h)
  · obtain ⟨j, hj, rfl⟩ := nI_of h
    by_cases h2 : j < 32
    · exact Or.inr ⟨j, h2, rfl⟩
    · exact Or.inl (Or.inr (nI_lt (a := 31) (by omega) hj))
theorem ml_sc (x : Int32) {L : Nat} (hL : L < 2 ^ 31) : x < 0 ∨ nI L < x ∨ ∃ s, s ≤ L ∧ x = nI s := by
  by_cases h : x < 0
  · exact Or.inl h
  · obtain ⟨j, hj, rfl⟩ := nI_of h
    by_cases h2 : j ≤ L
    · exact Or.inr (Or.inr ⟨j, h2, rfl⟩)
    · exact Or.inr (Or.inl (nI_lt (by omega) hj))
theorem ml_kp {s L : Nat} (hs : s < 2 ^ 30) (hL : L < 2 ^ 30) : nI s ≤ nI L - 6 ↔ s + 6 ≤ L := by
  have e : (nI L - 6).toInt = (L : Int) - 6 := pk_sub_toInt (b := 6) hL (by decide)
  rw [Int32.le_iff_toInt_le, e, nI_toInt (by omega)]
  omega
section
variable {la : Int32} {th va tu op se vw wr rs si : Nat → Int32} {t q : Nat}
theorem ml_ytb {post : Int32 → Prop} {x : Int32} (h : x < 0 ∨ 3 < x) (hp : post 0) : wpY_isTransaction post (la, th, va, tu, op, se, vw, wr, rs, si) x := by
  by_cases h0 : x < 0
  · exact br_t h0 hp
  · exact br_f h0 (br_t (h.resolve_left h0) hp)
theorem ml_yto {post : Int32 → Prop} (ht : t < 4) (hp : post 1) : wpY_isTransaction post (la, th, va, tu, op, se, vw, wr, rs, si) (nI t) := br_f (nI_pos (by omega)) (br_f (ml_n3 ht) hp)
theorem ml_ykb {post : Int32 → Prop} {x : Int32} (h : x < 0 ∨ 31 < x) (hp : post 0) : wpY_isKey post (la, th, va, tu, op, se, vw, wr, rs, si) x := by
  by_cases h0 : x < 0
  · exact br_t h0 hp
  · exact br_f h0 (br_t (h.resolve_left h0) hp)
theorem ml_yko {post : Int32 → Prop} (hq : q < 32) (hp : post 1) : wpY_isKey post (la, th, va, tu, op, se, vw, wr, rs, si) (nI q) := br_f (nI_pos (by omega)) (br_f (ml_n31 hq) hp)
theorem ml_yin {post : Int32 → Prop} {x : Int32} (hq : q < 32) (h1 : bt x q = true → post 1) (h0 : bt x q = false → post 0) : wpY_in post (la, th, va, tu, op, se, vw, wr, rs, si) x (nI q) := by
  refine br_c (fun z => h1 ((ml_bit1 x hq).mp z)) (fun z => h0 ?_)
  cases hb : bt x q with
  | false => rfl
  | true => exact absurd ((ml_bit1 x hq).mpr hb) z
theorem ml_ysz_l {post : Int32 → Prop} {x : Int32} (hp : post (nI (ml_ct (bt x) 32))) : ∀ d j, j + d = 32 → wY_sizeOf_4 post x la th va tu op se vw wr rs si (d + 1) (nI (ml_ct (bt x) j)) (nI j) := by
  intro d
  induction d with
  | zero =>
    intro j hj
    have e : j = 32 := by omega
    subst e
    exact br_t (nI_le (a := 32) (b := 32) (Nat.le_refl _) (by decide)) hp
  | succ d ih =>
    intro j hj
    refine br_f (nI_ge (a := j) (b := 32) (by omega) (by decide)) (ml_yin (by omega) (fun hb => br_f ml_10 ?_) (fun hb => br_t rfl ?_))
    · have e : ml_ct (bt x) (j + 1) = ml_ct (bt x) j + 1 := by rw [ml_ct_s, hb]; rfl
      exact nm_r (e' := nI (ml_ct (bt x) (j + 1))) (by rw [e, nI_1]) (nm_r (nI_1 j) (ih (j + 1) (by omega)))
    · have e : ml_ct (bt x) (j + 1) = ml_ct (bt x) j := by rw [ml_ct_s, hb]; rfl
      refine nm_r (nI_1 j) ?_
      rw [← e]
      exact ih (j + 1) (by omega)
theorem ml_ysz {post : Int32 → Prop} {x : Int32} (hp : post (nI (ml_ct (bt x) 32))) : wpY_sizeOf post (la, th, va, tu, op, se, vw, wr, rs, si) x := ⟨33, ml_ysz_l hp 32 0 rfl⟩
end
section
variable {la : Int32} {th va tu op se vw wr rs si : Nat → Int32} {t q L : Nat}
theorem ml_ybg_l {post : Int32 → SY → Prop} (ht : t < 4) (hL : L < 2 ^ 31) (h01 : ∀ q, q < 32 → th (32 * (L % 6) + q) = 0 ∨ th (32 * (L % 6) + q) = 1)
    (hp : ∀ se' vw', (∀ q, q < 32 → se' (32 * t + q) = th (32 * (L % 6) + q) ∧ vw' (32 * t + q) = va (32 * (L % 6) + q)) → (∀ n, (n < 32 * t ∨ 32 * t + 32 ≤ n) → se' n = se n ∧ vw' n = vw n) → post (nI L) (nI L, th, va, tu, op, se', vw', wr, rs, si)) :
    ∀ d j se' vw', j + d = 32 → (∀ q, q < j → se' (32 * t + q) = th (32 * (L % 6) + q) ∧ vw' (32 * t + q) = va (32 * (L % 6) + q)) → (∀ n, (n < 32 * t ∨ 32 * t + j ≤ n) → se' n = se n ∧ vw' n = vw n) → wY_begin_52 post (nI t) (nI L) (d + 1) (nI j) th va tu op se' vw' wr rs si := by
  have h6 : L % 6 < 6 := Nat.mod_lt _ (by decide)
  intro d
  induction d with
  | zero =>
    intro j se' vw' hj h1 h2
    have e : j = 32 := by omega
    subst e
    exact br_t (nI_le (a := 32) (b := 32) (Nat.le_refl _) (by decide)) (hp se' vw' h1 h2)
  | succ d ih =>
    intro j se' vw' hj h1 h2
    have e1 : (32 * (nI L - nI L / 6 * 6)) + nI j = nI (32 * (L % 6) + j) := by rw [ml_r6 hL, ml_i32]
    have e2 := ml_i32 t j
    have i1 := pk_in (32 * (L % 6) + j) 192 (by omega) e1
    have i2 := pk_in (32 * t + j) 128 (by omega) e2
    have c1 := pk_cl (32 * (L % 6) + j) e1 (by omega)
    have c2 := pk_cl (32 * t + j) e2 (by omega)
    refine br_f (nI_ge (a := j) (b := 32) (by omega) (by decide)) ⟨ml_6n, i1, i2, ml_nu c2 (w := th (32 * (L % 6) + j)) (by rw [c1, ml_nb (h01 j (by omega))]) ⟨ml_6n, i1, i2, ml_nu c2 (w := va (32 * (L % 6) + j)) (by rw [c1]) (nm_r (nI_1 j) (ih (j + 1) _ _ (by omega) ?_ ?_))⟩⟩
    · intro q hq
      by_cases z : q = j
      · subst z
        exact ⟨pk_us, pk_us⟩
      · rw [pk_un (by omega), pk_un (by omega)]
        exact h1 q (by omega)
    · intro n hn
      rw [pk_un (by omega), pk_un (by omega)]
      exact h2 n (by omega)
theorem ml_ybg {post : Int32 → SY → Prop} (ht : t < 4) (hL : L < 2 ^ 31) (h01 : ∀ q, q < 32 → th (32 * (L % 6) + q) = 0 ∨ th (32 * (L % 6) + q) = 1) (ho : op t = 0)
    (hp : ∀ se' vw', (∀ q, q < 32 → se' (32 * t + q) = th (32 * (L % 6) + q) ∧ vw' (32 * t + q) = va (32 * (L % 6) + q)) → (∀ n, (n < 32 * t ∨ 32 * t + 32 ≤ n) → se' n = se n ∧ vw' n = vw n) → post (nI L) (nI L, th, va, tu, upd op t 1, se', vw', upd wr t 0, upd rs t 0, upd si t 0)) :
    wpY_begin post (nI L, th, va, tu, op, se, vw, wr, rs, si) (nI t) := by
  unfold wpY_begin
  dsimp only
  have ti := vp_in_nI (n := t) (N := 4) ht (by decide)
  have tc := nI_clamp (n := t) (by omega)
  exact ml_yto ht (br_f ml_10 ⟨ti, br_t (by rw [tc]; exact ho) ⟨ti, ml_nu tc ml_nb1 ⟨ti, ml_nu tc rfl ⟨ti, ml_nu tc rfl ⟨ti, ml_nu tc rfl ⟨33, ml_ybg_l ht hL h01 hp 32 0 se vw rfl (fun q hq => absurd hq (Nat.not_lt_zero q)) (fun n _ => ⟨rfl, rfl⟩)⟩⟩⟩⟩⟩⟩)
theorem ml_ybg_b {post : Int32 → SY → Prop} {x : Int32} (h : x < 0 ∨ 3 < x) (hp : post (-1) (la, th, va, tu, op, se, vw, wr, rs, si)) : wpY_begin post (la, th, va, tu, op, se, vw, wr, rs, si) x := by
  unfold wpY_begin
  dsimp only
  exact ml_ytb h (br_t rfl hp)
theorem ml_ybg_o {post : Int32 → SY → Prop} (ht : t < 4) (ho : op t ≠ 0) (hp : post (-2) (la, th, va, tu, op, se, vw, wr, rs, si)) : wpY_begin post (la, th, va, tu, op, se, vw, wr, rs, si) (nI t) :=by
  unfold wpY_begin
  dsimp only
  exact ml_yto ht (br_f ml_10 ⟨vp_in_nI ht (by decide), br_f (by rw [nI_clamp (by omega)]; exact ho) hp⟩)
/-! give -/
theorem ml_ygv_b {post : Int32 → SY → Prop} {x y : Int32} (z v : Int32) (h : (x < 0 ∨ 3 < x) ∨ (y < 0 ∨ 31 < y)) (hp : post (-1) (la, th, va, tu, op, se, vw, wr, rs, si)) : wpY_give post (la, th, va, tu, op, se, vw, wr, rs, si) x y z v := by
  unfold wpY_give
  dsimp only
  rcases ml_tc x with h1 | ⟨t, ht, rfl⟩
  · exact ml_ytb h1 (br_t rfl hp)
  · refine ml_yto ht (br_f ml_10 (ml_ykb (h.resolve_left ?_) (br_t rfl hp)))
    rintro (z | z)
    · exact nI_pos (by omega) z
    · exact ml_n3 ht z
theorem ml_ygv_c {post : Int32 → SY → Prop} (z v : Int32) (ht : t < 4) (hq : q < 32) (ho : op t = 0) (hp : post (-3) (la, th, va, tu, op, se, vw, wr, rs, si)) : wpY_give post (la, th, va, tu, op, se, vw, wr, rs, si) (nI t) (nI q) z v :=by
  unfold wpY_give
  dsimp only
  exact ml_yto ht (br_f ml_10 (ml_yko hq (br_f ml_10 ⟨vp_in_nI ht (by decide), br_t (by rw [nI_clamp (by omega)]; exact ho) hp⟩)))
theorem ml_ygv_66 {post : Int32 → SY → Prop} {z v : Int32} (ht : t < 4) (hq : q < 32) (hz : z = 0 ∨ z = 1)
    (hp : post (nI (ml_ct (bt (wr t ||| ((1 : Int32) <<< (nI q &&& 31)))) 32)) (la, th, va, tu, op, upd se (32 * t + q) z, upd vw (32 * t + q) v, upd wr t (wr t ||| ((1 : Int32) <<< (nI q &&& 31))), rs, si)) : wY_give_66 post (nI t) (nI q) z v la th va tu op se vw wr rs si := by
  have ti := vp_in_nI (n := t) (N := 4) ht (by decide)
  have tc := nI_clamp (n := t) (by omega)
  have e2 := ml_i32 t q
  have i2 := pk_in (32 * t + q) 128 (by omega) e2
  have c2 := pk_cl (32 * t + q) e2 (by omega)
  unfold wY_give_66
  refine ⟨ti, ti, ml_nu tc (w := wr t ||| ((1 : Int32) <<< (nI q &&& 31))) (by rw [tc]) ⟨i2, ml_nu c2 (ml_nb hz) ⟨i2, ml_nu c2 rfl ⟨ti, ?_⟩⟩⟩⟩
  rw [tc, pk_us]
  exact ml_ysz hp
theorem ml_ygv {post : Int32 → SY → Prop} {z v : Int32} (ht : t < 4) (hq : q < 32) (ho : op t ≠ 0) (hz : z = 0 ∨ z = 1)
    (hf : bt (wr t) q = false → ml_ct (bt (wr t)) 32 = 6 → post (-4) (la, th, va, tu, op, se, vw, wr, rs, si))
    (hp : (bt (wr t) q = false → ml_ct (bt (wr t)) 32 ≠ 6) → post (nI (ml_ct (bt (wr t ||| ((1 : Int32) <<< (nI q &&& 31)))) 32)) (la, th, va, tu, op, upd se (32 * t + q) z, upd vw (32 * t + q) v, upd wr t (wr t ||| ((1 : Int32) <<< (nI q &&& 31))), rs, si)) : wpY_give post (la, th, va, tu, op, se, vw, wr, rs, si) (nI t) (nI q) z v := by
  unfold wpY_give
  dsimp only
  have ti := vp_in_nI (n := t) (N := 4) ht (by decide)
  have tc := nI_clamp (n := t) (by omega)
  have hle := ml_ct_le (bt (wr t)) 32
  refine ml_yto ht (br_f ml_10 (ml_yko hq (br_f ml_10 ⟨ti, br_f (by rw [tc]; exact ho) ⟨ti, ?_⟩⟩)))
  rw [tc]
  refine ml_ysz ⟨ti, ml_yin hq (fun hb => br_f ml_10 (ml_ygv_66 ht hq hz (hp (fun z => by rw [hb] at z; cases z)))) (fun hb => br_t rfl (pk_eq (ml_ct (bt (wr t)) 32) 6 (fun e => hf hb e) (fun e => ml_ygv_66 ht hq hz (hp (fun _ => e)))))⟩
/-! read, peek, countRange -/
theorem ml_yrd_b {post : Int32 → SY → Prop} {x y : Int32} (h : (x < 0 ∨ 3 < x) ∨ (y < 0 ∨ 31 < y)) (hp : post (-1) (la, th, va, tu, op, se, vw, wr, rs, si)) : wpY_read post (la, th, va, tu, op, se, vw, wr, rs, si) x y := by
  unfold wpY_read
  dsimp only
  rcases ml_tc x with h1 | ⟨t, ht, rfl⟩
  · exact ml_ytb h1 (br_t rfl hp)
  · refine ml_yto ht (br_f ml_10 (ml_ykb (h.resolve_left ?_) (br_t rfl hp)))
    rintro (z | z)
    · exact nI_pos (by omega) z
    · exact ml_n3 ht z
theorem ml_yrd_c {post : Int32 → SY → Prop} (ht : t < 4) (hq : q < 32) (ho : op t = 0) (hp : post (-3) (la, th, va, tu, op, se, vw, wr, rs, si)) : wpY_read post (la, th, va, tu, op, se, vw, wr, rs, si) (nI t) (nI q) :=by
  unfold wpY_read
  dsimp only
  exact ml_yto ht (br_f ml_10 (ml_yko hq (br_f ml_10 ⟨vp_in_nI ht (by decide), br_t (by rw [nI_clamp (by omega)]; exact ho) hp⟩)))
theorem ml_yrd {post : Int32 → SY → Prop} (ht : t < 4) (hq : q < 32) (ho : op t ≠ 0) (h01 : se (32 * t + q) = 0 ∨ se (32 * t + q) = 1)
    (hp : post (se (32 * t + q)) (la, th, va, tu, op, se, vw, wr, upd rs t (rs t ||| ((1 : Int32) <<< (nI q &&& 31))), si)) : wpY_read post (la, th, va, tu, op, se, vw, wr, rs, si) (nI t) (nI q) := by
  unfold wpY_read
  dsimp only
  have ti := vp_in_nI (n := t) (N := 4) ht (by decide)
  have tc := nI_clamp (n := t) (by omega)
  have e2 := ml_i32 t q
  have i2 := pk_in (32 * t + q) 128 (by omega) e2
  have c2 := pk_cl (32 * t + q) e2 (by omega)
  refine ml_yto ht (br_f ml_10 (ml_yko hq (br_f ml_10 ⟨ti, br_f (by rw [tc]; exact ho) ⟨ti, ti, ml_nu tc (w := rs t ||| ((1 : Int32) <<< (nI q &&& 31))) (by rw [tc]) ⟨i2, ?_⟩⟩⟩)))
  rw [c2]
  rcases h01 with e | e
  · rw [e] at hp ⊢
    exact br_t rfl hp
  · rw [e] at hp ⊢
    exact br_f ml_10 hp
theorem ml_ypk_b {post : Int32 → Prop} {x y : Int32} (h : (x < 0 ∨ 3 < x) ∨ (y < 0 ∨ 31 < y)) (hp : post 0) : wpY_peek post (la, th, va, tu, op, se, vw, wr, rs, si) x y := by
  unfold wpY_peek
  dsimp only
  rcases ml_tc x with h1 | ⟨t, ht, rfl⟩
  · exact ml_ytb h1 (br_t rfl hp)
  · refine ml_yto ht (br_f ml_10 (ml_ykb (h.resolve_left ?_) (br_t rfl hp)))
    rintro (z | z)
    · exact nI_pos (by omega) z
    · exact ml_n3 ht z
theorem ml_ypk_c {post : Int32 → Prop} (ht : t < 4) (hq : q < 32) (ho : op t = 0) (hp : post 0) : wpY_peek post (la, th, va, tu, op, se, vw, wr, rs, si) (nI t) (nI q) :=by
  unfold wpY_peek
  dsimp only
  exact ml_yto ht (br_f ml_10 (ml_yko hq (br_f ml_10 ⟨vp_in_nI ht (by decide), br_t (by rw [nI_clamp (by omega)]; exact ho) hp⟩)))
theorem ml_ypk {post : Int32 → Prop} (ht : t < 4) (hq : q < 32) (ho : op t ≠ 0) (h0 : se (32 * t + q) = 0 → post 0) (h1 : se (32 * t + q) ≠ 0 → post (vw (32 * t + q))) : wpY_peek post (la, th, va, tu, op, se, vw, wr, rs, si) (nI t) (nI q) := by
  unfold wpY_peek
  dsimp only
  have ti := vp_in_nI (n := t) (N := 4) ht (by decide)
  have tc := nI_clamp (n := t) (by omega)
  have e2 := ml_i32 t q
  have i2 := pk_in (32 * t + q) 128 (by omega) e2
  have c2 := pk_cl (32 * t + q) e2 (by omega)
  refine ml_yto ht (br_f ml_10 (ml_yko hq (br_f ml_10 ⟨ti, br_f (by rw [tc]; exact ho) ⟨i2, ?_⟩⟩)))
  rw [c2]
  exact br_c h0 (fun z => ⟨i2, h1 z⟩)
end
/-- the read sets after n keys from lo -/
def ml_rr (rs : Nat → Int32) (t lo : Nat) : Nat → (Nat → Int32)
  | 0 => rs
  | n + 1 => upd (ml_rr rs t lo n) t (ml_rr rs t lo n t ||| ((1 : Int32) <<< (nI (lo + n) &&& 31)))
section
variable {la : Int32} {th va tu op se vw wr rs si : Nat → Int32} {t lo hi : Nat}
theorem ml_ycr_l {post : Int32 → SY → Prop} (ht : t < 4) (ho : op t ≠ 0) (hlo : lo ≤ hi) (hhi : hi < 32) (h01 : ∀ q, q < 32 → se (32 * t + q) = 0 ∨ se (32 * t + q) = 1)
    (hp : post (nI (ml_ct (fun j => decide (se (32 * t + (lo + j)) ≠ 0)) (hi + 1 - lo))) (la, th, va, tu, op, se, vw, wr, ml_rr rs t lo (hi + 1 - lo), si)) :
    ∀ d n, n + d = hi + 1 - lo → wY_countRange_49 post (nI t) (nI hi) (d + 1) (nI (ml_ct (fun j => decide (se (32 * t + (lo + j)) ≠ 0)) n)) (nI (lo + n)) la th va tu op se vw wr (ml_rr rs t lo n) si := by
  intro d
  induction d with
  | zero =>
    intro n hn
    have e : n = hi + 1 - lo := by omega
    subst e
    exact br_t (nI_lt (by omega) (by omega)) hp
  | succ d ih =>
    intro n hn
    refine br_f (nI_nlt (by omega) (by omega)) (ml_yrd ht (by omega) ho (h01 _ (by omega)) ?_)
    have e : nI (ml_ct (fun j => decide (se (32 * t + (lo + j)) ≠ 0)) n) + se (32 * t + (lo + n)) = nI (ml_ct (fun j => decide (se (32 * t + (lo + j)) ≠ 0)) (n + 1)) := by
      rw [ml_ct_s]
      rcases h01 (lo + n) (by omega) with z | z
      · rw [z]
        show _ + nI 0 = _
        rw [nI_add]
        rfl
      · rw [z]
        show _ + nI 1 = _
        rw [nI_add]
        rfl
    exact nm_r e (nm_r (nI_1 (lo + n)) (ih (n + 1) (by omega)))
theorem ml_ycr {post : Int32 → SY → Prop} (ht : t < 4) (ho : op t ≠ 0) (hlo : lo ≤ hi) (hhi : hi < 32) (h01 : ∀ q, q < 32 → se (32 * t + q) = 0 ∨ se (32 * t + q) = 1)
    (hp : post (nI (ml_ct (fun j => decide (se (32 * t + (lo + j)) ≠ 0)) (hi + 1 - lo))) (la, th, va, tu, op, se, vw, wr, ml_rr rs t lo (hi + 1 - lo), si)) : wpY_countRange post (la, th, va, tu, op, se, vw, wr, rs, si) (nI t) (nI lo) (nI hi) :=by
  unfold wpY_countRange
  dsimp only
  exact ml_yto ht (br_f ml_10 (ml_yko (by omega) (br_f ml_10 (ml_yko hhi (br_f ml_10 (br_t (nI_le hlo (by omega)) ⟨vp_in_nI ht (by decide), br_f (by rw [nI_clamp (by omega)]; exact ho) ⟨_, ml_ycr_l ht ho hlo hhi h01 hp (hi + 1 - lo) 0 (Nat.zero_add _)⟩⟩))))))
theorem ml_ycr_c {post : Int32 → SY → Prop} (ht : t < 4) (ho : op t = 0) (hlo : lo ≤ hi) (hhi : hi < 32) (hp : post (-3) (la, th, va, tu, op, se, vw, wr, rs, si)) : wpY_countRange post (la, th, va, tu, op, se, vw, wr, rs, si) (nI t) (nI lo) (nI hi) :=by
  unfold wpY_countRange
  dsimp only
  exact ml_yto ht (br_f ml_10 (ml_yko (by omega) (br_f ml_10 (ml_yko hhi (br_f ml_10 (br_t (nI_le hlo (by omega)) ⟨vp_in_nI ht (by decide), br_t (by rw [nI_clamp (by omega)]; exact ho) hp⟩))))))
theorem ml_ycr_b {post : Int32 → SY → Prop} {x y z : Int32} (h : (x < 0 ∨ 3 < x) ∨ (y < 0 ∨ 31 < y) ∨ (z < 0 ∨ 31 < z) ∨ ¬ y ≤ z) (hp : post (-1) (la, th, va, tu, op, se, vw, wr, rs, si)) : wpY_countRange post (la, th, va, tu, op, se, vw, wr, rs, si) x y z := by
  unfold wpY_countRange
  dsimp only
  rcases ml_tc x with h1 | ⟨t, ht, rfl⟩
  · exact ml_ytb h1 (br_t rfl hp)
  · refine ml_yto ht (br_f ml_10 ?_)
    rcases ml_kc y with h2 | ⟨q, hq, rfl⟩
    · exact ml_ykb h2 (br_t rfl hp)
    · refine ml_yko hq (br_f ml_10 ?_)
      rcases ml_kc z with h3 | ⟨q2, hq2, rfl⟩
      · exact ml_ykb h3 (br_t rfl hp)
      · refine ml_yko hq2 (br_f ml_10 (br_f ?_ hp))
        rcases h with (a | a) | (a | a) | (a | a) | a
        · exact absurd a (nI_pos (by omega))
        · exact absurd a (ml_n3 ht)
        · exact absurd a (nI_pos (by omega))
        · exact absurd a (ml_n31 hq)
        · exact absurd a (nI_pos (by omega))
        · exact absurd a (ml_n31 hq2)
        · exact a
end
end
section
/-! the reference: commit, abort, the states -/
section
variable {la : Int32} {th va tu op se vw wr rs si : Nat → Int32} {t L : Nat}
theorem ml_ycm_l2 {post : Int32 → SY → Prop} (ht : t < 4) (hp : ∀ si', (∀ u, u < 4 → si' u = si u ||| wr t) → post (nI (L + 1)) (nI (L + 1), th, va, tu, op, se, vw, wr, rs, si')) :
    ∀ d j si', j + d = 4 → (∀ u, u < 4 → si' u = if u < j then si u ||| wr t else si u) → wY_commit_207 post (nI t) (nI (L + 1)) (d + 1) (nI j) th va tu op se vw wr rs si' := by
  have ti := vp_in_nI (n := t) (N := 4) ht (by decide)
  have tc := nI_clamp (n := t) (by omega)
  intro d
  induction d with
  | zero =>
    intro j si' hj h1
    have e : j = 4 := by omega
    subst e
    exact br_t (nI_le (a := 4) (b := 4) (Nat.le_refl _) (by decide)) (hp si' (fun u hu => by rw [h1 u hu, if_pos hu]))
  | succ d ih =>
    intro j si' hj h1
    have ji := vp_in_nI (n := j) (N := 4) (by omega) (by decide)
    have jc := nI_clamp (n := j) (by omega)
    refine br_f (nI_ge (a := j) (b := 4) (by omega) (by decide)) ⟨ji, ti, ji, ml_nu jc (w := si j ||| wr t) ?_ (nm_r (nI_1 j) (ih (j + 1) _ (by omega) ?_))⟩
    · rw [jc, tc, h1 j (by omega), if_neg (Nat.lt_irrefl j)]
    · intro u hu
      by_cases z : u = j
      · subst z
        rw [pk_us, if_pos (Nat.lt_succ_self u)]
      · rw [pk_un z, h1 u hu]
        by_cases y : u < j
        · rw [if_pos y, if_pos (by omega)]
        · rw [if_neg y, if_neg (by omega)]
/-- the row that a commit writes -/
def ml_row (th va se vw : Nat → Int32) (w : Int32) (t o r : Nat) (n : Nat) (th' va' : Nat → Int32) : Prop :=
  (∀ q, q < n → th' (r + q) = (if bt w q = true then se (32 * t + q) else th (o + q)) ∧ va' (r + q) = (if bt w q = true then vw (32 * t + q) else va (o + q))) ∧
  (∀ k, (k < r ∨ r + n ≤ k) → th' k = th k ∧ va' k = va k)
theorem ml_ycm_l1 {post : Int32 → SY → Prop} (ht : t < 4) (hL : L < 2 ^ 30) (hs : ∀ q, q < 32 → se (32 * t + q) = 0 ∨ se (32 * t + q) = 1) (hh : ∀ q, q < 32 → th (32 * (L % 6) + q) = 0 ∨ th (32 * (L % 6) + q) = 1)
    (hp : ∀ th' va' si', ml_row th va se vw (wr t) t (32 * (L % 6)) (32 * ((L + 1) % 6)) 32 th' va' → (∀ u, u < 4 → si' u = si u ||| wr t) → post (nI (L + 1)) (nI (L + 1), th', va', upd tu ((L + 1) % 6) (wr t), op, se, vw, wr, rs, si')) :
    ∀ d j th' va', j + d = 32 → ml_row th va se vw (wr t) t (32 * (L % 6)) (32 * ((L + 1) % 6)) j th' va' → wY_commit_83 post (nI t) (nI (32 * (L % 6))) (nI (32 * ((L + 1) % 6))) (nI (L + 1)) (d + 1) (nI j) th' va' tu op se vw wr rs si := by
  have ti := vp_in_nI (n := t) (N := 4) ht (by decide)
  have tc := nI_clamp (n := t) (by omega)
  have o6 : L % 6 < 6 := Nat.mod_lt _ (by decide)
  have r6 : (L + 1) % 6 < 6 := Nat.mod_lt _ (by decide)
  have hne : L % 6 ≠ (L + 1) % 6 := by omega
  intro d
  induction d with
  | zero =>
    intro j th' va' hj h1
    have e : j = 32 := by omega
    subst e
    have e6 := ml_r6 (L := L + 1) (by omega)
    refine br_t (nI_le (a := 32) (b := 32) (Nat.le_refl _) (by decide)) ⟨ml_6n, ti, pk_in ((L + 1) % 6) 6 r6 e6, ml_nu (pk_cl ((L + 1) % 6) e6 (by omega)) (w := wr t) (by rw [tc]) ⟨5, ?_⟩⟩
    exact ml_ycm_l2 ht (fun si' hsi => hp th' va' si' h1 hsi) 4 0 si rfl (fun u hu => by rw [if_neg (Nat.not_lt_zero u)])
  | succ d ih =>
    intro j th' va' hj h1
    have eo : nI (32 * (L % 6)) + nI j = nI (32 * (L % 6) + j) := nI_add _ _
    have er : nI (32 * ((L + 1) % 6)) + nI j = nI (32 * ((L + 1) % 6) + j) := nI_add _ _
    have et := ml_i32 t j
    have io := pk_in (32 * (L % 6) + j) 192 (by omega) eo
    have ir := pk_in (32 * ((L + 1) % 6) + j) 192 (by omega) er
    have it := pk_in (32 * t + j) 128 (by omega) et
    have co := pk_cl (32 * (L % 6) + j) eo (by omega)
    have cr := pk_cl (32 * ((L + 1) % 6) + j) er (by omega)
    have ct := pk_cl (32 * t + j) et (by omega)
    obtain ⟨g1, g2⟩ := h1
    have go := g2 (32 * (L % 6) + j) (by omega)
    have step : ∀ a b, a = (if bt (wr t) j = true then se (32 * t + j) else th (32 * (L % 6) + j)) → b = (if bt (wr t) j = true then vw (32 * t + j) else va (32 * (L % 6) + j)) →
        ml_row th va se vw (wr t) t (32 * (L % 6)) (32 * ((L + 1) % 6)) (j + 1) (upd th' (32 * ((L + 1) % 6) + j) a) (upd va' (32 * ((L + 1) % 6) + j) b) := by
      intro a b ha hb
      refine ⟨fun q hq => ?_, fun k hk => ?_⟩
      · by_cases z : q = j
        · subst z
          rw [pk_us, pk_us]
          exact ⟨ha, hb⟩
        · rw [pk_un (by omega), pk_un (by omega)]
          exact g1 q (by omega)
      · rw [pk_un (by omega), pk_un (by omega)]
        exact g2 k (by omega)
    refine br_f (nI_ge (a := j) (b := 32) (by omega) (by decide)) ⟨ti, ?_⟩
    rw [tc]
    refine ml_yin (by omega) (fun hb => br_f ml_10 ⟨it, ?_⟩) (fun hb => br_t rfl ⟨io, ?_⟩)
    · rw [ct]
      unfold wY_commit_141
      refine ⟨ir, ml_nu cr (ml_nb (hs j (by omega))) (br_f ml_10 ⟨it, ir, ml_nu cr (w := vw (32 * t + j)) (by rw [ct]) (nm_r (nI_1 j) (ih (j + 1) _ _ (by omega) (step _ _ ?_ ?_)))⟩)⟩
      · rw [if_pos hb]
      · rw [if_pos hb]
    · rw [co, go.1]
      unfold wY_commit_141
      refine ⟨ir, ml_nu cr (ml_nb (hh j (by omega))) (br_t rfl ⟨io, ir, ml_nu cr (w := va (32 * (L % 6) + j)) (by rw [co, go.2]) (nm_r (nI_1 j) (ih (j + 1) _ _ (by omega) (step _ _ ?_ ?_)))⟩)⟩
      · rw [if_neg (by rw [hb]; decide)]
      · rw [if_neg (by rw [hb]; decide)]
theorem ml_ycm {post : Int32 → SY → Prop} (ht : t < 4) (hL : L < 2 ^ 30) (ho : op t ≠ 0) (hs : ∀ q, q < 32 → se (32 * t + q) = 0 ∨ se (32 * t + q) = 1) (hh : ∀ q, q < 32 → th (32 * (L % 6) + q) = 0 ∨ th (32 * (L % 6) + q) = 1)
    (hx : rs t &&& si t ≠ 0 → post (-5) (nI L, th, va, tu, upd op t 0, se, vw, wr, rs, si))
    (hp : rs t &&& si t = 0 → ∀ th' va' si', ml_row th va se vw (wr t) t (32 * (L % 6)) (32 * ((L + 1) % 6)) 32 th' va' → (∀ u, u < 4 → si' u = si u ||| wr t) → post (nI (L + 1)) (nI (L + 1), th', va', upd tu ((L + 1) % 6) (wr t), upd op t 0, se, vw, wr, rs, si')) :
    wpY_commit post (nI L, th, va, tu, op, se, vw, wr, rs, si) (nI t) := by
  unfold wpY_commit
  dsimp only
  have ti := vp_in_nI (n := t) (N := 4) ht (by decide)
  have tc := nI_clamp (n := t) (by omega)
  refine ml_yto ht (br_f ml_10 ⟨ti, br_f (by rw [tc]; exact ho) ⟨ti, ml_nu tc ml_nb0 ⟨ti, ti, ?_⟩⟩⟩)
  rw [tc]
  refine br_c (fun z => ⟨ml_6n, nm_r (e' := nI (32 * (L % 6))) ?_ (nm_r (nI_1 L) ⟨ml_6n, nm_r (e' := nI (32 * ((L + 1) % 6))) ?_ ⟨33, ?_⟩⟩)⟩) (fun z => hx z)
  · rw [ml_r6 (by omega), ml_m32]
  · rw [ml_r6 (by omega), ml_m32]
  · exact ml_ycm_l1 ht hL hs hh (hp z) 32 0 th va rfl ⟨fun q hq => absurd hq (Nat.not_lt_zero q), fun k _ => ⟨rfl, rfl⟩⟩
theorem ml_ycm_b {post : Int32 → SY → Prop} {x : Int32} (h : x < 0 ∨ 3 < x) (hp : post (-1) (la, th, va, tu, op, se, vw, wr, rs, si)) : wpY_commit post (la, th, va, tu, op, se, vw, wr, rs, si) x := by
  unfold wpY_commit
  dsimp only
  exact ml_ytb h (br_t rfl hp)
theorem ml_ycm_c {post : Int32 → SY → Prop} (ht : t < 4) (ho : op t = 0) (hp : post (-3) (la, th, va, tu, op, se, vw, wr, rs, si)) : wpY_commit post (la, th, va, tu, op, se, vw, wr, rs, si) (nI t) :=by
  unfold wpY_commit
  dsimp only
  exact ml_yto ht (br_f ml_10 ⟨vp_in_nI ht (by decide), br_t (by rw [nI_clamp (by omega)]; exact ho) hp⟩)
theorem ml_yab_b {post : Int32 → SY → Prop} {x : Int32} (h : x < 0 ∨ 3 < x) (hp : post (-1) (la, th, va, tu, op, se, vw, wr, rs, si)) : wpY_abort post (la, th, va, tu, op, se, vw, wr, rs, si) x := by
  unfold wpY_abort
  dsimp only
  exact ml_ytb h (br_t rfl hp)
theorem ml_yab_c {post : Int32 → SY → Prop} (ht : t < 4) (ho : op t = 0) (hp : post (-3) (la, th, va, tu, op, se, vw, wr, rs, si)) : wpY_abort post (la, th, va, tu, op, se, vw, wr, rs, si) (nI t) :=by
  unfold wpY_abort
  dsimp only
  exact ml_yto ht (br_f ml_10 ⟨vp_in_nI ht (by decide), br_t (by rw [nI_clamp (by omega)]; exact ho) hp⟩)
theorem ml_yab {post : Int32 → SY → Prop} (ht : t < 4) (ho : op t ≠ 0) (hp : post (nI (ml_ct (bt (wr t)) 32)) (la, th, va, tu, upd op t 0, se, vw, wr, rs, si)) : wpY_abort post (la, th, va, tu, op, se, vw, wr, rs, si) (nI t) := by
  unfold wpY_abort
  dsimp only
  have ti := vp_in_nI (n := t) (N := 4) ht (by decide)
  have tc := nI_clamp (n := t) (by omega)
  refine ml_yto ht (br_f ml_10 ⟨ti, br_f (by rw [tc]; exact ho) ⟨ti, ml_nu tc ml_nb0 ⟨ti, ?_⟩⟩⟩)
  rw [tc]
  exact ml_ysz hp
end
/-! states -/
section
variable {la : Int32} {th va tu op se vw wr rs si : Nat → Int32} {s q L : Nat}
theorem ml_yex_b {post : Int32 → Prop} {x : Int32} (h : x < 0 ∨ nI L < x) (hp : post 0) : wpY_exists post (nI L, th, va, tu, op, se, vw, wr, rs, si) x := by
  by_cases h0 : x < 0
  · exact br_t h0 hp
  · exact br_f h0 (br_t (h.resolve_left h0) hp)
theorem ml_yex {post : Int32 → Prop} (hL : L < 2 ^ 30) (hs : s ≤ L) (hp : post 1) : wpY_exists post (nI L, th, va, tu, op, se, vw, wr, rs, si) (nI s) := br_f (nI_pos (by omega)) (br_f (nI_nlt hs (by omega)) hp)
theorem ml_yik_b {post : Int32 → Prop} {x : Int32} (h : x < 0 ∨ nI L < x) (hp : post 0) : wpY_isKept post (nI L, th, va, tu, op, se, vw, wr, rs, si) x := by
  unfold wpY_isKept
  dsimp only
  exact ml_yex_b h (br_t rfl hp)
theorem ml_yik_g {post : Int32 → Prop} (hL : L < 2 ^ 30) (hs : s + 6 ≤ L) (hp : post 0) : wpY_isKept post (nI L, th, va, tu, op, se, vw, wr, rs, si) (nI s) := by
  unfold wpY_isKept
  dsimp only
  exact ml_yex hL (by omega) (br_f ml_10 (br_t ((ml_kp (by omega) hL).mpr hs) hp))
theorem ml_yik {post : Int32 → Prop} (hL : L < 2 ^ 30) (hs : s ≤ L) (h6 : L < s + 6) (hp : post 1) : wpY_isKept post (nI L, th, va, tu, op, se, vw, wr, rs, si) (nI s) := by
  unfold wpY_isKept
  dsimp only
  exact ml_yex hL hs (br_f ml_10 (br_f (fun z => absurd ((ml_kp (by omega) hL).mp z) (by omega)) hp))
theorem ml_yha_b {post : Int32 → Prop} {x : Int32} (y : Int32) (h : x < 0 ∨ nI L < x) (hp : post 0) : wpY_has post (nI L, th, va, tu, op, se, vw, wr, rs, si) x y := by
  unfold wpY_has
  dsimp only
  exact ml_yik_b h (br_t rfl hp)
theorem ml_yha_g {post : Int32 → Prop} (y : Int32) (hL : L < 2 ^ 30) (hs : s + 6 ≤ L) (hp : post 0) : wpY_has post (nI L, th, va, tu, op, se, vw, wr, rs, si) (nI s) y := by
  unfold wpY_has
  dsimp only
  exact ml_yik_g hL hs (br_t rfl hp)
theorem ml_yha_k {post : Int32 → Prop} {y : Int32} (hL : L < 2 ^ 30) (hs : s ≤ L) (h6 : L < s + 6) (h : y < 0 ∨ 31 < y) (hp : post 0) : wpY_has post (nI L, th, va, tu, op, se, vw, wr, rs, si) (nI s) y := by
  unfold wpY_has
  dsimp only
  exact ml_yik hL hs h6 (br_f ml_10 (ml_ykb h (br_t rfl hp)))
theorem ml_yha {post : Int32 → Prop} (hL : L < 2 ^ 30) (hs : s ≤ L) (h6 : L < s + 6) (hq : q < 32) (h0 : th (32 * (s % 6) + q) = 0 → post 0) (h1 : th (32 * (s % 6) + q) ≠ 0 → post 1) : wpY_has post (nI L, th, va, tu, op, se, vw, wr, rs, si) (nI s) (nI q) := by
  unfold wpY_has
  dsimp only
  have m6 : s % 6 < 6 := Nat.mod_lt _ (by decide)
  have e : (32 * (nI s - nI s / 6 * 6)) + nI q = nI (32 * (s % 6) + q) := by rw [ml_r6 (by omega), ml_i32]
  refine ml_yik hL hs h6 (br_f ml_10 (ml_yko hq (br_f ml_10 ⟨ml_6n, pk_in (32 * (s % 6) + q) 192 (by omega) e, ?_⟩)))
  rw [pk_cl (32 * (s % 6) + q) e (by omega)]
  exact br_c h0 h1
theorem ml_yat_0 {post : Int32 → Prop} {x y : Int32} (h : ∀ p : Int32 → Prop, p 0 → wpY_has p (nI L, th, va, tu, op, se, vw, wr, rs, si) x y) (hp : post 0) : wpY_at post (nI L, th, va, tu, op, se, vw, wr, rs, si) x y := by
  unfold wpY_at
  dsimp only
  exact h _ (br_t rfl hp)
theorem ml_yat {post : Int32 → Prop} (hL : L < 2 ^ 30) (hs : s ≤ L) (h6 : L < s + 6) (hq : q < 32) (h0 : th (32 * (s % 6) + q) = 0 → post 0) (h1 : th (32 * (s % 6) + q) ≠ 0 → post (va (32 * (s % 6) + q))) : wpY_at post (nI L, th, va, tu, op, se, vw, wr, rs, si) (nI s) (nI q) := by
  unfold wpY_at
  dsimp only
  have m6 : s % 6 < 6 := Nat.mod_lt _ (by decide)
  have e : (32 * (nI s - nI s / 6 * 6)) + nI q = nI (32 * (s % 6) + q) := by rw [ml_r6 (by omega), ml_i32]
  refine ml_yha hL hs h6 hq (fun z => br_t rfl (h0 z)) (fun z => br_f ml_10 ⟨ml_6n, pk_in (32 * (s % 6) + q) 192 (by omega) e, ?_⟩)
  rw [pk_cl (32 * (s % 6) + q) e (by omega)]
  exact h1 z
theorem ml_ysi_l {post : Int32 → Prop} (hL : L < 2 ^ 30) (hs : s ≤ L) (h6 : L < s + 6) (hp : post (nI (ml_ct (fun q => decide (th (32 * (s % 6) + q) ≠ 0)) 32))) :
    ∀ d j, j + d = 32 → wY_size_25 post (nI s) (nI L) th va tu op se vw wr rs si (d + 1) (nI (ml_ct (fun q => decide (th (32 * (s % 6) + q) ≠ 0)) j)) (nI j) := by
  intro d
  induction d with
  | zero =>
    intro j hj
    have e : j = 32 := by omega
    subst e
    exact br_t (nI_le (a := 32) (b := 32) (Nat.le_refl _) (by decide)) hp
  | succ d ih =>
    intro j hj
    refine br_f (nI_ge (a := j) (b := 32) (by omega) (by decide)) (ml_yha hL hs h6 (by omega) (fun hb => br_t rfl ?_) (fun hb => br_f ml_10 ?_))
    · have e : ml_ct (fun q => decide (th (32 * (s % 6) + q) ≠ 0)) (j + 1) = ml_ct (fun q => decide (th (32 * (s % 6) + q) ≠ 0)) j := by
        rw [ml_ct_s, if_neg (by rw [hb]; decide)]
        rfl
      refine nm_r (nI_1 j) ?_
      rw [← e]
      exact ih (j + 1) (by omega)
    · have e : ml_ct (fun q => decide (th (32 * (s % 6) + q) ≠ 0)) (j + 1) = ml_ct (fun q => decide (th (32 * (s % 6) + q) ≠ 0)) j + 1 := by
        rw [ml_ct_s, if_pos (decide_eq_true hb)]
      exact nm_r (e' := nI (ml_ct (fun q => decide (th (32 * (s % 6) + q) ≠ 0)) (j + 1))) (by rw [e, nI_1]) (nm_r (nI_1 j) (ih (j + 1) (by omega)))
theorem ml_ysi {post : Int32 → Prop} (hL : L < 2 ^ 30) (hs : s ≤ L) (h6 : L < s + 6) (hp : post (nI (ml_ct (fun q => decide (th (32 * (s % 6) + q) ≠ 0)) 32))) : wpY_size post (nI L, th, va, tu, op, se, vw, wr, rs, si) (nI s) :=by
  unfold wpY_size
  dsimp only
  exact ml_yex hL hs (br_f ml_10 (ml_yik hL hs h6 (br_f ml_10 ⟨33, ml_ysi_l hL hs h6 hp 32 0 rfl⟩)))
theorem ml_ysi_b {post : Int32 → Prop} {x : Int32} (h : x < 0 ∨ nI L < x) (hp : post (-1)) : wpY_size post (nI L, th, va, tu, op, se, vw, wr, rs, si) x := by
  unfold wpY_size
  dsimp only
  exact ml_yex_b h (br_t rfl hp)
theorem ml_ysi_g {post : Int32 → Prop} (hL : L < 2 ^ 30) (hs : s + 6 ≤ L) (hp : post (-6)) : wpY_size post (nI L, th, va, tu, op, se, vw, wr, rs, si) (nI s) := by
  unfold wpY_size
  dsimp only
  exact ml_yex hL (by omega) (br_f ml_10 (ml_yik_g hL hs (br_t rfl hp)))
end
/-- the keys touched by the n states after s -/
def ml_un (tu : Nat → Int32) (s : Nat) : Nat → Int32
  | 0 => 0
  | n + 1 => ml_un tu s n ||| tu ((s + 1 + n) % 6)
section
variable {la : Int32} {th va tu op se vw wr rs si : Nat → Int32} {s p L : Nat}
theorem ml_ych_l {post : Int32 → Prop} (hL : L < 2 ^ 30) (hp5 : p ≤ L) (hsp : s < p) (hp : post (nI (ml_ct (bt (ml_un tu s (p - s))) 32))) :
    ∀ d n, n + d = p - s → wY_changed_49 post (nI p) (nI L) th va tu op se vw wr rs si (d + 1) (ml_un tu s n) (nI (s + 1 + n)) := by
  intro d
  induction d with
  | zero =>
    intro n hn
    have e : n = p - s := by omega
    subst e
    exact br_t (nI_lt (by omega) (by omega)) (ml_ysz hp)
  | succ d ih =>
    intro n hn
    have e := ml_r6 (L := s + 1 + n) (by omega)
    refine br_f (nI_nlt (by omega) (by omega)) ⟨ml_6n, pk_in ((s + 1 + n) % 6) 6 (Nat.mod_lt _ (by decide)) e, nm_r (e' := ml_un tu s (n + 1)) ?_ (nm_r (nI_1 (s + 1 + n)) (ih (n + 1) (by omega)))⟩
    rw [pk_cl ((s + 1 + n) % 6) e (by omega)]
    rfl
theorem ml_ych {post : Int32 → Prop} (hL : L < 2 ^ 30) (hp5 : p ≤ L) (hsp : s < p) (h6 : L < s + 6) (hp : post (nI (ml_ct (bt (ml_un tu s (p - s))) 32))) : wpY_changed post (nI L, th, va, tu, op, se, vw, wr, rs, si) (nI s) (nI p) :=by
  unfold wpY_changed
  dsimp only
  exact ml_yex hL (by omega) (br_f ml_10 (ml_yex hL hp5 (br_f ml_10 (br_t (nI_lt hsp (by omega)) (ml_yik hL (by omega) h6 (br_f ml_10 (ml_yik hL hp5 (by omega) (br_f ml_10 (nm_r (nI_1 s) ⟨_, ml_ych_l hL hp5 hsp hp (p - s) 0 (Nat.zero_add _)⟩)))))))))
theorem ml_ych_g {post : Int32 → Prop} (hL : L < 2 ^ 30) (hp5 : p ≤ L) (hsp : s < p) (h6 : s + 6 ≤ L) (hp : post (-6)) : wpY_changed post (nI L, th, va, tu, op, se, vw, wr, rs, si) (nI s) (nI p) :=by
  unfold wpY_changed
  dsimp only
  exact ml_yex hL (by omega) (br_f ml_10 (ml_yex hL hp5 (br_f ml_10 (br_t (nI_lt hsp (by omega)) (ml_yik_g hL h6 (br_t rfl hp))))))
theorem ml_ych_b {post : Int32 → Prop} {x y : Int32} (hL : L < 2 ^ 30) (h : (x < 0 ∨ nI L < x) ∨ (y < 0 ∨ nI L < y) ∨ ¬ x < y) (hp : post (-1)) : wpY_changed post (nI L, th, va, tu, op, se, vw, wr, rs, si) x y := by
  unfold wpY_changed
  dsimp only
  rcases ml_sc x (L := L) (by omega) with h1 | h1 | ⟨s, hs, rfl⟩
  · exact ml_yex_b (Or.inl h1) (br_t rfl hp)
  · exact ml_yex_b (Or.inr h1) (br_t rfl hp)
  · refine ml_yex hL hs (br_f ml_10 ?_)
    rcases ml_sc y (L := L) (by omega) with h2 | h2 | ⟨p, hq, rfl⟩
    · exact ml_yex_b (Or.inl h2) (br_t rfl hp)
    · exact ml_yex_b (Or.inr h2) (br_t rfl hp)
    · refine ml_yex hL hq (br_f ml_10 (br_f ?_ hp))
      rcases h with (a | a) | (a | a) | a
      · exact absurd a (nI_pos (by omega))
      · exact absurd a (nI_nlt hs (by omega))
      · exact absurd a (nI_pos (by omega))
      · exact absurd a (nI_nlt hq (by omega))
      · exact a
end
end
section
/-! the component: check, placeOf, leafOf, inView, put, read, peek, countRange, begin, abort -/
section
variable {fc ls tp : Int32} {ch lv hv st mr fn ro op ba br rs wc wk wv wh sn sk ss : Nat → Int32} {t q : Nat}
theorem ml_xck_b {post : Int32 → Prop} {x y z : Int32} (h : (x < 0 ∨ 3 < x) ∨ y < 0 ∨ 31 < z ∨ ¬ y ≤ z) (hp : post (-1)) : wpX_check post (fc, ls, tp, ch, lv, hv, st, mr, fn, ro, op, ba, br, rs, wc, wk, wv, wh, sn, sk, ss) x y z := by
  by_cases h0 : x < 0
  · exact br_t h0 hp
  by_cases h1 : 3 < x
  · exact br_f h0 (br_t h1 hp)
  by_cases h2 : y < 0
  · exact br_f h0 (br_f h1 (br_t h2 hp))
  by_cases h3 : 31 < z
  · exact br_f h0 (br_f h1 (br_f h2 (br_t h3 hp)))
  by_cases h4 : y ≤ z
  · rcases h with (a | a) | a | a | a
    · exact absurd a h0
    · exact absurd a h1
    · exact absurd a h2
    · exact absurd a h3
    · exact absurd h4 a
  · exact br_f h0 (br_f h1 (br_f h2 (br_f h3 (br_f h4 hp))))
theorem ml_xck {post : Int32 → Prop} {y z : Int32} (ht : t < 4) (h2 : ¬ y < 0) (h3 : ¬ 31 < z) (h4 : y ≤ z) (hc : op t = 0 → post (-3)) (hp : op t ≠ 0 → post 0) : wpX_check post (fc, ls, tp, ch, lv, hv, st, mr, fn, ro, op, ba, br, rs, wc, wk, wv, wh, sn, sk, ss) (nI t) y z := by
  have tc := nI_clamp (n := t) (by omega)
  refine br_f (nI_pos (by omega)) (br_f (ml_n3 ht) (br_f h2 (br_f h3 (br_t h4 ⟨vp_in_nI ht (by decide), ?_⟩))))
  rw [tc]
  exact br_c hc hp
theorem ml_xpl_l {post : Int32 → Prop} {w : Nat} (ht : t < 4) (hw : wc t = nI w) (hw6 : w ≤ 6) (h1 : ∀ i, i < w → wk (6 * t + i) = nI q → post (nI (6 * t + i))) (h0 : (∀ i, i < w → wk (6 * t + i) ≠ nI q) → post (-1)) :
    ∀ d i, i + d = w → (∀ j, j < i → wk (6 * t + j) ≠ nI q) → wX_placeOf_5 post (nI t) (nI q) fc ls tp ch lv hv st mr fn ro op ba br rs wc wk wv wh sn sk ss (d + 1) (nI (6 * t + i)) := by
  have ti := vp_in_nI (n := t) (N := 4) ht (by decide)
  have tc := nI_clamp (n := t) (by omega)
  intro d
  induction d with
  | zero =>
    intro i hi hn
    have e : i = w := by omega
    subst e
    refine ⟨ti, ?_⟩
    rw [tc, hw, ml_i6]
    exact br_t (nI_le (Nat.le_refl _) (by omega)) (h0 hn)
  | succ d ih =>
    intro i hi hn
    have ic := nI_clamp (n := 6 * t + i) (by omega)
    refine ⟨ti, ?_⟩
    rw [tc, hw, ml_i6]
    refine br_f (nI_ge (by omega) (by omega)) ⟨vp_in_nI (by omega) (by decide), ?_⟩
    rw [ic]
    refine br_c (fun z => h1 i (by omega) z) (fun z => nm_r (nI_1 (6 * t + i)) (ih (i + 1) (by omega) (fun j hj => ?_)))
    by_cases e : j = i
    · subst e; exact z
    · exact hn j (by omega)
theorem ml_xpl {post : Int32 → Prop} {w : Nat} (ht : t < 4) (hw : wc t = nI w) (hw6 : w ≤ 6) (h1 : ∀ i, i < w → wk (6 * t + i) = nI q → post (nI (6 * t + i))) (h0 : (∀ i, i < w → wk (6 * t + i) ≠ nI q) → post (-1)) : wpX_placeOf post (fc, ls, tp, ch, lv, hv, st, mr, fn, ro, op, ba, br, rs, wc, wk, wv, wh, sn, sk, ss) (nI t) (nI q) :=
  nm_r (e' := nI (6 * t + 0)) (ml_m6 t) ⟨w + 1, ml_xpl_l ht hw hw6 h1 h0 w 0 (Nat.zero_add w) (fun j hj => absurd hj (Nat.not_lt_zero j))⟩
theorem ml_xlf_l {post : Int32 → Prop} {A : Nat → Prop} (hq : q < 32) : ∀ (d : Nat) (b : Int) (x : Int32), d ≤ 5 → ml_T ch st A (d + 1) b x → post (ml_lf ch d x q) → wX_leafOf_5 post (nI q) fc ls tp ch lv hv st mr fn ro op ba br rs wc wk wv wh sn sk ss (d + 1) x (ml_k d) := by
  intro d
  induction d with
  | zero => exact fun b x _ _ hp => br_t (by decide) hp
  | succ d ih =>
    intro b x hd hT hp
    show wX_leafOf_5 post (nI q) fc ls tp ch lv hv st mr fn ro op ba br rs wc wk wv wh sn sk ss (d + 1 + 1) x (nI d)
    refine br_f (nI_pos (by omega)) ?_
    rcases hT with rfl | ⟨n, h1, h2, rfl, h4, h5, h6⟩
    · rw [ml_lf_neg ml_m1] at hp
      exact br_t ml_m1 hp
    · rw [ml_lf_node h1] at hp
      have hb := ml_b01 q d
      have e := ml_kbi (n := n) hq (d := d) (by omega)
      refine br_f (nI_pos (by omega)) ⟨pk_in (2 * n + ml_b q d) 1024 (by omega) e, nm_r (e' := ch (2 * n + ml_b q d)) (by rw [pk_cl (2 * n + ml_b q d) e (by omega)]) (nm_r (ml_kd d) (ih _ _ (by omega) (ml_T_s h5 h6 hb) hp))⟩
theorem ml_xlf {post : Int32 → Prop} {A : Nat → Prop} {b : Int} {x : Int32} (hq : q < 32) (hT : ml_T ch st A 6 b x) (hp : post (ml_lf ch 5 x q)) : wpX_leafOf post (fc, ls, tp, ch, lv, hv, st, mr, fn, ro, op, ba, br, rs, wc, wk, wv, wh, sn, sk, ss) x (nI q) := ⟨6, ml_xlf_l hq 5 b x (Nat.le_refl _) hT hp⟩
/-- a leaf, and what it has -/
theorem ml_xlh {post : Int32 → Prop} {A : Nat → Prop} {b : Int} {x : Int32} (hq : q < 32) (hT : ml_T ch st A 6 b x) (h0 : ml_at ch hv 5 x q = 0 → post 0) (h1 : ml_at ch hv 5 x q ≠ 0 → post 1) :
    wpX_leafOf (fun r => ((r < 0 → post 0) ∧ (¬ r < 0 → (vp_in r 512 ∧ ((hv r.toNatClampNeg = 0 → post 0) ∧ (¬ hv r.toNatClampNeg = 0 → post 1)))))) (fc, ls, tp, ch, lv, hv, st, mr, fn, ro, op, ba, br, rs, wc, wk, wv, wh, sn, sk, ss) x (nI q) := by
  refine ml_xlf hq hT ?_
  rcases ml_lf_T q 5 b x hT with z | ⟨n, g1, g2, g3, g4⟩
  · rw [z]
    exact br_t ml_m1 (h0 (by unfold ml_at; rw [z, if_pos ml_m1]))
  · rw [g3]
    have e : ml_at ch hv 5 x q = hv n := ml_at_of g3 g1
    rw [e] at h0 h1
    refine br_f (nI_pos (by omega)) ⟨vp_in_nI g1 (by decide), ?_⟩
    rw [nI_clamp (by omega)]
    exact br_c h0 h1
end
section
variable {fc ls tp : Int32} {ch lv hv st mr fn ro op ba br rs wc wk wv wh sn sk ss : Nat → Int32} {t q L : Nat} {A : Nat → Prop} {b : Int} {sg bh bv se vw : Nat → Int32} {bat wrt sit : Int32}
/-- what a transaction sees: 0 or 1 -/
theorem ml_see (hTX : ml_TX L sg bh bv bat (wc t) wrt sit (fun i => wk (6 * t + i)) (fun i => wv (6 * t + i)) (fun i => wh (6 * t + i)) se vw) (hb : ∀ q, q < 32 → bh q = 0 ∨ bh q = 1) (hq : q < 32) : se q = 0 ∨ se q = 1 := by
  obtain ⟨w, b0, a1, a2, a3, a4, a5, a6, a7, a8, a9, a10, a11, a12⟩ := hTX
  by_cases h : ∃ i, i < w ∧ wk (6 * t + i) = nI q
  · obtain ⟨i, hi, e⟩ := h
    rw [(a11 q hq i hi e).1]
    rcases a7 i hi with z | z
    · exact Or.inl z.1
    · exact Or.inr z
  · rw [(a12 q hq (fun i hi e => h ⟨i, hi, e⟩)).1]
    exact hb q hq
theorem ml_xiv {post : Int32 → Prop} (ht : t < 4) (hq : q < 32) (hT : ml_T ch st A 6 b (br t)) (hbh : ∀ q, q < 32 → ml_at ch hv 5 (br t) q = bh q) (hb : ∀ q, q < 32 → bh q = 0 ∨ bh q = 1)
    (hTX : ml_TX L sg bh bv bat (wc t) wrt sit (fun i => wk (6 * t + i)) (fun i => wv (6 * t + i)) (fun i => wh (6 * t + i)) se vw) (hp : post (se q)) : wpX_inView post (fc, ls, tp, ch, lv, hv, st, mr, fn, ro, op, ba, br, rs, wc, wk, wv, wh, sn, sk, ss) (nI t) (nI q) := by
  unfold wpX_inView
  dsimp only
  have ti := vp_in_nI (n := t) (N := 4) ht (by decide)
  have tc := nI_clamp (n := t) (by omega)
  obtain ⟨w, b0, a1, a2, a3, a4, a5, a6, a7, a8, a9, a10, a11, a12⟩ := hTX
  refine ml_xpl ht a1 a2 (fun i hi e => br_f (nI_pos (by omega)) ⟨vp_in_nI (by omega) (by decide), ?_⟩) (fun hn => br_t ml_m1 ⟨ti, ?_⟩)
  · rw [nI_clamp (by omega)]
    have e1 := (a11 q hq i hi e).1
    rw [e1] at hp
    refine ⟨?_, hp⟩
    rcases a7 i hi with z | z
    · have z1 : wh (6 * t + i) = 0 := z.1
      rw [z1]; rfl
    · have z1 : wh (6 * t + i) = 1 := z
      rw [z1]; rfl
  · rw [tc]
    have e1 := (a12 q hq hn).1
    rw [e1] at hp
    refine ml_xlh hq hT (fun z => ?_) (fun z => ?_)
    · rw [hbh q hq] at z
      rw [z] at hp
      exact hp
    · rw [hbh q hq] at z
      rw [(hb q hq).resolve_left z] at hp
      exact hp
theorem ml_xpk {post : Int32 → Prop} (ht : t < 4) (hq : q < 32) (ho : op t ≠ 0) (hT : ml_T ch st A 6 b (br t)) (hbh : ∀ q, q < 32 → ml_at ch hv 5 (br t) q = bh q) (hbv : ∀ q, q < 32 → ml_at ch lv 5 (br t) q = bv q)
    (hTX : ml_TX L sg bh bv bat (wc t) wrt sit (fun i => wk (6 * t + i)) (fun i => wv (6 * t + i)) (fun i => wh (6 * t + i)) se vw) (hp0 : se q = 0 → post 0) (hp1 : se q ≠ 0 → post (vw q)) : wpX_peek post (fc, ls, tp, ch, lv, hv, st, mr, fn, ro, op, ba, br, rs, wc, wk, wv, wh, sn, sk, ss) (nI t) (nI q) := by
  unfold wpX_peek
  dsimp only
  have ti := vp_in_nI (n := t) (N := 4) ht (by decide)
  have tc := nI_clamp (n := t) (by omega)
  obtain ⟨w, b0, a1, a2, a3, a4, a5, a6, a7, a8, a9, a10, a11, a12⟩ := hTX
  refine ml_xck ht (nI_pos (by omega)) (ml_n31 hq) (Int32.le_refl _) (fun z => absurd z ho) (fun _ => br_t rfl ?_)
  refine ml_xpl ht a1 a2 (fun i hi e => br_f (nI_pos (by omega)) ⟨vp_in_nI (by omega) (by decide), ?_⟩) (fun hn => br_t ml_m1 ⟨ti, ?_⟩)
  · rw [nI_clamp (by omega)]
    obtain ⟨e1, e2⟩ := a11 q hq i hi e
    rcases a7 i hi with z | z
    · have z2 : wv (6 * t + i) = 0 := z.2
      rw [z2]
      exact hp0 (e1.trans z.1)
    · have e3 : vw q = wv (6 * t + i) := e2
      rw [← e3]
      exact hp1 (by rw [e1, z]; decide)
  · rw [tc]
    obtain ⟨e1, e2⟩ := a12 q hq hn
    refine ml_xlf hq hT ?_
    rcases ml_lf_T q 5 b _ hT with z | ⟨n, g1, g2, g3, g4⟩
    · rw [z]
      exact br_t ml_m1 (hp0 (by rw [e1, ← hbh q hq]; unfold ml_at; rw [z, if_pos ml_m1]))
    · rw [g3]
      have e3 : hv n = se q := by rw [e1, ← hbh q hq, ml_at_of g3 g1]
      have e4 : lv n = vw q := by rw [e2, ← hbv q hq, ml_at_of g3 g1]
      have ni := vp_in_nI (n := n) (N := 512) g1 (by decide)
      refine br_f (nI_pos (by omega)) ⟨ni, ?_⟩
      rw [nI_clamp (by omega), e3, e4]
      exact br_c hp0 (fun z => ⟨ni, hp1 z⟩)
theorem ml_xrd {post : Int32 → SX → Prop} (ht : t < 4) (hq : q < 32) (ho : op t ≠ 0) (hT : ml_T ch st A 6 b (br t)) (hbh : ∀ q, q < 32 → ml_at ch hv 5 (br t) q = bh q) (hb : ∀ q, q < 32 → bh q = 0 ∨ bh q = 1)
    (hTX : ml_TX L sg bh bv bat (wc t) wrt sit (fun i => wk (6 * t + i)) (fun i => wv (6 * t + i)) (fun i => wh (6 * t + i)) se vw) (hp : post (se q) (fc, ls, tp, ch, lv, hv, st, mr, fn, ro, op, ba, br, upd rs t (rs t ||| ((1 : Int32) <<< (nI q &&& 31))), wc, wk, wv, wh, sn, sk, ss)) : wpX_read post (fc, ls, tp, ch, lv, hv, st, mr, fn, ro, op, ba, br, rs, wc, wk, wv, wh, sn, sk, ss) (nI t) (nI q) := by
  unfold wpX_read
  dsimp only
  have ti := vp_in_nI (n := t) (N := 4) ht (by decide)
  have tc := nI_clamp (n := t) (by omega)
  have h01 := ml_see hTX hb hq
  refine ml_xck ht (nI_pos (by omega)) (ml_n31 hq) (Int32.le_refl _) (fun z => absurd z ho) (fun _ => br_t rfl ⟨ti, ti, ml_nu tc (w := rs t ||| ((1 : Int32) <<< (nI q &&& 31))) (by rw [tc]) (ml_xiv ht hq hT hbh hb hTX ?_)⟩)
  rcases h01 with e | e
  · rw [e] at hp ⊢
    exact br_t rfl hp
  · rw [e] at hp ⊢
    exact br_f ml_10 hp
theorem ml_xcr_l {post : Int32 → SX → Prop} {lo hi : Nat} (ht : t < 4) (hT : ml_T ch st A 6 b (br t)) (hbh : ∀ q, q < 32 → ml_at ch hv 5 (br t) q = bh q) (hb : ∀ q, q < 32 → bh q = 0 ∨ bh q = 1)
    (hTX : ml_TX L sg bh bv bat (wc t) wrt sit (fun i => wk (6 * t + i)) (fun i => wv (6 * t + i)) (fun i => wh (6 * t + i)) se vw) (hlo : lo ≤ hi) (hhi : hi < 32)
    (hp : post (nI (ml_ct (fun j => decide (se (lo + j) ≠ 0)) (hi + 1 - lo))) (fc, ls, tp, ch, lv, hv, st, mr, fn, ro, op, ba, br, ml_rr rs t lo (hi + 1 - lo), wc, wk, wv, wh, sn, sk, ss)) :
    ∀ d n, n + d = hi + 1 - lo → wX_countRange_23 post (nI t) (nI hi) fc ls tp (d + 1) (nI (ml_ct (fun j => decide (se (lo + j) ≠ 0)) n)) (nI (lo + n)) ch lv hv st mr fn ro op ba br (ml_rr rs t lo n) wc wk wv wh sn sk ss := by
  have ti := vp_in_nI (n := t) (N := 4) ht (by decide)
  have tc := nI_clamp (n := t) (by omega)
  intro d
  induction d with
  | zero =>
    intro n hn
    have e : n = hi + 1 - lo := by omega
    subst e
    exact br_t (nI_lt (by omega) (by omega)) hp
  | succ d ih =>
    intro n hn
    refine br_f (nI_nlt (by omega) (by omega)) ⟨ti, ti, ml_nu tc (w := ml_rr rs t lo n t ||| ((1 : Int32) <<< (nI (lo + n) &&& 31))) (by rw [tc]) (ml_xiv (q := lo + n) ht (by omega) hT hbh hb hTX ?_)⟩
    rcases ml_see hTX hb (q := lo + n) (by omega) with e | e
    · have e2 : ml_ct (fun j => decide (se (lo + j) ≠ 0)) (n + 1) = ml_ct (fun j => decide (se (lo + j) ≠ 0)) n := by
        rw [ml_ct_s, if_neg (by rw [e]; decide)]
        rfl
      rw [e]
      refine br_t rfl (nm_r (nI_1 (lo + n)) ?_)
      rw [← e2]
      exact ih (n + 1) (by omega)
    · have e2 : ml_ct (fun j => decide (se (lo + j) ≠ 0)) (n + 1) = ml_ct (fun j => decide (se (lo + j) ≠ 0)) n + 1 := by
        rw [ml_ct_s, if_pos (by rw [e]; decide)]
      rw [e]
      exact br_f ml_10 (nm_r (e' := nI (ml_ct (fun j => decide (se (lo + j) ≠ 0)) (n + 1))) (by rw [e2, nI_1]) (nm_r (nI_1 (lo + n)) (ih (n + 1) (by omega))))
theorem ml_xcr {post : Int32 → SX → Prop} {lo hi : Nat} (ht : t < 4) (ho : op t ≠ 0) (hT : ml_T ch st A 6 b (br t)) (hbh : ∀ q, q < 32 → ml_at ch hv 5 (br t) q = bh q) (hb : ∀ q, q < 32 → bh q = 0 ∨ bh q = 1)
    (hTX : ml_TX L sg bh bv bat (wc t) wrt sit (fun i => wk (6 * t + i)) (fun i => wv (6 * t + i)) (fun i => wh (6 * t + i)) se vw) (hlo : lo ≤ hi) (hhi : hi < 32)
    (hp : post (nI (ml_ct (fun j => decide (se (lo + j) ≠ 0)) (hi + 1 - lo))) (fc, ls, tp, ch, lv, hv, st, mr, fn, ro, op, ba, br, ml_rr rs t lo (hi + 1 - lo), wc, wk, wv, wh, sn, sk, ss)) : wpX_countRange post (fc, ls, tp, ch, lv, hv, st, mr, fn, ro, op, ba, br, rs, wc, wk, wv, wh, sn, sk, ss) (nI t) (nI lo) (nI hi) :=by
  unfold wpX_countRange
  dsimp only
  exact ml_xck ht (nI_pos (by omega)) (ml_n31 hhi) (nI_le hlo (by omega)) (fun z => absurd z ho) (fun _ => br_t rfl ⟨_, ml_xcr_l ht hT hbh hb hTX hlo hhi hp (hi + 1 - lo) 0 (Nat.zero_add _)⟩)
end
section
variable {fc ls tp : Int32} {ch lv hv st mr fn ro op ba br rs wc wk wv wh sn sk ss : Nat → Int32} {t q L : Nat}
theorem ml_xbg_b {post : Int32 → SX → Prop} {x : Int32} (h : x < 0 ∨ 3 < x) (hp : post (-1) (fc, ls, tp, ch, lv, hv, st, mr, fn, ro, op, ba, br, rs, wc, wk, wv, wh, sn, sk, ss)) : wpX_begin post (fc, ls, tp, ch, lv, hv, st, mr, fn, ro, op, ba, br, rs, wc, wk, wv, wh, sn, sk, ss) x := by
  by_cases h0 : x < 0
  · exact br_t h0 hp
  · exact br_f h0 (br_f (Int32.not_le.mpr (h.resolve_left h0)) hp)
theorem ml_xbg {post : Int32 → SX → Prop} (ht : t < 4) (hL : L < 2 ^ 30) (hP : ml_P (ro (L % 6))) (ho : op t ≠ 0 → post (-2) (fc, nI L, tp, ch, lv, hv, st, mr, fn, ro, op, ba, br, rs, wc, wk, wv, wh, sn, sk, ss))
    (hp : op t = 0 → post (nI L) (fc, nI L, tp, ch, lv, hv, st, mr, fn, ro, upd op t 1, upd ba t (nI L), upd br t (ro (L % 6)), upd rs t 0, upd wc t 0, wk, wv, wh, sn, sk, ss)) : wpX_begin post (fc, nI L, tp, ch, lv, hv, st, mr, fn, ro, op, ba, br, rs, wc, wk, wv, wh, sn, sk, ss) (nI t) := by
  have ti := vp_in_nI (n := t) (N := 4) ht (by decide)
  have tc := nI_clamp (n := t) (by omega)
  have e6 := ml_r6 (L := L) (by omega)
  have m6 : L % 6 < 6 := Nat.mod_lt _ (by decide)
  refine br_f (nI_pos (by omega)) (br_t (ml_l3 ht) ⟨ti, ?_⟩)
  rw [tc]
  exact br_c (fun z => ⟨ti, ml_nu rfl ml_nb1 ⟨ti, ml_nu rfl rfl ⟨ml_6n, pk_in (L % 6) 6 m6 e6, ti, ml_nu rfl (w := ro (L % 6)) (by rw [pk_cl (L % 6) e6 (by omega), ml_ns hP]) ⟨ti, ml_nu rfl rfl ⟨ti, ml_nu rfl (w := 0) (by rfl) (hp z)⟩⟩⟩⟩⟩) ho
theorem ml_xab {post : Int32 → SX → Prop} (ht : t < 4) (ho : op t ≠ 0) (hp : post (wc t) (fc, ls, tp, ch, lv, hv, st, mr, fn, ro, upd op t 0, ba, upd br t (-1), rs, wc, wk, wv, wh, sn, sk, ss)) : wpX_abort post (fc, ls, tp, ch, lv, hv, st, mr, fn, ro, op, ba, br, rs, wc, wk, wv, wh, sn, sk, ss) (nI t) := by
  unfold wpX_abort
  dsimp only
  have ti := vp_in_nI (n := t) (N := 4) ht (by decide)
  have tc := nI_clamp (n := t) (by omega)
  refine ml_xck ht (by decide) (by decide) (by decide) (fun z => absurd z ho) (fun _ => br_t rfl ⟨ti, ml_nu tc ml_nb0 ⟨ti, ml_nu tc ml_nsm ⟨ti, ?_⟩⟩⟩)
  rw [tc]
  exact hp
theorem ml_xpu_77 {post : Int32 → SX → Prop} {i : Nat} {v h : Int32} (ht : t < 4) (hi : i < 24) (hh : h = 0 ∨ h = 1) (hp : post (wc t) (fc, ls, tp, ch, lv, hv, st, mr, fn, ro, op, ba, br, rs, wc, wk, upd wv i v, upd wh i h, sn, sk, ss)) : wX_put_77 post (nI t) v h (nI i) fc ls tp ch lv hv st mr fn ro op ba br rs wc wk wv wh sn sk ss := by
  have ti := vp_in_nI (n := t) (N := 4) ht (by decide)
  have tc := nI_clamp (n := t) (by omega)
  have ii := vp_in_nI (n := i) (N := 24) hi (by decide)
  have ic := nI_clamp (n := i) (by omega)
  unfold wX_put_77
  refine ⟨ii, ml_nu ic rfl ⟨ii, ml_nu ic (ml_nb hh) ⟨ti, ?_⟩⟩⟩
  rw [tc]
  exact hp
theorem ml_xpu {post : Int32 → SX → Prop} {v h : Int32} {w : Nat} (ht : t < 4) (hq : q < 32) (ho : op t ≠ 0) (hh : h = 0 ∨ h = 1) (hw : wc t = nI w) (hw6 : w ≤ 6)
    (h1 : ∀ i, i < w → wk (6 * t + i) = nI q → post (nI w) (fc, ls, tp, ch, lv, hv, st, mr, fn, ro, op, ba, br, rs, wc, wk, upd wv (6 * t + i) v, upd wh (6 * t + i) h, sn, sk, ss))
    (h0 : (∀ i, i < w → wk (6 * t + i) ≠ nI q) → w < 6 → post (nI (w + 1)) (fc, ls, tp, ch, lv, hv, st, mr, fn, ro, op, ba, br, rs, upd wc t (nI (w + 1)), upd wk (6 * t + w) (nI q), upd wv (6 * t + w) v, upd wh (6 * t + w) h, sn, sk, ss))
    (hf : (∀ i, i < w → wk (6 * t + i) ≠ nI q) → w = 6 → post (-4) (fc, ls, tp, ch, lv, hv, st, mr, fn, ro, op, ba, br, rs, wc, wk, wv, wh, sn, sk, ss)) : wpX_put post (fc, ls, tp, ch, lv, hv, st, mr, fn, ro, op, ba, br, rs, wc, wk, wv, wh, sn, sk, ss) (nI t) (nI q) v h := by
  unfold wpX_put
  dsimp only
  have ti := vp_in_nI (n := t) (N := 4) ht (by decide)
  have tc := nI_clamp (n := t) (by omega)
  refine ml_xck ht (nI_pos (by omega)) (ml_n31 hq) (Int32.le_refl _) (fun z => absurd z ho) (fun _ => br_t rfl ?_)
  refine ml_xpl ht hw hw6 (fun i hi e => br_t (nI_pos' (by omega)) (ml_xpu_77 ht (by omega) hh ?_)) (fun hn => br_f (by decide) ⟨ti, ?_⟩)
  · rw [hw]
    exact h1 i hi e
  · rw [tc, hw]
    refine pk_lt w 6 (fun z => ⟨ti, nm_r (ml_i6 t w) ⟨ti, ti, ml_nu rfl (w := nI (w + 1)) ?_ ⟨vp_in_nI (by omega) (by decide), ml_nu (nI_clamp (by omega)) (ml_nbb (by omega)) (ml_xpu_77 ht (by omega) hh ?_)⟩⟩⟩) (fun z => hf hn (by omega))
    · rw [nI_1, ml_nbb (by omega)]
    · rw [pk_us]
      exact h0 hn z
end
end
section
/-! the component: push, changedSince, mark -/
section
variable {fc ls tp : Int32} {ch lv hv st mr fn ro op ba br rs wc wk wv wh sn sk ss : Nat → Int32}
theorem ml_xps {post : SX → Prop} {x : Int32} {p k z : Nat} (hP : ml_P x) (hp : p < 16) (hk : k < 64) (hz : z < 64) (h0 : x < 0 → post (fc, ls, nI p, ch, lv, hv, st, mr, fn, ro, op, ba, br, rs, wc, wk, wv, wh, sn, sk, ss)) (h1 : ¬ x < 0 → post (fc, ls, nI (p + 1), ch, lv, hv, st, mr, fn, ro, op, ba, br, rs, wc, wk, wv, wh, upd sn p x, upd sk p (nI k), upd ss p (nI z))) : wpX_push post (fc, ls, nI p, ch, lv, hv, st, mr, fn, ro, op, ba, br, rs, wc, wk, wv, wh, sn, sk, ss) x (nI k) (nI z) := by
  have pi := vp_in_nI (n := p) (N := 16) hp (by decide)
  have pc := nI_clamp (n := p) (by omega)
  by_cases h : x < 0
  · exact br_f (Int32.not_le.mpr h) (h0 h)
  · exact br_t (Int32.not_lt.mp h) ⟨pi, ml_nu pc (ml_nss hP) ⟨pi, ml_nu pc (ml_nbb hk) ⟨pi, ml_nu pc (ml_nbb hz) (nm_r (nI_1 p) (h1 h))⟩⟩⟩
theorem ml_P_nn {x : Int32} (hP : ml_P x) (h : ¬ x < 0) : ∃ n, n < 512 ∧ x = nI n := by
  rcases hP with rfl | z
  · exact absurd ml_m1 h
  · exact z
end
section
variable {fc ls : Int32} {ch lv hv st fn ro op ba br rs wc wk wv wh : Nat → Int32} {A : Nat → Prop}
theorem ml_xmk_l {post : SX → Prop} : ∀ (d : Nat) (b : Int) (x p : Nat) (mr sn sk ss : Nat → Int32) (N : Nat), d + p ≤ 6 → x < 512 → sn p = nI x → ml_T ch st A d b (nI x) →
    (∀ sn' sk' ss', (∀ i, i < p → sn' i = sn i) → ∀ n, N ≤ n → wX_mark_13 post n fc ls (nI p) ch lv hv st (ml_mk ch d (nI x) mr) fn ro op ba br rs wc wk wv wh sn' sk' ss') →
    ∀ n, N + 2 ^ d ≤ n + 1 → wX_mark_13 post n fc ls (nI (p + 1)) ch lv hv st mr fn ro op ba br rs wc wk wv wh sn sk ss := by
  intro d
  induction d with
  | zero =>
    intro b x p mr sn sk ss N _ hx _ hT
    have e : nI x = -1 := hT
    exact absurd ml_m1 (by rw [← e]; exact nI_pos (by omega))
  | succ d ih =>
    intro b x p mr sn sk ss N hdp hx hsn hT hc n hn
    rcases hT with e | ⟨y, h1, h2, e, h4, h5, h6⟩
    · exact absurd ml_m1 (by rw [← e]; exact nI_pos (by omega))
    · have e2 := ml_nI_inj hx h1 e
      subst e2
      have h2d : 0 < 2 ^ d := Nat.two_pow_pos d
      rw [Nat.pow_succ] at hn
      obtain ⟨n', rfl⟩ : ∃ n', n = n' + 1 := ⟨n - 1, by omega⟩
      have pc := nI_clamp (n := p) (by omega)
      have xc := nI_clamp (n := x) (by omega)
      have xi := vp_in_nI (n := x) (N := 512) hx (by decide)
      have i0 := pk_in (2 * x) 1024 (by omega) (ml_2n x)
      have i1 := pk_in (2 * x + 1) 1024 (by omega) (ml_2n1 x)
      have c0 := pk_cl (2 * x) (ml_2n x) (by omega)
      have c1 := pk_cl (2 * x + 1) (ml_2n1 x) (by omega)
      have P0 : ml_P (ch (2 * x)) := ml_T_P h5
      have P1 : ml_P (ch (2 * x + 1)) := ml_T_P h6
      refine br_f (nI_nle (by omega) (by omega)) (nm_r (nI_pred p) ⟨vp_in_nI (by omega) (by decide), nm_r (e' := nI x) (by rw [pc]; exact hsn) ⟨xi, br_c (fun z => ⟨xi, ml_nu xc ml_nb1 ⟨i0, ?_⟩⟩) (fun z => ?_)⟩⟩)
      · rw [xc] at z
        rw [ml_mk_new hx z] at hc
        rw [c0]
        refine ml_xps (k := 0) (z := 0) P0 (by omega) (by decide) (by decide) (fun g0 => And.intro i1 ?_) (fun g0 => And.intro i1 ?_)
        · rw [c1]
          rw [ml_mk_neg g0] at hc
          refine ml_xps (k := 0) (z := 0) P1 (by omega) (by decide) (by decide) (fun g1 => ?_) (fun g1 => ?_)
          · rw [ml_mk_neg g1] at hc
            exact hc _ _ _ (fun i _ => rfl) n' (by omega)
          · obtain ⟨y, hy, ey⟩ := ml_P_nn P1 g1
            rw [ey] at h6 hc
            exact ih _ y p _ _ _ _ N (by omega) hy (by rw [pk_us]; exact ey) h6 (fun sn' sk' ss' ha m hm => hc sn' sk' ss' (fun i hi => by rw [ha i hi, pk_un (by omega)]) m hm) n' (by omega)
        · rw [c1]
          obtain ⟨y0, hy0, ey0⟩ := ml_P_nn P0 g0
          rw [ey0] at h5 hc
          refine ml_xps (k := 0) (z := 0) P1 (by omega) (by decide) (by decide) (fun g1 => ?_) (fun g1 => ?_)
          · rw [ml_mk_neg g1] at hc
            exact ih _ y0 p _ _ _ _ N (by omega) hy0 (by rw [pk_us]; exact ey0) h5 (fun sn' sk' ss' ha m hm => hc sn' sk' ss' (fun i hi => by rw [ha i hi, pk_un (by omega)]) m hm) n' (by omega)
          · obtain ⟨y, hy, ey⟩ := ml_P_nn P1 g1
            rw [ey] at h6 hc
            refine ih _ y (p + 1) _ _ _ _ (N + 2 ^ d - 1) (by omega) hy (by rw [pk_us]; exact ey) h6 (fun sn' sk' ss' ha m hm => ?_) n' (by omega)
            exact ih _ y0 p _ _ _ _ N (by omega) hy0 (by rw [ha p (by omega), pk_un (by omega), pk_us]; exact ey0) h5 (fun sn2 sk2 ss2 ha2 m2 hm2 => hc sn2 sk2 ss2 (fun i hi => by rw [ha2 i hi, ha i (by omega), pk_un (by omega), pk_un (by omega)]) m2 hm2) m (by omega)
      · rw [xc] at z
        rw [ml_mk_old hx z] at hc
        exact hc _ _ _ (fun i _ => rfl) n' (by omega)
theorem ml_xmk {post : SX → Prop} {tp : Int32} {mr sn sk ss : Nat → Int32} {b : Int} {x : Int32} (hT : ml_T ch st A 6 b x) (hp : ∀ tp' sn' sk' ss', post (fc, ls, tp', ch, lv, hv, st, ml_mk ch 6 x mr, fn, ro, op, ba, br, rs, wc, wk, wv, wh, sn', sk', ss')) : wpX_mark post (fc, ls, tp, ch, lv, hv, st, mr, fn, ro, op, ba, br, rs, wc, wk, wv, wh, sn, sk, ss) x := by
  unfold wpX_mark
  dsimp only
  have fin : ∀ sn' sk' ss', ∀ n, 1 ≤ n → wX_mark_13 post n fc ls (nI 0) ch lv hv st (ml_mk ch 6 x mr) fn ro op ba br rs wc wk wv wh sn' sk' ss' := by
    intro sn' sk' ss' n hn
    obtain ⟨n', rfl⟩ : ∃ n', n = n' + 1 := ⟨n - 1, by omega⟩
    exact br_t (by decide) (hp _ _ _ _)
  refine ml_xps (p := 0) (k := 0) (z := 32) (ml_T_P hT) (by decide) (by decide) (by decide) (fun g => ⟨1, ?_⟩) (fun g => ?_)
  · rw [ml_mk_neg g] at fin
    exact fin _ _ _ 1 (Nat.le_refl _)
  · obtain ⟨y, hy, ey⟩ := ml_P_nn (ml_T_P hT) g
    rw [ey] at hT fin
    exact ⟨64, ml_xmk_l 6 b y 0 _ _ _ _ 1 (by decide) hy (Eq.trans pk_us ey) hT (fun sn' sk' ss' _ n hn => fin sn' sk' ss' n hn) 64 (by decide)⟩
end
section
variable {fc ls : Int32} {ch lv hv st mr fn ro op ba br rs wc wk wv wh : Nat → Int32} {A : Nat → Prop} {s set : Int32}
theorem ml_xcs_l {post : Int32 → SX → Prop} : ∀ (d : Nat) (b : Int) (x p key c : Nat) (sn sk ss : Nat → Int32) (N : Nat), d + p ≤ 5 → key + 2 ^ d ≤ 32 → x < 512 → sn p = nI x → sk p = nI key → ss p = nI (2 ^ d) → ml_T ch st A (d + 1) b (nI x) →
    (∀ sn' sk' ss', (∀ i, i < p → sn' i = sn i ∧ sk' i = sk i ∧ ss' i = ss i) → ∀ n, N ≤ n → wX_changedSince_16 post s set n (nI (c + ml_cs ch st s set d (nI x) key)) fc ls (nI p) ch lv hv st mr fn ro op ba br rs wc wk wv wh sn' sk' ss') →
    ∀ n, N + 2 ^ (d + 1) ≤ n + 1 → wX_changedSince_16 post s set n (nI c) fc ls (nI (p + 1)) ch lv hv st mr fn ro op ba br rs wc wk wv wh sn sk ss := by
  intro d
  induction d with
  | zero =>
    intro b x p key c sn sk ss N hdp hkey hx hsn hsk hss hT hc n hn
    obtain ⟨n', rfl⟩ : ∃ n', n = n' + 1 := ⟨n - 1, by omega⟩
    have pc := nI_clamp (n := p) (by omega)
    have xc := nI_clamp (n := x) (by omega)
    have xi := vp_in_nI (n := x) (N := 512) hx (by decide)
    have pi := vp_in_nI (n := p) (N := 16) (by omega) (by decide)
    have hk : key < 32 := by omega
    refine br_f (nI_nle (by omega) (by omega)) (nm_r (nI_pred p) ⟨pi, nm_r (e' := nI x) (by rw [pc]; exact hsn) ⟨pi, nm_r (e' := nI key) (by rw [pc]; exact hsk) ⟨pi, nm_r (e' := nI (2 ^ 0)) (by rw [pc]; exact hss) (br_f (by decide) ?_)⟩⟩⟩)
    have hz := ml_isz set hk (d := 0) (by decide)
    unfold wX_changedSince_88
    refine ⟨xi, br_c (fun z => ?_) (fun z => br_c (fun y => ?_) (fun y => br_t (by decide) ?_))⟩
    · rw [xc] at z
      rw [ml_cs_old hx z] at hc
      exact hc _ _ _ (fun i _ => ⟨rfl, rfl, rfl⟩) n' (by omega)
    · rw [ml_cs_out hx (hz.mp y)] at hc
      exact hc _ _ _ (fun i _ => ⟨rfl, rfl, rfl⟩) n' (by omega)
    · rw [xc] at z
      have hi : ml_is set key 0 = true := by
        cases h : ml_is set key 0 with
        | true => rfl
        | false => exact absurd (hz.mpr h) y
      rw [ml_cs_leaf hx z hi] at hc
      exact nm_r (nI_1 c) (hc _ _ _ (fun i _ => ⟨rfl, rfl, rfl⟩) n' (by omega))
  | succ d ih =>
    intro b x p key c sn sk ss N hdp hkey hx hsn hsk hss hT hc n hn
    rcases hT with e | ⟨y, h1, h2, e, h4, h5, h6⟩
    · exact absurd ml_m1 (by rw [← e]; exact nI_pos (by omega))
    · have e2 := ml_nI_inj hx h1 e
      subst e2
      have h2d : 0 < 2 ^ d := Nat.two_pow_pos d
      have h2e : 2 ^ (d + 1) = 2 ^ d * 2 := Nat.pow_succ ..
      have h2f : 2 ^ (d + 1 + 1) = 2 ^ d * 2 * 2 := by rw [Nat.pow_succ, Nat.pow_succ]
      obtain ⟨n', rfl⟩ : ∃ n', n = n' + 1 := ⟨n - 1, by omega⟩
      have pc := nI_clamp (n := p) (by omega)
      have xc := nI_clamp (n := x) (by omega)
      have xi := vp_in_nI (n := x) (N := 512) hx (by decide)
      have pi := vp_in_nI (n := p) (N := 16) (by omega) (by decide)
      have i0 := pk_in (2 * x) 1024 (by omega) (ml_2n x)
      have i1 := pk_in (2 * x + 1) 1024 (by omega) (ml_2n1 x)
      have c0 := pk_cl (2 * x) (ml_2n x) (by omega)
      have c1 := pk_cl (2 * x + 1) (ml_2n1 x) (by omega)
      have P0 : ml_P (ch (2 * x)) := ml_T_P h5
      have P1 : ml_P (ch (2 * x + 1)) := ml_T_P h6
      have ed : nI (2 ^ (d + 1)) / 2 = nI (2 ^ d) := by
        have := pk_div (a := 2 ^ (d + 1)) (d := 2) (by omega) (by decide) (by decide)
        rw [h2e, Nat.mul_div_cancel _ (by decide)] at this
        rw [h2e]
        exact this
      have ek : nI key + nI (2 ^ (d + 1)) / 2 = nI (key + 2 ^ d) := by rw [ed, nI_add]
      have n1 : ¬ nI (2 ^ (d + 1)) = 1 := fun z => by
        have := (nI_eq (a := 2 ^ (d + 1)) (b := 1) (by omega) (by omega)).mp z
        omega
      have body : ∀ z0 : Int32, (z0 = 0 ↔ ml_is set key (d + 1) = false) → wX_changedSince_88 post (wX_changedSince_16 post s set n') s set (nI c) (nI x) (nI key) (nI (2 ^ (d + 1))) z0 fc ls (nI p) ch lv hv st mr fn ro op ba br rs wc wk wv wh sn sk ss := by
        intro z0 hz
        unfold wX_changedSince_88
        refine ⟨xi, br_c (fun z => ?_) (fun z => br_c (fun y => ?_) (fun y => br_f n1 ⟨i0, ml_2z, ?_⟩))⟩
        · rw [xc] at z
          rw [ml_cs_old hx z] at hc
          exact hc _ _ _ (fun i _ => ⟨rfl, rfl, rfl⟩) n' (by omega)
        · rw [ml_cs_out hx (hz.mp y)] at hc
          exact hc _ _ _ (fun i _ => ⟨rfl, rfl, rfl⟩) n' (by omega)
        · rw [xc] at z
          have hi : ml_is set key (d + 1) = true := by
            cases h : ml_is set key (d + 1) with
            | true => rfl
            | false => exact absurd (hz.mpr h) y
          rw [ml_cs_node hx z hi] at hc
          rw [c0, ek, ed]
          refine ml_xps P0 (by omega) (by omega) (by omega) (fun g0 => And.intro i1 (And.intro ml_2z (And.intro ml_2z ?_))) (fun g0 => And.intro i1 (And.intro ml_2z (And.intro ml_2z ?_)))
          · rw [c1]
            rw [ml_cs_neg g0] at hc
            refine ml_xps P1 (by omega) (by omega) (by omega) (fun g1 => ?_) (fun g1 => ?_)
            · rw [ml_cs_neg g1] at hc
              exact hc _ _ _ (fun i _ => ⟨rfl, rfl, rfl⟩) n' (by omega)
            · obtain ⟨y, hy, ey⟩ := ml_P_nn P1 g1
              rw [ey] at h6 hc
              exact ih _ y p (key + 2 ^ d) c _ _ _ N (by omega) (by omega) hy (by rw [pk_us]; exact ey) pk_us pk_us h6 (fun sn' sk' ss' ha m hm => hc sn' sk' ss' (fun i hi => by
                obtain ⟨a1, a2, a3⟩ := ha i hi
                rw [a1, a2, a3, pk_un (by omega), pk_un (by omega), pk_un (by omega)]
                exact ⟨rfl, rfl, rfl⟩) m hm) n' (by omega)
          · rw [c1]
            obtain ⟨y0, hy0, ey0⟩ := ml_P_nn P0 g0
            rw [ey0] at h5 hc
            refine ml_xps P1 (by omega) (by omega) (by omega) (fun g1 => ?_) (fun g1 => ?_)
            · rw [ml_cs_neg g1, Nat.zero_add] at hc
              exact ih _ y0 p key c _ _ _ N (by omega) (by omega) hy0 (by rw [pk_us]; exact ey0) pk_us pk_us h5 (fun sn' sk' ss' ha m hm => hc sn' sk' ss' (fun i hi => by
                obtain ⟨a1, a2, a3⟩ := ha i hi
                rw [a1, a2, a3, pk_un (by omega), pk_un (by omega), pk_un (by omega)]
                exact ⟨rfl, rfl, rfl⟩) m hm) n' (by omega)
            · obtain ⟨y, hy, ey⟩ := ml_P_nn P1 g1
              rw [ey] at h6 hc
              refine ih _ y (p + 1) (key + 2 ^ d) c _ _ _ (N + 2 ^ (d + 1) - 1) (by omega) (by omega) hy (by rw [pk_us]; exact ey) pk_us pk_us h6 (fun sn' sk' ss' ha m hm => ?_) n' (by omega)
              obtain ⟨b1, b2, b3⟩ := ha p (by omega)
              refine ih _ y0 p key _ _ _ _ N (by omega) (by omega) hy0 (by rw [b1, pk_un (by omega), pk_us]; exact ey0) (by rw [b2, pk_un (by omega), pk_us]) (by rw [b3, pk_un (by omega), pk_us]) h5 (fun sn2 sk2 ss2 ha2 m2 hm2 => ?_) m (by omega)
              rw [Nat.add_assoc]
              exact hc sn2 sk2 ss2 (fun i hi => by
                obtain ⟨a1, a2, a3⟩ := ha2 i hi
                obtain ⟨q1, q2, q3⟩ := ha i (by omega)
                rw [a1, a2, a3, q1, q2, q3, pk_un (by omega), pk_un (by omega), pk_un (by omega), pk_un (by omega), pk_un (by omega), pk_un (by omega)]
                exact ⟨rfl, rfl, rfl⟩) m2 hm2
      refine br_f (nI_nle (by omega) (by omega)) (nm_r (nI_pred p) ⟨pi, nm_r (e' := nI x) (by rw [pc]; exact hsn) ⟨pi, nm_r (e' := nI key) (by rw [pc]; exact hsk) ⟨pi, nm_r (e' := nI (2 ^ (d + 1))) (by rw [pc]; exact hss) (pk_eq (2 ^ (d + 1)) 32 (fun e => body _ ?_) (fun e => body _ ?_))⟩⟩⟩)
      · have hk0 : key = 0 := by omega
        have hd5 : d + 1 = 5 := by
          have : d = 0 ∨ d = 1 ∨ d = 2 ∨ d = 3 ∨ d = 4 := by omega
          rcases this with rfl | rfl | rfl | rfl | rfl
          · exact absurd e (by decide)
          · exact absurd e (by decide)
          · exact absurd e (by decide)
          · exact absurd e (by decide)
          · rfl
        rw [hk0, hd5]
        exact ml_isz5 set
      · have hd5 : d + 1 < 5 := by
          have : d = 0 ∨ d = 1 ∨ d = 2 ∨ d = 3 ∨ d = 4 := by omega
          rcases this with rfl | rfl | rfl | rfl | rfl
          · decide
          · decide
          · decide
          · decide
          · exact absurd rfl e
        exact ml_isz set (by omega) hd5
theorem ml_xcs {post : Int32 → SX → Prop} {tp : Int32} {sn sk ss : Nat → Int32} {b : Int} {x : Int32} (hT : ml_T ch st A 6 b x) (hp : ∀ tp' sn' sk' ss', post (nI (ml_cs ch st s set 5 x 0)) (fc, ls, tp', ch, lv, hv, st, mr, fn, ro, op, ba, br, rs, wc, wk, wv, wh, sn', sk', ss')) : wpX_changedSince post (fc, ls, tp, ch, lv, hv, st, mr, fn, ro, op, ba, br, rs, wc, wk, wv, wh, sn, sk, ss) x s set := by
  unfold wpX_changedSince
  dsimp only
  have fin : ∀ sn' sk' ss', ∀ n, 1 ≤ n → wX_changedSince_16 post s set n (nI (0 + ml_cs ch st s set 5 x 0)) fc ls (nI 0) ch lv hv st mr fn ro op ba br rs wc wk wv wh sn' sk' ss' := by
    intro sn' sk' ss' n hn
    obtain ⟨n', rfl⟩ : ∃ n', n = n' + 1 := ⟨n - 1, by omega⟩
    rw [Nat.zero_add]
    exact br_t (by decide) (hp _ _ _ _)
  refine ml_xps (p := 0) (k := 0) (z := 32) (ml_T_P hT) (by decide) (by decide) (by decide) (fun g => ⟨1, ?_⟩) (fun g => ?_)
  · rw [ml_cs_neg g] at fin
    exact fin _ _ _ 1 (Nat.le_refl _)
  · obtain ⟨y, hy, ey⟩ := ml_P_nn (ml_T_P hT) g
    rw [ey] at hT fin
    exact ⟨64, ml_xcs_l 5 b y 0 0 0 _ _ _ 1 (by decide) (by decide) hy (Eq.trans pk_us ey) pk_us pk_us hT (fun sn' sk' ss' _ n hn => fin sn' sk' ss' n hn) 64 (by decide)⟩
end
end
section
/-! the component: collect -/
section
variable {ls : Int32} {ch lv hv st ro op ba br rs wc wk wv wh : Nat → Int32} {A : Nat → Prop} {b : Int}
/-- the free ones, from the marks: those from k on -/
def ml_G (mr : Nat → Int32) (k F : Nat) (fn : Nat → Int32) : Prop :=
  (∀ i, i < F → ∃ m, k ≤ m ∧ m < 512 ∧ fn i = nI m ∧ mr m = 0) ∧ (∀ i j, i < j → j < F → fn i ≠ fn j) ∧ F + ml_ct (fun n => decide (mr n = 0)) k = ml_ct (fun n => decide (mr n = 0)) 512
theorem ml_xco_78 {post : SX → Prop} {tp : Int32} {mr sn sk ss : Nat → Int32} (hp : ∀ F' fn', ml_G mr 0 F' fn' → post (nI F', ls, tp, ch, lv, hv, st, mr, fn', ro, op, ba, br, rs, wc, wk, wv, wh, sn, sk, ss)) :
    ∀ k F fn, k ≤ 512 → ml_G mr k F fn → wX_collect_78 post ls tp (k + 1) (ml_k k) (nI F) ch lv hv st mr fn ro op ba br rs wc wk wv wh sn sk ss := by
  intro k
  induction k with
  | zero => exact fun F fn _ hG => br_t ml_m1 (hp F fn hG)
  | succ k ih =>
    intro F fn hk hG
    obtain ⟨g1, g2, g3⟩ := hG
    have kc := nI_clamp (n := k) (by omega)
    show wX_collect_78 post ls tp (k + 1 + 1) (nI k) (nI F) ch lv hv st mr fn ro op ba br rs wc wk wv wh sn sk ss
    refine br_f (nI_pos (by omega)) ⟨vp_in_nI (by omega) (by decide), br_c (fun z => ?_) (fun z => ?_)⟩
    · rw [kc] at z
      have hle := ml_ct_le (fun n => decide (mr n = 0)) 512
      have hs : ml_ct (fun n => decide (mr n = 0)) (k + 1) = ml_ct (fun n => decide (mr n = 0)) k + 1 := by
        rw [ml_ct_s, if_pos (decide_eq_true z)]
      have Fc := nI_clamp (n := F) (by omega)
      refine ⟨vp_in_nI (by omega) (by decide), ml_nu Fc (ml_nss (Or.inr ⟨k, by omega, rfl⟩)) (nm_r (nI_1 F) (nm_r (ml_kd k) (ih (F + 1) _ (by omega) ⟨?_, ?_, by omega⟩)))⟩
      · intro i hi
        by_cases e : i = F
        · subst e
          exact ⟨k, Nat.le_refl _, by omega, pk_us, z⟩
        · obtain ⟨m, m1, m2, m3, m4⟩ := g1 i (by omega)
          exact ⟨m, by omega, m2, by rw [pk_un e]; exact m3, m4⟩
      · intro i j hij hj
        rw [pk_un (show i ≠ F by omega)]
        by_cases e : j = F
        · subst e
          rw [pk_us]
          obtain ⟨m, m1, m2, m3, m4⟩ := g1 i hij
          rw [m3]
          intro e2
          have := ml_nI_inj m2 (by omega) e2
          omega
        · rw [pk_un e]
          exact g2 i j hij (by omega)
    · rw [kc] at z
      have hs : ml_ct (fun n => decide (mr n = 0)) (k + 1) = ml_ct (fun n => decide (mr n = 0)) k := by
        rw [ml_ct_s, if_neg (by rw [decide_eq_true_eq]; exact z)]
        rfl
      refine nm_r (ml_kd k) (ih F fn (by omega) ⟨fun i hi => ?_, g2, by omega⟩)
      obtain ⟨m, m1, m2, m3, m4⟩ := g1 i hi
      exact ⟨m, by omega, m2, m3, m4⟩
/-- what is marked after some roots -/
def ml_Kr (ch mr ro : Nat → Int32) (j : Nat) (br : Nat → Int32) (t : Nat) : Prop :=
  ml_C ch mr [] ∧ (∀ i, i < j → ro i < 0 ∨ mr (ro i).toNatClampNeg ≠ 0) ∧ (∀ i, i < t → br i < 0 ∨ mr (br i).toNatClampNeg ≠ 0) ∧
  (∀ n, n < 512 → mr n ≠ 0 → (∃ i, i < j ∧ n ∈ ml_nd ch 6 (ro i)) ∨ ∃ i, i < t ∧ n ∈ ml_nd ch 6 (br i))
theorem ml_C_w {m : Nat → Int32} {x : Int32} (h : ml_C ch m []) : ml_C ch m (x :: []) := fun n hn hm s hs => by
  rcases h n hn hm s hs with z | z | z
  · exact Or.inl z
  · exact Or.inr (Or.inl z)
  · exact absurd z (List.not_mem_nil)
theorem ml_Kr_ro {mr : Nat → Int32} {j : Nat} (hT : ml_T ch st A 6 b (ro j)) (h : ml_Kr ch mr ro j br 0) : ml_Kr ch (ml_mk ch 6 (ro j) mr) ro (j + 1) br 0 := by
  obtain ⟨k1, k2, k3, k4⟩ := h
  obtain ⟨c1, c2⟩ := ml_mk_C 6 b (ro j) mr [] hT (ml_C_w k1)
  refine ⟨c1, fun i hi => ?_, fun i hi => absurd hi (Nat.not_lt_zero i), fun n hn hm => ?_⟩
  · by_cases e : i = j
    · subst e; exact c2
    · exact (k2 i (by omega)).imp id (fun z => ml_mk_mono _ _ _ z)
  · rcases ml_mk_sub _ _ _ hm with z | z
    · rcases k4 n hn z with ⟨i, hi, hm⟩ | ⟨i, hi, hm⟩
      · exact Or.inl ⟨i, by omega, hm⟩
      · exact absurd hi (Nat.not_lt_zero i)
    · exact Or.inl ⟨j, Nat.lt_succ_self j, z⟩
theorem ml_Kr_br {mr : Nat → Int32} {t : Nat} (hT : ml_T ch st A 6 b (br t)) (h : ml_Kr ch mr ro 6 br t) : ml_Kr ch (ml_mk ch 6 (br t) mr) ro 6 br (t + 1) := by
  obtain ⟨k1, k2, k3, k4⟩ := h
  obtain ⟨c1, c2⟩ := ml_mk_C 6 b (br t) mr [] hT (ml_C_w k1)
  refine ⟨c1, fun i hi => (k2 i hi).imp id (fun z => ml_mk_mono _ _ _ z), fun i hi => ?_, fun n hn hm => ?_⟩
  · by_cases e : i = t
    · subst e; exact c2
    · exact (k3 i (by omega)).imp id (fun z => ml_mk_mono _ _ _ z)
  · rcases ml_mk_sub _ _ _ hm with z | z
    · rcases k4 n hn z with ⟨i, hi, hm⟩ | ⟨i, hi, hm⟩
      · exact Or.inl ⟨i, hi, hm⟩
      · exact Or.inr ⟨i, by omega, hm⟩
    · exact Or.inr ⟨t, Nat.lt_succ_self t, z⟩
theorem ml_xco_48 {post : SX → Prop} {fc : Int32} {fn : Nat → Int32} (hT : ∀ t, t < 4 → ml_T ch st A 6 b (br t))
    (hp : ∀ tp mr sn sk ss, ml_Kr ch mr ro 6 br 4 → ∃ n, wX_collect_78 post ls tp n 511 0 ch lv hv st mr fn ro op ba br rs wc wk wv wh sn sk ss) :
    ∀ d t tp mr sn sk ss, t + d = 4 → ml_Kr ch mr ro 6 br t → wX_collect_48 post (d + 1) (nI t) fc ls tp ch lv hv st mr fn ro op ba br rs wc wk wv wh sn sk ss := by
  intro d
  induction d with
  | zero =>
    intro t tp mr sn sk ss ht hK
    have e : t = 4 := by omega
    subst e
    exact br_t (nI_le (a := 4) (b := 4) (Nat.le_refl _) (by decide)) (hp tp mr sn sk ss hK)
  | succ d ih =>
    intro t tp mr sn sk ss ht hK
    refine br_f (nI_ge (a := t) (b := 4) (by omega) (by decide)) ⟨vp_in_nI (by omega) (by decide), ?_⟩
    rw [nI_clamp (n := t) (by omega)]
    exact ml_xmk (hT t (by omega)) (fun tp' sn' sk' ss' => nm_r (nI_1 t) (ih (t + 1) tp' _ sn' sk' ss' (by omega) (ml_Kr_br (hT t (by omega)) hK)))
theorem ml_xco_24 {post : SX → Prop} {fc : Int32} {fn : Nat → Int32} (hT : ∀ j, j < 6 → ml_T ch st A 6 b (ro j))
    (hp : ∀ tp mr sn sk ss, ml_Kr ch mr ro 6 br 0 → ∃ n, wX_collect_48 post n 0 fc ls tp ch lv hv st mr fn ro op ba br rs wc wk wv wh sn sk ss) :
    ∀ d j tp mr sn sk ss, j + d = 6 → ml_Kr ch mr ro j br 0 → wX_collect_24 post (d + 1) (nI j) fc ls tp ch lv hv st mr fn ro op ba br rs wc wk wv wh sn sk ss := by
  intro d
  induction d with
  | zero =>
    intro t tp mr sn sk ss ht hK
    have e : t = 6 := by omega
    subst e
    exact br_t (nI_le (a := 6) (b := 6) (Nat.le_refl _) (by decide)) (hp tp mr sn sk ss hK)
  | succ d ih =>
    intro t tp mr sn sk ss ht hK
    refine br_f (nI_ge (a := t) (b := 6) (by omega) (by decide)) ⟨vp_in_nI (by omega) (by decide), ?_⟩
    rw [nI_clamp (n := t) (by omega)]
    exact ml_xmk (hT t (by omega)) (fun tp' sn' sk' ss' => nm_r (nI_1 t) (ih (t + 1) tp' _ sn' sk' ss' (by omega) (ml_Kr_ro (hT t (by omega)) hK)))
theorem ml_xco_2 {post : SX → Prop} {fc tp : Int32} {fn sn sk ss : Nat → Int32} (hp : ∀ mr, (∀ n, n < 512 → mr n = 0) → ∃ n, wX_collect_24 post n 0 fc ls tp ch lv hv st mr fn ro op ba br rs wc wk wv wh sn sk ss) :
    ∀ d j mr, j + d = 512 → (∀ n, n < j → mr n = 0) → wX_collect_2 post fc ls tp (d + 1) (nI j) ch lv hv st mr fn ro op ba br rs wc wk wv wh sn sk ss := by
  intro d
  induction d with
  | zero =>
    intro j mr hj h
    have e : j = 512 := by omega
    subst e
    exact br_t (nI_le (a := 512) (b := 512) (Nat.le_refl _) (by decide)) (hp mr h)
  | succ d ih =>
    intro j mr hj h
    refine br_f (nI_ge (a := j) (b := 512) (by omega) (by decide)) ⟨vp_in_nI (by omega) (by decide), ml_nu (nI_clamp (by omega)) ml_nb0 (nm_r (nI_1 j) (ih (j + 1) _ (by omega) (fun n hn => ?_)))⟩
    by_cases e : n = j
    · subst e; exact pk_us
    · rw [pk_un e]; exact h n (by omega)
end
section
variable {F L : Nat} {ls tp : Int32} {ch lv hv st mr fn ro op ba br rs wc wk wv wh sn sk ss th va : Nat → Int32} {RS BH BV : Nat → Nat → Int32}
theorem ml_xco {post : SX → Prop} (H : ml_HP F L ch lv hv st fn ro br th va RS BH BV) (hC : ml_CN ch ro L 0)
    (hp : ∀ F' fn' tp' mr' sn' sk' ss', ml_HP F' L ch lv hv st fn' ro br th va RS BH BV → 36 ≤ F' → post (nI F', ls, tp', ch, lv, hv, st, mr', fn', ro, op, ba, br, rs, wc, wk, wv, wh, sn', sk', ss')) : wpX_collect post (nI F, ls, tp, ch, lv, hv, st, mr, fn, ro, op, ba, br, rs, wc, wk, wv, wh, sn, sk, ss) := by
  have H4 := H.2.2.2.1
  have H5 := H.2.2.2.2.1
  refine ⟨513, ml_xco_2 (fun mr0 h0 => ⟨7, ml_xco_24 H4 (fun tp1 mr1 sn1 sk1 ss1 K1 => ⟨5, ml_xco_48 H5 (fun tp2 mr2 sn2 sk2 ss2 K2 => ⟨513, ml_xco_78 (fun F' fn' hG => ?_) 512 0 fn (by decide) ⟨fun i hi => absurd hi (Nat.not_lt_zero i), fun i j _ hj => absurd hj (Nat.not_lt_zero j), Nat.zero_add _⟩⟩) 4 0 tp1 mr1 sn1 sk1 ss1 rfl K1⟩) 6 0 tp mr0 sn sk ss rfl ⟨fun n hn hm => absurd (h0 n hn) hm, fun i hi => absurd hi (Nat.not_lt_zero i), fun i hi => absurd hi (Nat.not_lt_zero i), fun n hn hm => absurd (h0 n hn) hm⟩⟩) 512 0 mr (by decide) (fun n hn => absurd hn (Nat.not_lt_zero n))⟩
  obtain ⟨g1, g2, g3⟩ := hG
  obtain ⟨k1, k2, k3, k4⟩ := K2
  obtain ⟨q1, q2⟩ := ml_HP_gc H hC k1 k2 k3 k4 (fun i hi => by obtain ⟨m, _, m2, m3, m4⟩ := g1 i hi; exact ⟨m, m2, m3, m4⟩) g2 g3
  exact hp _ _ _ _ _ _ _ q1 q2
end
end
section
/-! the component: newNode, written -/
section
variable {fc ls tp : Int32} {ch lv hv st mr fn ro op ba br rs wc wk wv wh sn sk ss : Nat → Int32}
theorem ml_xnn {post : Int32 → SX → Prop} {F r : Nat} (hF : F < 512) (hr : fn F = nI r) (hr5 : r < 512) (hp : post (nI r) (nI F, ls, tp, ch, lv, hv, upd st r ls, mr, fn, ro, op, ba, br, rs, wc, wk, wv, wh, sn, sk, ss)) : wpX_newNode post (nI (F + 1), ls, tp, ch, lv, hv, st, mr, fn, ro, op, ba, br, rs, wc, wk, wv, wh, sn, sk, ss) :=
  nm_r (nI_pred F) ⟨vp_in_nI hF (by decide), nm_r (e' := nI r) (by rw [nI_clamp (by omega)]; exact hr) ⟨vp_in_nI hr5 (by decide), ml_nu (nI_clamp (by omega)) rfl hp⟩⟩
end
section
variable {ls : Int32} {c0 lv hv st0 mr fn ro op ba br rs wc wk wv wh sk ss : Nat → Int32} {F0 m0 q : Nat} {L : Int}
/-- one step up -/
theorem ml_xwr_up {post : Int32 → SX → Prop} {d p F' : Nat} {x y : Int32} {c st sn : Nat → Int32} (hq : q < 32) (hd : d < 5) (hp5 : p < 16) (hF : ml_F fn F0) (hF5 : F0 ≤ 512) (hF1 : d < F0) (hL : ls.toInt = L)
    (hx : ml_T c0 st0 (ml_A fn F0) (d + 2) L x) (hsn : sn p = x)
    (hW : ml_W fn c0 st0 F0 m0 q L d (if x < 0 then x else c0 (2 * x.toNatClampNeg + ml_b q d)) F' c st y)
    (hc : ∀ F c st y, ml_W fn c0 st0 F0 m0 q L (d + 1) x F c st y → wX_written_135 post (nI q) (6 - (d + 1)) y (nI (d + 1)) (nI F) ls (nI p) c lv hv st mr fn ro op ba br rs wc wk wv wh sn sk ss) :
    wX_written_135 post (nI q) (6 - d) y (nI d) (nI F') ls (nI (p + 1)) c lv hv st mr fn ro op ba br rs wc wk wv wh sn sk ss := by
  obtain ⟨F, rfl⟩ : ∃ F, F' = F + 1 := ⟨F' - 1, by have := hW.1; omega⟩
  have hFF : F + 1 + d = F0 := hW.1
  obtain ⟨r, hr5, hr⟩ := hF.1 F (by omega)
  have hb := ml_b01 q d
  have hyP : ml_P y := Or.inr hW.2.1
  have e6 : 6 - d = (6 - (d + 1)) + 1 := by omega
  rw [e6]
  have pc := nI_clamp (n := p) (by omega)
  have es := ml_2ns r (ml_b q d)
  have eo := ml_2no r (ml_b q d) (by omega)
  have cs := pk_cl (2 * r + ml_b q d) es (by omega)
  have co := pk_cl (2 * r + 1 - ml_b q d) eo (by omega)
  refine br_f (nI_ge (a := d) (b := 5) (by omega) (by decide)) (nm_r (nI_pred p) ⟨vp_in_nI hp5 (by decide), nm_r (e' := x) (by rw [pc]; exact hsn) (nm_r (ml_kb hq (by omega)) (ml_xnn (by omega) hr hr5 ?_))⟩)
  refine ⟨pk_in (2 * r + ml_b q d) 1024 (by omega) es, ml_nu cs (ml_nss hyP) ?_⟩
  by_cases hneg : x < 0
  · refine br_f (Int32.not_le.mpr hneg) ⟨pk_in (2 * r + 1 - ml_b q d) 1024 (by omega) eo, ml_nu co ml_nsm (nm_r (nI_1 d) ?_)⟩
    exact hc F _ _ _ (ml_W_step hF hL hx hW hr hr5 (-1) (by rw [if_pos hneg]))
  · have hW3 := hW.2.2.1
    rcases hx with rfl | ⟨n, h1, h2, rfl, h4, h5, h6⟩
    · exact absurd ml_m1 hneg
    · have en := ml_2no n (ml_b q d) (by omega)
      have cn := pk_cl (2 * n + 1 - ml_b q d) en (by omega)
      have hnr : n ≠ r := fun e => h2 F (by omega) (by rw [e]; exact hr)
      have hb2 : 1 - ml_b q d = 0 ∨ 1 - ml_b q d = 1 := by omega
      have e1 : 2 * n + 1 - ml_b q d = 2 * n + (1 - ml_b q d) := by omega
      have hoP : ml_P (c (2 * n + 1 - ml_b q d)) := by
        rw [e1, ml_Ag_s hW3 h1 h2 hb2]
        exact ml_T_P (ml_T_s h5 h6 hb2)
      refine br_t (Int32.not_lt.mp hneg) ⟨pk_in (2 * n + 1 - ml_b q d) 1024 (by omega) en, pk_in (2 * r + 1 - ml_b q d) 1024 (by omega) eo, ml_nu co (w := c (2 * n + 1 - ml_b q d)) ?_ (nm_r (nI_1 d) ?_)⟩
      · rw [cn, pk_un (by omega), ml_ns hoP]
      · exact hc F _ _ _ (ml_W_step hF hL (Or.inr ⟨n, h1, h2, rfl, h4, h5, h6⟩) hW hr hr5 _ (by rw [if_neg hneg, nI_clamp (by omega)]))
theorem ml_xwr_l {post : Int32 → SX → Prop} (hq : q < 32) (hF : ml_F fn F0) (hF5 : F0 ≤ 512) (hF1 : 5 ≤ F0) (hL : ls.toInt = L) (hm : m0 < 512) (hA : ml_A fn F0 m0) (hs : (st0 m0).toInt ≤ L) (h0 : c0 (2 * m0) = -1) (h1 : c0 (2 * m0 + 1) = -1) :
    ∀ (d : Nat) (x : Int32) (p : Nat) (sn : Nat → Int32), p + d = 5 → ml_T c0 st0 (ml_A fn F0) (d + 1) L x →
    (∀ F c st y sn', (∀ i, i < p → sn' i = sn i) → ml_W fn c0 st0 F0 m0 q L d x F c st y → wX_written_135 post (nI q) (6 - d) y (nI d) (nI F) ls (nI p) c lv hv st mr fn ro op ba br rs wc wk wv wh sn' sk ss) →
    ∀ n, d < n → wX_written_72 post (nI q) (nI m0) (nI F0) ls n x (ml_k d) (nI p) c0 lv hv st0 mr fn ro op ba br rs wc wk wv wh sn sk ss := by
  intro d
  induction d with
  | zero =>
    intro x p sn hpd hT hc n hn
    obtain ⟨n', rfl⟩ : ∃ n', n = n' + 1 := ⟨n - 1, by omega⟩
    exact br_t ml_m1 ⟨6, hc F0 c0 st0 (nI m0) sn (fun i _ => rfl) (ml_W_0 hm hA hs h0 h1)⟩
  | succ d ih =>
    intro x p sn hpd hT hc n hn
    obtain ⟨n', rfl⟩ : ∃ n', n = n' + 1 := ⟨n - 1, by omega⟩
    show wX_written_72 post (nI q) (nI m0) (nI F0) ls (n' + 1) x (nI d) (nI p) c0 lv hv st0 mr fn ro op ba br rs wc wk wv wh sn sk ss
    have pc := nI_clamp (n := p) (by omega)
    have hTc : ml_T c0 st0 (ml_A fn F0) (d + 1) L (if x < 0 then x else c0 (2 * x.toNatClampNeg + ml_b q d)) := by
      rcases hT with rfl | ⟨k, k1, k2, rfl, k4, k5, k6⟩
      · rw [if_pos ml_m1]; exact ml_T_neg _ _
      · rw [if_neg (nI_pos (by omega)), nI_clamp (by omega)]
        exact ml_T_le (fun _ z => z) _ _ _ _ k4 (ml_T_s k5 k6 (ml_b01 q d))
    have go := ih (if x < 0 then x else c0 (2 * x.toNatClampNeg + ml_b q d)) (p + 1) (upd sn p x) (by omega) hTc (fun F c st y sn' ha hW => ml_xwr_up hq (by omega) (by omega) hF hF5 (by omega) hL hT (by rw [ha p (by omega), pk_us]) hW (fun F2 c2 st2 y2 hW2 => hc F2 c2 st2 y2 sn' (fun i hi => by rw [ha i (by omega), pk_un (by omega)]) hW2)) n' (by omega)
    refine br_f (nI_pos (by omega)) ⟨vp_in_nI (by omega) (by decide), ml_nu pc (ml_nss (ml_T_P hT)) (nm_r (nI_1 p) ?_)⟩
    by_cases hneg : x < 0
    · rw [if_pos hneg] at go
      exact br_t hneg (nm_r (ml_kd d) go)
    · rw [if_neg hneg] at go
      rcases hT with rfl | ⟨k, k1, k2, rfl, k4, k5, k6⟩
      · exact absurd ml_m1 hneg
      · rw [nI_clamp (by omega)] at go
        have e := ml_kbi (n := k) hq (d := d) (by omega)
        have hb := ml_b01 q d
        exact br_f hneg ⟨pk_in (2 * k + ml_b q d) 1024 (by omega) e, nm_r (e' := c0 (2 * k + ml_b q d)) (by rw [pk_cl (2 * k + ml_b q d) e (by omega)]) (nm_r (ml_kd d) go)⟩
end
section
variable {fc ls tp : Int32} {ch lv hv st mr fn ro op ba br rs wc wk wv wh sn sk ss : Nat → Int32} {F q i : Nat} {L : Int}
theorem ml_xwr {post : Int32 → SX → Prop} {x : Int32} (hq : q < 32) (hi : i < 24) (hwk : wk i = nI q) (hwh : wh i = 0 ∨ wh i = 1) (hF : ml_F fn (F + 6)) (hF5 : F + 6 ≤ 512) (hL : ls.toInt = L) (hT : ml_T ch st (ml_A fn (F + 6)) 6 L x)
    (hp : ∀ y ch' lv' hv' st' tp' sn', ml_R fn F q L (wv i) (wh i) ls ch lv hv st x ch' lv' hv' st' y → post y (nI F, ls, tp', ch', lv', hv', st', mr, fn, ro, op, ba, br, rs, wc, wk, wv, wh, sn', sk, ss)) : wpX_written post (nI (F + 6), ls, tp, ch, lv, hv, st, mr, fn, ro, op, ba, br, rs, wc, wk, wv, wh, sn, sk, ss) x (nI i) := by
  have ii := vp_in_nI (n := i) (N := 24) hi (by decide)
  have ic := nI_clamp (n := i) (by omega)
  obtain ⟨m0, hm, hm0⟩ := hF.1 (F + 5) (by omega)
  have mi := vp_in_nI (n := m0) (N := 512) hm (by decide)
  have mc := nI_clamp (n := m0) (by omega)
  have c0 := pk_cl (2 * m0) (ml_2n m0) (by omega)
  have c1 := pk_cl (2 * m0 + 1) (ml_2n1 m0) (by omega)
  have hAm : ml_A fn (F + 5) m0 := ml_A_top hF hm0
  have hne : ∀ n, ml_A fn (F + 6) n → n ≠ m0 := fun n hn e => hn (F + 5) (by omega) (by rw [e]; exact hm0)
  have a0 : ml_Ag (ml_A fn (F + 6)) ch st (upd (upd ch (2 * m0) (-1)) (2 * m0 + 1) (-1)) (upd st m0 ls) := fun n h1 h2 => by
    have := hne n h2
    exact ⟨by rw [pk_un (by omega), pk_un (by omega)], by rw [pk_un (by omega), pk_un (by omega)], pk_un this⟩
  have hT2 : ml_T (upd (upd ch (2 * m0) (-1)) (2 * m0 + 1) (-1)) (upd st m0 ls) (ml_A fn (F + 5)) 6 L x := ml_T_le (ml_A_le (by omega)) _ _ _ _ (Int.le_refl _) (ml_T_fr a0 _ _ _ hT)
  refine ⟨ii, nm_r (e' := nI q) (by rw [ic]; exact hwk) (ml_xnn (F := F + 5) (by omega) hm0 hm ?_)⟩
  refine ⟨pk_in (2 * m0) 1024 (by omega) (ml_2n m0), ml_nu c0 ml_nsm ⟨pk_in (2 * m0 + 1) 1024 (by omega) (ml_2n1 m0), ml_nu c1 ml_nsm ⟨ii, mi, ml_nu mc (w := wv i) (by rw [ic]) ⟨ii, mi, ml_nu mc (w := wh i) (by rw [ic, ml_nb hwh]) ⟨6, ?_⟩⟩⟩⟩⟩
  refine ml_xwr_l (F0 := F + 5) (L := L) hq (ml_F_le (by omega) hF) (by omega) (by omega) hL hm hAm (by rw [pk_us, hL]; exact Int.le_refl _) (by rw [pk_un (by omega), pk_us]) pk_us 5 x 0 sn rfl hT2 (fun F' c s' y sn' _ hW => ?_) 6 (by decide)
  have hF' : F' = F := by
    have := hW.1
    omega
  subst hF'
  exact br_t (by decide) (hp y c _ _ s' _ sn' (ml_W_R hF hq hm hm0 hT hW))
end
end
section
/-! the component: commit -/
def ml_zz (t : Nat) (B : Nat → Nat → Int32) : Nat → Nat → Int32 := fun u q => if u = t then 0 else B u q
section
variable {F L e : Nat} {ch lv hv st fn ro br th va th' va' : Nat → Int32} {RS RS' BH BV : Nat → Nat → Int32}
theorem ml_HP_br (t : Nat) (H : ml_HP F L ch lv hv st fn ro br th va RS BH BV) : ml_HP F L ch lv hv st fn ro (upd br t (-1)) th va RS (ml_zz t BH) (ml_zz t BV) := by
  obtain ⟨H1, H2, H3, H4, H5, H6, H7⟩ := H
  refine ⟨H1, H2, H3, H4, fun u hu => ?_, H6, fun u hu q hq => ?_⟩
  · by_cases e : u = t
    · subst e
      rw [pk_us]
      exact ml_T_neg _ _
    · rw [pk_un e]
      exact H5 u hu
  · unfold ml_zz
    by_cases e : u = t
    · subst e
      rw [pk_us, if_pos rfl, if_pos rfl]
      exact ⟨ml_at_neg ml_m1, ml_at_neg ml_m1⟩
    · rw [pk_un e, if_neg e, if_neg e]
      exact H7 u hu q hq
theorem ml_HP_cg (H : ml_HP F L ch lv hv st fn ro br th va RS BH BV) (h : ∀ j, j < 6 → ∀ q, q < 32 → th' (32 * j + q) = th (32 * j + q) ∧ va' (32 * j + q) = va (32 * j + q) ∧ RS' j q = RS j q) : ml_HP F L ch lv hv st fn ro br th' va' RS' BH BV := by
  obtain ⟨H1, H2, H3, H4, H5, H6, H7⟩ := H
  refine ⟨H1, H2, H3, H4, H5, fun j hj q hq => ?_, H7⟩
  obtain ⟨a, b, c⟩ := h j hj q hq
  rw [a, b, c]
  exact H6 j hj q hq
theorem ml_CN_le {e' : Nat} (h : ml_CN ch ro L e) (he : e ≤ e') : ml_CN ch ro L e' := by
  intro i hi
  obtain ⟨M, h1, h2⟩ := h i hi
  refine ⟨M, ?_, h2⟩
  by_cases z : i = 4
  · rw [if_pos z] at h1 ⊢
    omega
  · rw [if_neg z] at h1 ⊢
    exact h1
end
/-- the new row after i writes -/
def ml_J (t L i : Nat) (wk wv wh th va th' va' : Nat → Int32) (RS RS' : Nat → Nat → Int32) : Prop :=
  (∀ j, j < 6 → j ≠ (L + 1) % 6 → ∀ q, q < 32 → th' (32 * j + q) = th (32 * j + q) ∧ va' (32 * j + q) = va (32 * j + q) ∧ RS' j q = RS j q) ∧
  (∀ q, q < 32 → ∀ k, k < i → wk (6 * t + k) = nI q → th' (32 * ((L + 1) % 6) + q) = wh (6 * t + k) ∧ va' (32 * ((L + 1) % 6) + q) = wv (6 * t + k) ∧ RS' ((L + 1) % 6) q = nI (L + 1)) ∧
  (∀ q, q < 32 → (∀ k, k < i → wk (6 * t + k) ≠ nI q) → th' (32 * ((L + 1) % 6) + q) = th (32 * (L % 6) + q) ∧ va' (32 * ((L + 1) % 6) + q) = va (32 * (L % 6) + q) ∧ RS' ((L + 1) % 6) q = RS (L % 6) q)
section
variable {F L : Nat} {ch lv hv st fn ro br th va wk wv wh : Nat → Int32} {RS BH BV : Nat → Nat → Int32}
theorem ml_HP_sh (t : Nat) (H : ml_HP F L ch lv hv st fn ro br th va RS BH BV) : ∃ th' va' RS', ml_HP F (L + 1) ch lv hv st fn (upd ro ((L + 1) % 6) (ro (L % 6))) br th' va' RS' BH BV ∧ ml_J t L 0 wk wv wh th va th' va' RS RS' := by
  obtain ⟨H1, H2, H3, H4, H5, H6, H7⟩ := H
  have o6 : L % 6 < 6 := Nat.mod_lt _ (by decide)
  have up : ∀ x, ml_T ch st (ml_A fn F) 6 (L : Int) x → ml_T ch st (ml_A fn F) 6 ((L + 1 : Nat) : Int) x := fun x h => ml_T_le (fun _ z => z) _ _ _ _ (by omega) h
  have ex : ∃ th' va' RS', ml_J t L 0 wk wv wh th va th' va' RS RS' := by
    refine ⟨fun n => if 32 * ((L + 1) % 6) ≤ n ∧ n < 32 * ((L + 1) % 6) + 32 then th (32 * (L % 6) + (n - 32 * ((L + 1) % 6))) else th n, fun n => if 32 * ((L + 1) % 6) ≤ n ∧ n < 32 * ((L + 1) % 6) + 32 then va (32 * (L % 6) + (n - 32 * ((L + 1) % 6))) else va n, fun j q => if j = (L + 1) % 6 then RS (L % 6) q else RS j q, ?_⟩
    refine ⟨fun j hj hne q hq => ?_, fun q _ k hk => absurd hk (Nat.not_lt_zero k), fun q hq _ => ?_⟩
    · have hc : ¬ (32 * ((L + 1) % 6) ≤ 32 * j + q ∧ 32 * j + q < 32 * ((L + 1) % 6) + 32) := by omega
      exact ⟨if_neg hc, if_neg hc, if_neg hne⟩
    · have hc : 32 * ((L + 1) % 6) ≤ 32 * ((L + 1) % 6) + q ∧ 32 * ((L + 1) % 6) + q < 32 * ((L + 1) % 6) + 32 := by omega
      have e : 32 * ((L + 1) % 6) + q - 32 * ((L + 1) % 6) = q := by omega
      exact ⟨(if_pos hc).trans (by rw [e]), (if_pos hc).trans (by rw [e]), if_pos rfl⟩
  obtain ⟨th', va', RS', J1⟩ := ex
  refine ⟨th', va', RS', ⟨H1, H2, H3, fun j hj => ?_, fun t ht => up _ (H5 t ht), fun j hj q hq => ?_, H7⟩, J1⟩
  · by_cases z : j = (L + 1) % 6
    · subst z
      rw [pk_us]
      exact up _ (H4 _ o6)
    · rw [pk_un z]
      exact up _ (H4 j hj)
  · obtain ⟨j1, _, j3⟩ := J1
    by_cases z : j = (L + 1) % 6
    · subst z
      obtain ⟨a, b, c⟩ := j3 q hq (fun k hk => absurd hk (Nat.not_lt_zero k))
      rw [pk_us, a, b, c]
      exact H6 _ o6 q hq
    · obtain ⟨a, b, c⟩ := j1 j hj z q hq
      rw [pk_un z, a, b, c]
      exact H6 j hj q hq
theorem ml_J_s {t w i q : Nat} {th' va' : Nat → Int32} {RS' : Nat → Nat → Int32} (hJ : ml_J t L i wk wv wh th va th' va' RS RS') (hi : i < w) (hq : q < 32) (hwk : wk (6 * t + i) = nI q) (hd : ∀ i j, i < j → j < w → wk (6 * t + i) ≠ wk (6 * t + j)) :
    ml_J t L (i + 1) wk wv wh th va (upd th' (32 * ((L + 1) % 6) + q) (wh (6 * t + i))) (upd va' (32 * ((L + 1) % 6) + q) (wv (6 * t + i))) RS (fun j a => if j = (L + 1) % 6 ∧ a = q then nI (L + 1) else RS' j a) := by
  obtain ⟨j1, j2, j3⟩ := hJ
  have r6 : (L + 1) % 6 < 6 := Nat.mod_lt _ (by decide)
  refine ⟨fun j hj hne a ha => ?_, fun a ha k hk e => ?_, fun a ha hn => ?_⟩
  · obtain ⟨x1, x2, x3⟩ := j1 j hj hne a ha
    exact ⟨(pk_un (by omega)).trans x1, (pk_un (by omega)).trans x2, (if_neg (fun z => hne z.1)).trans x3⟩
  · by_cases ek : k = i
    · subst ek
      have ea : a = q := ml_nI_inj (by omega) (by omega) (e.symm.trans hwk)
      subst ea
      exact ⟨pk_us, pk_us, if_pos ⟨rfl, rfl⟩⟩
    · have ea : a ≠ q := fun z => hd k i (by omega) hi (by rw [e, hwk, z])
      obtain ⟨x1, x2, x3⟩ := j2 a ha k (by omega) e
      exact ⟨(pk_un (by omega)).trans x1, (pk_un (by omega)).trans x2, (if_neg (fun z => ea z.2)).trans x3⟩
  · have ea : a ≠ q := fun z => hn i (Nat.lt_succ_self i) (by rw [hwk, z])
    obtain ⟨x1, x2, x3⟩ := j3 a ha (fun k hk => hn k (by omega))
    exact ⟨(pk_un (by omega)).trans x1, (pk_un (by omega)).trans x2, (if_neg (fun z => ea z.2)).trans x3⟩
end
section
variable {L t w : Nat} {mr fn op ba br rs wc wk wv wh sk ss th va : Nat → Int32} {RS BH BV : Nat → Nat → Int32}
theorem ml_xcm_l {post : Int32 → SX → Prop} (ht : t < 4) (hL : L < 2 ^ 20) (hw : wc t = nI w) (hw6 : w ≤ 6) (hk : ∀ i, i < w → ∃ q, q < 32 ∧ wk (6 * t + i) = nI q) (hd : ∀ i j, i < j → j < w → wk (6 * t + i) ≠ wk (6 * t + j)) (hh : ∀ i, i < w → wh (6 * t + i) = 0 ∨ wh (6 * t + i) = 1)
    (hp : ∀ F tp ch lv hv st ro sn th' va' RS', ml_HP F (L + 1) ch lv hv st fn ro br th' va' RS' BH BV → ml_CN ch ro (L + 1) 36 → ml_J t L w wk wv wh th va th' va' RS RS' → post (nI (L + 1)) (nI F, nI (L + 1), tp, ch, lv, hv, st, mr, fn, ro, op, ba, br, rs, wc, wk, wv, wh, sn, sk, ss)) :
    ∀ d i F tp ch lv hv st ro sn th' va' RS', i + d = w → 6 * d ≤ F → ml_HP F (L + 1) ch lv hv st fn ro br th' va' RS' BH BV → ml_CN ch ro (L + 1) (6 * i) → ml_J t L i wk wv wh th va th' va' RS RS' → wX_commit_114 post (nI t) (d + 1) (nI (6 * t + i)) (nI F) (nI (L + 1)) tp ch lv hv st mr fn ro op ba br rs wc wk wv wh sn sk ss := by
  have ti := vp_in_nI (n := t) (N := 4) ht (by decide)
  have tc := nI_clamp (n := t) (by omega)
  have e6 := ml_r6 (L := L + 1) (by omega)
  have r6 : (L + 1) % 6 < 6 := Nat.mod_lt _ (by decide)
  have i6 := pk_in ((L + 1) % 6) 6 r6 e6
  have c6 := pk_cl ((L + 1) % 6) e6 (by omega)
  intro d
  induction d with
  | zero =>
    intro i F tp ch lv hv st ro sn th' va' RS' hi hF H hC hJ
    have e : i = w := by omega
    subst e
    refine ⟨ti, ?_⟩
    rw [tc, hw, ml_i6]
    exact br_t (nI_le (Nat.le_refl _) (by omega)) (hp F tp ch lv hv st ro sn th' va' RS' H (ml_CN_le hC (by omega)) hJ)
  | succ d ih =>
    intro i F tp ch lv hv st ro sn th' va' RS' hi hF H hC hJ
    obtain ⟨q, hq, hwk⟩ := hk i (by omega)
    obtain ⟨F0, rfl⟩ : ∃ F0, F = F0 + 6 := ⟨F - 6, by omega⟩
    obtain ⟨H1, H2, H3, H4, H5, H6, H7⟩ := H
    refine ⟨ti, ?_⟩
    rw [tc, hw, ml_i6]
    refine br_f (nI_ge (by omega) (by omega)) ⟨ml_6n, ml_6n, i6, ?_⟩
    rw [c6]
    refine ml_xwr (L := ((L + 1 : Nat) : Int)) hq (by omega) hwk (hh i (by omega)) H2 H1 (nI_toInt (by omega)) (H4 _ r6) (fun y ch2 lv2 hv2 st2 tp2 sn2 hR => ?_)
    have hy : ml_P y := Or.inr hR.2.2.2.2.2.2.1
    have h01 : ∀ n, hv2 n = 0 ∨ hv2 n = 1 := fun n => by
      rcases hR.2.2.2.2.2.2.2 n with z | z
      · rw [z]; exact H3 n
      · rw [z]; exact hh i (by omega)
    refine And.intro i6 (ml_nu rfl (ml_nss hy) (nm_r (nI_1 (6 * t + i)) ?_))
    refine ih (i + 1) F0 tp2 ch2 lv2 hv2 st2 _ sn2 _ _ _ (by omega) (by omega) (ml_HP_wr ⟨H1, H2, H3, H4, H5, H6, H7⟩ hR h01 ?_ ?_) (ml_CN_wr ⟨H1, H2, H3, H4, H5, H6, H7⟩ hC hR) (ml_J_s hJ (w := w) (by omega) hq hwk hd)
    · intro j hj a ha hne
      refine ⟨pk_un (by omega), pk_un (by omega), if_neg hne⟩
    · exact ⟨pk_us, pk_us, if_pos ⟨rfl, rfl⟩⟩
end
section
variable {F L t w : Nat} {tp : Int32} {ch lv hv st mr fn ro op ba br rs wc wk wv wh sn sk ss th va : Nat → Int32} {RS BH BV : Nat → Nat → Int32}
theorem ml_xcm {post : Int32 → SX → Prop} (ht : t < 4) (hL : L < 2 ^ 20) (ho : op t ≠ 0) (hba : 0 ≤ (ba t).toInt) (hw : wc t = nI w) (hw6 : w ≤ 6) (hk : ∀ i, i < w → ∃ q, q < 32 ∧ wk (6 * t + i) = nI q) (hd : ∀ i j, i < j → j < w → wk (6 * t + i) ≠ wk (6 * t + j)) (hh : ∀ i, i < w → wh (6 * t + i) = 0 ∨ wh (6 * t + i) = 1)
    (H : ml_HP F L ch lv hv st fn ro br th va RS BH BV) (hC : ml_CN ch ro L 36)
    (hx : ml_ct (fun j => bt (rs t) j && decide ((ba t).toInt < (RS (L % 6) j).toInt)) 32 ≠ 0 → ∀ tp sn sk ss, post (-5) (nI F, nI L, tp, ch, lv, hv, st, mr, fn, ro, upd op t 0, ba, upd br t (-1), rs, wc, wk, wv, wh, sn, sk, ss))
    (hp : ml_ct (fun j => bt (rs t) j && decide ((ba t).toInt < (RS (L % 6) j).toInt)) 32 = 0 → ∀ F tp ch lv hv st mr fn ro sn sk ss th' va' RS', ml_HP F (L + 1) ch lv hv st fn ro (upd br t (-1)) th' va' RS' (ml_zz t BH) (ml_zz t BV) → ml_CN ch ro (L + 1) 36 → ml_J t L w wk wv wh th va th' va' RS RS' → post (nI (L + 1)) (nI F, nI (L + 1), tp, ch, lv, hv, st, mr, fn, ro, upd op t 0, ba, upd br t (-1), rs, wc, wk, wv, wh, sn, sk, ss)) :
    wpX_commit post (nI F, nI L, tp, ch, lv, hv, st, mr, fn, ro, op, ba, br, rs, wc, wk, wv, wh, sn, sk, ss) (nI t) := by
  have ti := vp_in_nI (n := t) (N := 4) ht (by decide)
  have tc := nI_clamp (n := t) (by omega)
  have e6 := ml_r6 (L := L) (by omega)
  have o6 : L % 6 < 6 := Nat.mod_lt _ (by decide)
  have e7 := ml_r6 (L := L + 1) (by omega)
  have r6 : (L + 1) % 6 < 6 := Nat.mod_lt _ (by decide)
  have hT : ml_T ch st (ml_A fn F) 6 (L : Int) (ro (L % 6)) := H.2.2.2.1 _ o6
  have hF5 : F ≤ 512 := H.1
  have hlaw : ml_cs ch st (ba t) (rs t) 5 (ro (L % 6)) 0 = ml_ct (fun j => bt (rs t) j && decide ((ba t).toInt < (RS (L % 6) j).toInt)) 32 := by
    rw [ml_cs_law hba 5 _ _ 0 hT]
    refine ml_ct_cg _ (fun j hj => ?_)
    rw [Nat.zero_add, (H.2.2.2.2.2.1 _ o6 j hj).2.2]
  have hle := ml_ct_le (fun j => bt (rs t) j && decide ((ba t).toInt < (RS (L % 6) j).toInt)) 32
  obtain ⟨th0, va0, RS0, H0, J0⟩ := ml_HP_sh (wk := wk) (wv := wv) (wh := wh) t (ml_HP_br t H)
  have C0 := ml_CN_shift hC
  unfold wpX_commit
  dsimp only
  refine ml_xck ht (by decide) (by decide) (by decide) (fun z => absurd z ho) (fun _ => br_t rfl ⟨ti, ml_nu tc ml_nb0 ⟨ml_6n, pk_in (L % 6) 6 o6 e6, nm_r (e' := ro (L % 6)) (by rw [pk_cl (L % 6) e6 (by omega)]) ⟨ti, ti, ?_⟩⟩⟩)
  rw [tc]
  refine ml_xcs hT (fun tp1 sn1 sk1 ss1 => ?_)
  rw [hlaw]
  refine pk_eq (ml_ct (fun j => bt (rs t) j && decide ((ba t).toInt < (RS (L % 6) j).toInt)) 32) 0 (fun z => ?_) (fun z => ⟨ti, ml_nu rfl ml_nsm (hx z tp1 sn1 sk1 ss1)⟩)
  refine ⟨ti, ml_nu rfl ml_nsm (nm_r (nI_1 L) ⟨ml_6n, pk_in ((L + 1) % 6) 6 r6 e7, ml_nu (pk_cl ((L + 1) % 6) e7 (by omega)) (ml_nss (ml_T_P hT)) ?_⟩)⟩
  have fin : ∀ F2 tp2 mr2 fn2 sn2 sk2 ss2, 36 ≤ F2 → ml_HP F2 (L + 1) ch lv hv st fn2 (upd ro ((L + 1) % 6) (ro (L % 6))) (upd br t (-1)) th0 va0 RS0 (ml_zz t BH) (ml_zz t BV) →
      ∀ x4 : Int32, x4 = 6 * nI t → ∃ n, wX_commit_114 post (nI t) n x4 (nI F2) (nI (L + 1)) tp2 ch lv hv st mr2 fn2 (upd ro ((L + 1) % 6) (ro (L % 6))) (upd op t 0) ba (upd br t (-1)) rs wc wk wv wh sn2 sk2 ss2 := by
    intro F2 tp2 mr2 fn2 sn2 sk2 ss2 hF2 H2
    refine nm_r (e' := nI (6 * t + 0)) (ml_m6 t) ⟨w + 1, ?_⟩
    exact ml_xcm_l ht hL hw hw6 hk hd hh (fun F3 tp3 ch3 lv3 hv3 st3 ro3 sn3 th3 va3 RS3 h1 h2 h3 => hp z F3 tp3 ch3 lv3 hv3 st3 mr2 fn2 ro3 sn3 sk2 ss2 th3 va3 RS3 h1 h2 h3) w 0 F2 tp2 ch lv hv st _ sn2 th0 va0 RS0 (Nat.zero_add w) (by omega) H2 C0 J0
  refine pk_le 36 F (fun y => fin F _ _ _ _ _ _ y H0) (fun y => ?_)
  exact ml_xco H0 C0 (fun F2 fn2 tp2 mr2 sn2 sk2 ss2 H2 y2 => fin F2 tp2 mr2 fn2 sn2 sk2 ss2 y2 H2)
end
end
section
/-! the component: the states; both constructors' loops -/
section
variable {fc ls tp : Int32} {ch lv hv st mr fn ro op ba br rs wc wk wv wh sn sk ss : Nat → Int32} {s q L p : Nat} {A : Nat → Prop} {b : Int}
theorem ml_xik_b {post : Int32 → Prop} {x : Int32} (h : x < 0 ∨ nI L < x) (hp : post 0) : wpX_isKept post (fc, nI L, tp, ch, lv, hv, st, mr, fn, ro, op, ba, br, rs, wc, wk, wv, wh, sn, sk, ss) x := by
  by_cases h0 : x < 0
  · exact br_t h0 hp
  · exact br_f h0 (br_t (h.resolve_left h0) hp)
theorem ml_xik_g {post : Int32 → Prop} (hL : L < 2 ^ 30) (hs : s + 6 ≤ L) (hp : post 0) : wpX_isKept post (fc, nI L, tp, ch, lv, hv, st, mr, fn, ro, op, ba, br, rs, wc, wk, wv, wh, sn, sk, ss) (nI s) := br_f (nI_pos (by omega)) (br_f (nI_nlt (by omega) (by omega)) (br_t ((ml_kp (by omega) hL).mpr hs) hp))
theorem ml_xik {post : Int32 → Prop} (hL : L < 2 ^ 30) (hs : s ≤ L) (h6 : L < s + 6) (hp : post 1) : wpX_isKept post (fc, nI L, tp, ch, lv, hv, st, mr, fn, ro, op, ba, br, rs, wc, wk, wv, wh, sn, sk, ss) (nI s) := br_f (nI_pos (by omega)) (br_f (nI_nlt hs (by omega)) (br_f (fun z => absurd ((ml_kp (by omega) hL).mp z) (by omega)) hp))
theorem ml_xha_b {post : Int32 → Prop} {x : Int32} (y : Int32) (h : x < 0 ∨ nI L < x) (hp : post 0) : wpX_has post (fc, nI L, tp, ch, lv, hv, st, mr, fn, ro, op, ba, br, rs, wc, wk, wv, wh, sn, sk, ss) x y := by
  unfold wpX_has
  dsimp only
  exact ml_xik_b h (br_t rfl hp)
theorem ml_xha_g {post : Int32 → Prop} (y : Int32) (hL : L < 2 ^ 30) (hs : s + 6 ≤ L) (hp : post 0) : wpX_has post (fc, nI L, tp, ch, lv, hv, st, mr, fn, ro, op, ba, br, rs, wc, wk, wv, wh, sn, sk, ss) (nI s) y := by
  unfold wpX_has
  dsimp only
  exact ml_xik_g hL hs (br_t rfl hp)
theorem ml_xha_k {post : Int32 → Prop} {y : Int32} (hL : L < 2 ^ 30) (hs : s ≤ L) (h6 : L < s + 6) (h : y < 0 ∨ 31 < y) (hp : post 0) : wpX_has post (fc, nI L, tp, ch, lv, hv, st, mr, fn, ro, op, ba, br, rs, wc, wk, wv, wh, sn, sk, ss) (nI s) y := by
  unfold wpX_has
  dsimp only
  refine ml_xik hL hs h6 (br_f ml_10 ?_)
  by_cases h0 : y < 0
  · exact br_t h0 hp
  · exact br_f h0 (br_f (Int32.not_le.mpr (h.resolve_left h0)) hp)
theorem ml_xha {post : Int32 → Prop} (hL : L < 2 ^ 30) (hs : s ≤ L) (h6 : L < s + 6) (hq : q < 32) (hT : ml_T ch st A 6 b (ro (s % 6))) (h0 : ml_at ch hv 5 (ro (s % 6)) q = 0 → post 0) (h1 : ml_at ch hv 5 (ro (s % 6)) q ≠ 0 → post 1) : wpX_has post (fc, nI L, tp, ch, lv, hv, st, mr, fn, ro, op, ba, br, rs, wc, wk, wv, wh, sn, sk, ss) (nI s) (nI q) := by
  have m6 : s % 6 < 6 := Nat.mod_lt _ (by decide)
  have e6 := ml_r6 (L := s) (by omega)
  unfold wpX_has
  dsimp only
  refine ml_xik hL hs h6 (br_f ml_10 (br_f (nI_pos (by omega)) (br_t (ml_l31 hq) ⟨ml_6n, pk_in (s % 6) 6 m6 e6, ?_⟩)))
  rw [pk_cl (s % 6) e6 (by omega)]
  exact ml_xlh hq hT h0 h1
theorem ml_xat_0 {post : Int32 → Prop} {x y : Int32} (h : ∀ p : Int32 → Prop, p 0 → wpX_has p (fc, ls, tp, ch, lv, hv, st, mr, fn, ro, op, ba, br, rs, wc, wk, wv, wh, sn, sk, ss) x y) (hp : post 0) : wpX_at post (fc, ls, tp, ch, lv, hv, st, mr, fn, ro, op, ba, br, rs, wc, wk, wv, wh, sn, sk, ss) x y := by
  unfold wpX_at
  dsimp only
  exact h _ (br_t rfl hp)
theorem ml_xat {post : Int32 → Prop} (hL : L < 2 ^ 30) (hs : s ≤ L) (h6 : L < s + 6) (hq : q < 32) (hT : ml_T ch st A 6 b (ro (s % 6))) (h0 : ml_at ch hv 5 (ro (s % 6)) q = 0 → post 0) (h1 : ml_at ch hv 5 (ro (s % 6)) q ≠ 0 → post (ml_at ch lv 5 (ro (s % 6)) q)) : wpX_at post (fc, nI L, tp, ch, lv, hv, st, mr, fn, ro, op, ba, br, rs, wc, wk, wv, wh, sn, sk, ss) (nI s) (nI q) := by
  have m6 : s % 6 < 6 := Nat.mod_lt _ (by decide)
  have e6 := ml_r6 (L := s) (by omega)
  unfold wpX_at
  dsimp only
  refine ml_xha hL hs h6 hq hT (fun z => br_t rfl (h0 z)) (fun z => br_f ml_10 ⟨ml_6n, pk_in (s % 6) 6 m6 e6, ?_⟩)
  rw [pk_cl (s % 6) e6 (by omega)]
  refine ml_xlf hq hT ?_
  rcases ml_lf_T q 5 b _ hT with y | ⟨n, g1, g2, g3, g4⟩
  · exact absurd (by unfold ml_at; rw [y, if_pos ml_m1]) z
  · have h2 := h1 z
    rw [ml_at_of g3 g1] at h2
    rw [g3]
    refine ⟨vp_in_nI g1 (by decide), ?_⟩
    rw [nI_clamp (by omega)]
    exact h2
theorem ml_xsi_l {post : Int32 → Prop} (hL : L < 2 ^ 30) (hs : s ≤ L) (h6 : L < s + 6) (hT : ml_T ch st A 6 b (ro (s % 6))) (hp : post (nI (ml_ct (fun q => decide (ml_at ch hv 5 (ro (s % 6)) q ≠ 0)) 32))) :
    ∀ d j, j + d = 32 → wX_size_29 post (nI s) fc (nI L) tp ch lv hv st mr fn ro op ba br rs wc wk wv wh sn sk ss (d + 1) (nI (ml_ct (fun q => decide (ml_at ch hv 5 (ro (s % 6)) q ≠ 0)) j)) (nI j) := by
  intro d
  induction d with
  | zero =>
    intro j hj
    have e : j = 32 := by omega
    subst e
    exact br_t (nI_le (a := 32) (b := 32) (Nat.le_refl _) (by decide)) hp
  | succ d ih =>
    intro j hj
    refine br_f (nI_ge (a := j) (b := 32) (by omega) (by decide)) (ml_xha hL hs h6 (by omega) hT (fun hb => br_t rfl ?_) (fun hb => br_f ml_10 ?_))
    · have e : ml_ct (fun q => decide (ml_at ch hv 5 (ro (s % 6)) q ≠ 0)) (j + 1) = ml_ct (fun q => decide (ml_at ch hv 5 (ro (s % 6)) q ≠ 0)) j := by
        rw [ml_ct_s, if_neg (by rw [hb]; decide)]
        rfl
      refine nm_r (nI_1 j) ?_
      rw [← e]
      exact ih (j + 1) (by omega)
    · have e : ml_ct (fun q => decide (ml_at ch hv 5 (ro (s % 6)) q ≠ 0)) (j + 1) = ml_ct (fun q => decide (ml_at ch hv 5 (ro (s % 6)) q ≠ 0)) j + 1 := by
        rw [ml_ct_s, if_pos (decide_eq_true hb)]
      exact nm_r (e' := nI (ml_ct (fun q => decide (ml_at ch hv 5 (ro (s % 6)) q ≠ 0)) (j + 1))) (by rw [e, nI_1]) (nm_r (nI_1 j) (ih (j + 1) (by omega)))
theorem ml_xsi {post : Int32 → Prop} (hL : L < 2 ^ 30) (hs : s ≤ L) (h6 : L < s + 6) (hT : ml_T ch st A 6 b (ro (s % 6))) (hp : post (nI (ml_ct (fun q => decide (ml_at ch hv 5 (ro (s % 6)) q ≠ 0)) 32))) : wpX_size post (fc, nI L, tp, ch, lv, hv, st, mr, fn, ro, op, ba, br, rs, wc, wk, wv, wh, sn, sk, ss) (nI s) :=
  br_f (nI_pos (by omega)) (br_t (nI_le hs (by omega)) (ml_xik hL hs h6 (br_f ml_10 ⟨33, ml_xsi_l hL hs h6 hT hp 32 0 rfl⟩)))
theorem ml_xsi_g {post : Int32 → Prop} (hL : L < 2 ^ 30) (hs : s + 6 ≤ L) (hp : post (-6)) : wpX_size post (fc, nI L, tp, ch, lv, hv, st, mr, fn, ro, op, ba, br, rs, wc, wk, wv, wh, sn, sk, ss) (nI s) :=
  br_f (nI_pos (by omega)) (br_t (nI_le (by omega) (by omega)) (ml_xik_g hL hs (br_t rfl hp)))
theorem ml_xsi_b {post : Int32 → Prop} {x : Int32} (h : x < 0 ∨ nI L < x) (hp : post (-1)) : wpX_size post (fc, nI L, tp, ch, lv, hv, st, mr, fn, ro, op, ba, br, rs, wc, wk, wv, wh, sn, sk, ss) x := by
  by_cases h0 : x < 0
  · exact br_t h0 hp
  · exact br_f h0 (br_f (Int32.not_le.mpr (h.resolve_left h0)) hp)
theorem ml_xch {post : Int32 → SX → Prop} (hL : L < 2 ^ 30) (hp5 : p ≤ L) (hsp : s < p) (h6 : L < s + 6) (hT : ml_T ch st A 6 b (ro (p % 6))) (hp : ∀ tp sn sk ss, post (nI (ml_cs ch st (nI s) (-1) 5 (ro (p % 6)) 0)) (fc, nI L, tp, ch, lv, hv, st, mr, fn, ro, op, ba, br, rs, wc, wk, wv, wh, sn, sk, ss)) : wpX_changed post (fc, nI L, tp, ch, lv, hv, st, mr, fn, ro, op, ba, br, rs, wc, wk, wv, wh, sn, sk, ss) (nI s) (nI p) := by
  have m6 : p % 6 < 6 := Nat.mod_lt _ (by decide)
  have e6 := ml_r6 (L := p) (by omega)
  refine br_f (nI_pos (by omega)) (br_f (nI_pos (by omega)) (br_f (nI_nlt (by omega) (by omega)) (br_f (nI_nlt hp5 (by omega)) (br_t (nI_lt hsp (by omega)) (ml_xik hL (by omega) h6 (br_f ml_10 ⟨ml_6n, pk_in (p % 6) 6 m6 e6, ?_⟩))))))
  rw [pk_cl (p % 6) e6 (by omega)]
  exact ml_xcs hT (fun tp' sn' sk' ss' => hp tp' sn' sk' ss')
theorem ml_xch_g {post : Int32 → SX → Prop} (hL : L < 2 ^ 30) (hp5 : p ≤ L) (hsp : s < p) (h6 : s + 6 ≤ L) (hp : post (-6) (fc, nI L, tp, ch, lv, hv, st, mr, fn, ro, op, ba, br, rs, wc, wk, wv, wh, sn, sk, ss)) : wpX_changed post (fc, nI L, tp, ch, lv, hv, st, mr, fn, ro, op, ba, br, rs, wc, wk, wv, wh, sn, sk, ss) (nI s) (nI p) :=
  br_f (nI_pos (by omega)) (br_f (nI_pos (by omega)) (br_f (nI_nlt (by omega) (by omega)) (br_f (nI_nlt hp5 (by omega)) (br_t (nI_lt hsp (by omega)) (ml_xik_g hL h6 (br_t rfl hp))))))
theorem ml_xch_b {post : Int32 → SX → Prop} {x y : Int32} (h : (x < 0 ∨ nI L < x) ∨ (y < 0 ∨ nI L < y) ∨ ¬ x < y) (hp : post (-1) (fc, nI L, tp, ch, lv, hv, st, mr, fn, ro, op, ba, br, rs, wc, wk, wv, wh, sn, sk, ss)) : wpX_changed post (fc, nI L, tp, ch, lv, hv, st, mr, fn, ro, op, ba, br, rs, wc, wk, wv, wh, sn, sk, ss) x y := by
  by_cases h0 : x < 0
  · exact br_t h0 hp
  by_cases h1 : y < 0
  · exact br_f h0 (br_t h1 hp)
  by_cases h2 : nI L < x
  · exact br_f h0 (br_f h1 (br_t h2 hp))
  by_cases h3 : nI L < y
  · exact br_f h0 (br_f h1 (br_f h2 (br_t h3 hp)))
  · refine br_f h0 (br_f h1 (br_f h2 (br_f h3 (br_f ?_ hp))))
    rcases h with (a | a) | (a | a) | a
    · exact absurd a h0
    · exact absurd a h2
    · exact absurd a h1
    · exact absurd a h3
    · exact a
end
/-! the constructor -/
section
variable {ls tp : Int32} {ch lv hv st mr fn op ba rs wc wk wv wh sn sk ss : Nat → Int32}
theorem ml_x0_207 {post : SX → Prop} {fc : Int32} {ro : Nat → Int32} (hp : ∀ br, (∀ t, t < 4 → br t = -1) → post (fc, ls, tp, ch, lv, hv, st, mr, fn, ro, op, ba, br, rs, wc, wk, wv, wh, sn, sk, ss)) :
    ∀ d j br, j + d = 4 → (∀ t, t < j → br t = -1) → wX_init_207 post fc ls tp (d + 1) (nI j) ch lv hv st mr fn ro op ba br rs wc wk wv wh sn sk ss := by
  intro d
  induction d with
  | zero =>
    intro j br hj h
    have e : j = 4 := by omega
    subst e
    exact br_t (nI_le (a := 4) (b := 4) (Nat.le_refl _) (by decide)) (hp br h)
  | succ d ih =>
    intro j br hj h
    refine br_f (nI_ge (a := j) (b := 4) (by omega) (by decide)) ⟨vp_in_nI (by omega) (by decide), ml_nu (nI_clamp (by omega)) ml_nsm (nm_r (nI_1 j) (ih (j + 1) _ (by omega) (fun n hn => ?_)))⟩
    by_cases e : n = j
    · subst e; exact pk_us
    · rw [pk_un e]; exact h n (by omega)
theorem ml_x0_186 {post : SX → Prop} {fc : Int32} {br : Nat → Int32} (hp : ∀ ro br, (∀ j, j < 6 → ro j = -1) → (∀ t, t < 4 → br t = -1) → post (fc, ls, tp, ch, lv, hv, st, mr, fn, ro, op, ba, br, rs, wc, wk, wv, wh, sn, sk, ss)) :
    ∀ d j ro, j + d = 6 → (∀ t, t < j → ro t = -1) → wX_init_186 post fc ls tp (d + 1) (nI j) ch lv hv st mr fn ro op ba br rs wc wk wv wh sn sk ss := by
  intro d
  induction d with
  | zero =>
    intro j ro hj h
    have e : j = 6 := by omega
    subst e
    exact br_t (nI_le (a := 6) (b := 6) (Nat.le_refl _) (by decide)) ⟨5, ml_x0_207 (fun br hb => hp ro br h hb) 4 0 br rfl (fun t ht => absurd ht (Nat.not_lt_zero t))⟩
  | succ d ih =>
    intro j ro hj h
    refine br_f (nI_ge (a := j) (b := 6) (by omega) (by decide)) ⟨vp_in_nI (by omega) (by decide), ml_nu (nI_clamp (by omega)) ml_nsm (nm_r (nI_1 j) (ih (j + 1) _ (by omega) (fun n hn => ?_)))⟩
    by_cases e : n = j
    · subst e; exact pk_us
    · rw [pk_un e]; exact h n (by omega)
theorem ml_x0_153 {post : SX → Prop} {ro br : Nat → Int32} (hp : ∀ fn ro br, (∀ i, i < 512 → fn i = nI (511 - i)) → (∀ j, j < 6 → ro j = -1) → (∀ t, t < 4 → br t = -1) → post (nI 512, ls, tp, ch, lv, hv, st, mr, fn, ro, op, ba, br, rs, wc, wk, wv, wh, sn, sk, ss)) :
    ∀ k fn, k ≤ 512 → (∀ i, i < 512 - k → fn i = nI (511 - i)) → wX_init_153 post ls tp (k + 1) (ml_k k) (nI (512 - k)) ch lv hv st mr fn ro op ba br rs wc wk wv wh sn sk ss := by
  intro k
  induction k with
  | zero => exact fun fn _ h => br_t ml_m1 ⟨7, ml_x0_186 (fun ro br h1 h2 => hp fn ro br h h1 h2) 6 0 ro rfl (fun t ht => absurd ht (Nat.not_lt_zero t))⟩
  | succ k ih =>
    intro fn hk h
    show wX_init_153 post ls tp (k + 1 + 1) (nI k) (nI (512 - (k + 1))) ch lv hv st mr fn ro op ba br rs wc wk wv wh sn sk ss
    have e : 512 - k = 512 - (k + 1) + 1 := by omega
    refine br_f (nI_pos (by omega)) ⟨vp_in_nI (by omega) (by decide), ml_nu (nI_clamp (by omega)) (ml_nss (Or.inr ⟨k, by omega, rfl⟩)) (nm_r (e' := nI (512 - k)) (by rw [e, nI_1]) (nm_r (ml_kd k) (ih _ (by omega) (fun i hi => ?_))))⟩
    by_cases z : i = 512 - (k + 1)
    · subst z
      rw [pk_us]
      exact congrArg nI (by omega)
    · rw [pk_un z]
      exact h i (by omega)
end
end
section
/-! what is owed: the constructors, begin, write, erase, read, peek, countRange, abort -/
section
variable {F L : Nat} {ch lv hv st fn ro br th va : Nat → Int32} {RS BH BV : Nat → Nat → Int32}
theorem ml_th01 (H : ml_HP F L ch lv hv st fn ro br th va RS BH BV) {j q : Nat} (hj : j < 6) (hq : q < 32) : th (32 * j + q) = 0 ∨ th (32 * j + q) = 1 := by
  rw [← (H.2.2.2.2.2.1 j hj q hq).1]
  exact ml_at_01 H.2.2.1 5 q _
theorem ml_bh01 (H : ml_HP F L ch lv hv st fn ro br th va RS BH BV) {t q : Nat} (ht : t < 4) (hq : q < 32) : BH t q = 0 ∨ BH t q = 1 := by
  rw [← (H.2.2.2.2.2.2 t ht q hq).1]
  exact ml_at_01 H.2.2.1 5 q _
end
theorem i_vc0 : wpX_init (fun u => wpY_init (fun v => i_Rel 0 u v)) := by
  refine ⟨513, ml_x0_153 (fun fn ro br h1 h2 h3 => ?_) 512 (fun _ => 0) (Nat.le_refl _) (fun i hi => absurd hi (by omega))⟩
  unfold wpY_init
  refine ml_mkR (F := 512) (L := 0) (RS := fun _ _ => 0) (BH := fun _ _ => 0) (BV := fun _ _ => 0) (by decide) ⟨Nat.le_refl _, ⟨fun i hi => ⟨511 - i, by omega, h1 i hi⟩, fun i j hij hj e => ?_⟩, fun n => Or.inl rfl, fun j hj => ?_, fun t ht => ?_, fun j hj q hq => ?_, fun t ht q hq => ?_⟩ (fun i hi => ⟨[], Nat.zero_le _, fun n hn => ?_⟩) ⟨fun p hp h6 q hq => ?_, fun p hp => absurd hp (by omega), fun t ht ho => absurd rfl ho⟩
  · rw [h1 i (by omega), h1 j hj] at e
    have := ml_nI_inj (by omega) (by omega) e
    omega
  · rw [h2 j hj]; exact ml_T_neg _ _
  · rw [h3 t ht]; exact ml_T_neg _ _
  · rw [h2 j hj]
    exact ⟨ml_at_neg ml_m1, ml_at_neg ml_m1, ml_at_neg ml_m1⟩
  · rw [h3 t ht]
    exact ⟨ml_at_neg ml_m1, ml_at_neg ml_m1⟩
  · rw [h2 _ (Nat.mod_lt _ (by decide)), ml_nd_neg ml_m1] at hn
    exact absurd hn (List.not_mem_nil)
  · rw [ml_z]
    omega
theorem i_vc_begin {k : Nat} {u : SX} {v : SY} (I : i_Rel k u v) (hk : k + 4 ≤ 2048) (v1 : Int32) : wpX_begin (fun r u' => wpY_begin (fun r' v' => r' = r ∧ i_Rel (k + 4) u' v') v v1) u v1 := by
  refine ml_el (P := fun u v => wpX_begin (fun r u' => wpY_begin (fun r' v' => r' = r ∧ i_Rel (k + 4) u' v') v v1) u v1) ?_ I
  intro F L RS BH BV tp ch lv hv st mr fn ro op ba br rs wc wk wv wh sn sk ss th va tu se vw wr si h1 H hC hG
  rcases ml_tc v1 with h | ⟨t, ht, rfl⟩
  · exact ml_xbg_b h (ml_ybg_b h ⟨rfl, ml_mkR (by omega) H hC hG⟩)
  · have o6 : L % 6 < 6 := Nat.mod_lt _ (by decide)
    refine ml_xbg ht (by omega) (ml_T_P (H.2.2.2.1 _ o6)) (fun z => ml_ybg_o ht z ⟨rfl, ml_mkR (by omega) H hC hG⟩) (fun z => ml_ybg ht (by omega) (fun q hq => ml_th01 H o6 hq) z (fun se' vw' g1 g2 => ⟨rfl, ?_⟩))
    obtain ⟨H1, H2, H3, H4, H5, H6, H7⟩ := H
    obtain ⟨G1, G2, G3⟩ := hG
    refine ml_mkR (RS := RS) (BH := fun u q => if u = t then th (32 * (L % 6) + q) else BH u q) (BV := fun u q => if u = t then va (32 * (L % 6) + q) else BV u q) (by omega) ⟨H1, H2, H3, H4, fun u hu => ?_, H6, fun u hu q hq => ?_⟩ hC ⟨G1, G2, fun u hu ho => ?_⟩
    · by_cases e : u = t
      · subst e
        rw [pk_us]
        exact H4 _ o6
      · rw [pk_un e]
        exact H5 u hu
    · dsimp only
      by_cases e : u = t
      · subst e
        obtain ⟨a, b, c⟩ := H6 _ o6 q hq
        rw [pk_us, if_pos rfl, if_pos rfl]
        exact ⟨a, b⟩
      · rw [pk_un e, if_neg e, if_neg e]
        exact H7 u hu q hq
    · by_cases e : u = t
      · subst e
        rw [pk_us, pk_us, pk_us, pk_us]
        refine ⟨0, L, rfl, by decide, rfl, Nat.le_refl _, fun i hi => absurd hi (Nat.not_lt_zero i), fun i j _ hj => absurd hj (Nat.not_lt_zero j), fun i hi => absurd hi (Nat.not_lt_zero i), ml_ct_0 _ (fun j _ => b_0 j), fun q hq => ?_, fun q hq => ?_, fun q hq i hi => absurd hi (Nat.not_lt_zero i), fun q hq _ => ?_⟩
        · rw [b_0]
          exact ⟨fun z => absurd z (by decide), fun ⟨i, hi, _⟩ => absurd hi (Nat.not_lt_zero i)⟩
        · rw [b_0]
          refine ⟨fun z => absurd z (by decide), fun z => ?_⟩
          have := G1 L (Nat.le_refl _) (by omega) q hq
          omega
        · dsimp only
          rw [if_pos rfl, if_pos rfl]
          exact g1 q hq
      · rw [pk_un e] at ho
        rw [pk_un e, pk_un e, pk_un e, pk_un e]
        refine ml_TX_cg (G3 u hu ho) (fun i hi => ⟨rfl, rfl, rfl⟩) (fun q hq => ?_) L (Nat.le_refl _) (fun q hq b hb z => z)
        obtain ⟨x1, x2⟩ := g2 (32 * u + q) (by omega)
        exact ⟨x1, x2, if_neg e, if_neg e⟩
/-- write and erase -/
theorem ml_vput {k : Nat} {u : SX} {v : SY} (I : i_Rel k u v) (hk : k + 4 ≤ 2048) (v1 v2 v3 h : Int32) (hh : (h = 0 ∧ v3 = 0) ∨ h = 1) : ∃ r u' v', i_Rel (k + 4) u' v' ∧ (∀ post : Int32 → SX → Prop, post r u' → wpX_put post u v1 v2 v3 h) ∧ (∀ post : Int32 → SY → Prop, post r v' → wpY_give post v v1 v2 h v3) := by
  refine ml_el (P := fun u v => ∃ r u' v', i_Rel (k + 4) u' v' ∧ (∀ post : Int32 → SX → Prop, post r u' → wpX_put post u v1 v2 v3 h) ∧ (∀ post : Int32 → SY → Prop, post r v' → wpY_give post v v1 v2 h v3)) ?_ I
  intro F L RS BH BV tp ch lv hv st mr fn ro op ba br rs wc wk wv wh sn sk ss th va tu se vw wr si h1 H hC hG
  have same := ml_mkR (k := k + 4) (tp := tp) (mr := mr) (rs := rs) (sn := sn) (sk := sk) (ss := ss) (by omega) H hC hG
  have h01 : h = 0 ∨ h = 1 := hh.imp (fun z => z.1) id
  by_cases hb : (v1 < 0 ∨ 3 < v1) ∨ (v2 < 0 ∨ 31 < v2)
  · refine ⟨-1, _, _, same, fun post hp => ?_, fun post hp => ml_ygv_b h v3 hb hp⟩
    unfold wpX_put
    dsimp only
    refine ml_xck_b ?_ (br_f (by decide) hp)
    rcases hb with a | a | a
    · exact Or.inl a
    · exact Or.inr (Or.inl a)
    · exact Or.inr (Or.inr (Or.inl a))
  rcases ml_tc v1 with a | ⟨t, ht, rfl⟩
  · exact absurd (Or.inl a) hb
  rcases ml_kc v2 with a | ⟨q, hq, rfl⟩
  · exact absurd (Or.inr a) hb
  by_cases ho : op t = 0
  · refine ⟨-3, _, _, same, fun post hp => ?_, fun post hp => ml_ygv_c h v3 ht hq ho hp⟩
    unfold wpX_put
    dsimp only
    exact ml_xck ht (nI_pos (by omega)) (ml_n31 hq) (Int32.le_refl _) (fun _ => br_f (by decide) hp) (fun z => absurd ho z)
  obtain ⟨G1, G2, G3⟩ := hG
  obtain ⟨w, b, a1, a2, a3, a4, a5, a6, a7, a8, a9, a10, a11, a12⟩ := G3 t ht ho
  dsimp only at a5 a6 a7 a9 a11 a12
  have hbt : ∀ j, j < 32 → bt (wr t ||| ((1 : Int32) <<< (nI q &&& 31))) j = (bt (wr t) j || decide (j = q)) := fun j hj => ml_btset _ hq hj
  have other : ∀ (wc' wk' wv' wh' se' vw' wr' : Nat → Int32), (∀ u, u < 4 → u ≠ t → wc' u = wc u ∧ wr' u = wr u) → (∀ u i, u < 4 → u ≠ t → i < 6 → wk' (6 * u + i) = wk (6 * u + i) ∧ wv' (6 * u + i) = wv (6 * u + i) ∧ wh' (6 * u + i) = wh (6 * u + i)) →
      (∀ u q, u < 4 → u ≠ t → q < 32 → se' (32 * u + q) = se (32 * u + q) ∧ vw' (32 * u + q) = vw (32 * u + q)) →
      ml_TX L (RS (L % 6)) (BH t) (BV t) (ba t) (wc' t) (wr' t) (si t) (fun i => wk' (6 * t + i)) (fun i => wv' (6 * t + i)) (fun i => wh' (6 * t + i)) (fun q => se' (32 * t + q)) (fun q => vw' (32 * t + q)) →
      ml_LG L RS BH BV op ba wc' wk' wv' wh' tu se' vw' wr' si := by
    intro wc' wk' wv' wh' se' vw' wr' y1 y2 y3 y4
    refine ⟨G1, G2, fun u hu hou => ?_⟩
    by_cases e : u = t
    · subst e; exact y4
    · obtain ⟨z1, z2⟩ := y1 u hu e
      rw [z1, z2]
      refine ml_TX_cg (G3 u hu hou) (fun i hi => y2 u i hu e hi) (fun q hq => ?_) L (Nat.le_refl _) (fun q hq b hb z => z)
      obtain ⟨x1, x2⟩ := y3 u q hu e hq
      exact ⟨x1, x2, rfl, rfl⟩
  by_cases hin : ∃ i, i < w ∧ wk (6 * t + i) = nI q
  · obtain ⟨i, hi, hwk⟩ := hin
    have hbq : bt (wr t) q = true := (a9 q hq).mpr ⟨i, hi, hwk⟩
    have e1 : wr t ||| ((1 : Int32) <<< (nI q &&& 31)) = wr t := by
      apply b_ext
      intro j hj
      rw [hbt j hj]
      by_cases z : j = q
      · subst z; rw [hbq]; rfl
      · rw [decide_eq_false z, Bool.or_false]
    have e2 : upd wr t (wr t) = wr := by
      funext j
      by_cases z : j = t
      · subst z; exact pk_us
      · exact pk_un z
    refine ⟨nI w, (nI F, nI L, tp, ch, lv, hv, st, mr, fn, ro, op, ba, br, rs, wc, wk, upd wv (6 * t + i) v3, upd wh (6 * t + i) h, sn, sk, ss), (nI L, th, va, tu, op, upd se (32 * t + q) h, upd vw (32 * t + q) v3, wr, rs, si), ml_mkR (by omega) H hC (other _ _ _ _ _ _ _ (fun u _ _ => ⟨rfl, rfl⟩) (fun u i' hu hne hi' => ⟨rfl, pk_un (by omega), pk_un (by omega)⟩) (fun u q' hu hne hq' => ⟨pk_un (by omega), pk_un (by omega)⟩) ?_), fun post hp => ?_, fun post hp => ?_⟩
    · refine ⟨w, b, a1, a2, a3, a4, a5, a6, fun i' hi' => ?_, a8, a9, a10, fun q' hq' i' hi' e => ?_, fun q' hq' hn => ?_⟩
      all_goals dsimp only at *
      · by_cases z : i' = i
        · subst z
          rw [pk_us, pk_us]
          exact hh
        · rw [pk_un (by omega), pk_un (by omega)]
          exact a7 i' hi'
      · by_cases z : i' = i
        · subst z
          have : q' = q := ml_nI_inj (by omega) (by omega) (e.symm.trans hwk)
          subst this
          rw [pk_us, pk_us, pk_us, pk_us]
          exact ⟨rfl, rfl⟩
        · have hne : q' ≠ q := fun y => by
            have e3 : wk (6 * t + i') = wk (6 * t + i) := by rw [hwk, ← y]; exact e
            rcases Nat.lt_or_gt_of_ne z with g | g
            · exact a6 i' i g hi e3
            · exact a6 i i' g hi' e3.symm
          rw [pk_un (by omega), pk_un (by omega), pk_un (by omega), pk_un (by omega)]
          exact a11 q' hq' i' hi' e
      · have hne : q' ≠ q := fun y => hn i hi (by rw [y]; exact hwk)
        rw [pk_un (by omega), pk_un (by omega)]
        exact a12 q' hq' hn
    · refine ml_xpu ht hq ho h01 a1 a2 (fun i' hi' e => ?_) (fun z => absurd hwk (z i hi)) (fun z => absurd hwk (z i hi))
      have z : i' = i := by
        have e3 : wk (6 * t + i') = wk (6 * t + i) := e.trans hwk.symm
        rcases Nat.lt_trichotomy i' i with g | g | g
        · exact absurd e3 (a6 i' i g hi)
        · exact g
        · exact absurd e3.symm (a6 i i' g hi')
      subst z
      exact hp
    · refine ml_ygv ht hq ho h01 (fun z => absurd hbq (by rw [z]; decide)) (fun _ => ?_)
      rw [e1, e2, a8]
      exact hp
  · have hn : ∀ i, i < w → wk (6 * t + i) ≠ nI q := fun i hi e => hin ⟨i, hi, e⟩
    have hbq : bt (wr t) q = false := by
      cases hb2 : bt (wr t) q with
      | false => rfl
      | true => exact absurd ((a9 q hq).mp hb2) hin
    by_cases hw : w = 6
    · refine ⟨-4, _, _, same, fun post hp => ?_, fun post hp => ?_⟩
      · exact ml_xpu ht hq ho h01 a1 a2 (fun i' hi' e => absurd e (hn i' hi')) (fun _ z => absurd hw (by omega)) (fun _ _ => hp)
      · exact ml_ygv ht hq ho h01 (fun _ _ => hp) (fun z => absurd (a8.trans hw) (z hbq))
    · have e8 : ml_ct (bt (wr t ||| ((1 : Int32) <<< (nI q &&& 31)))) 32 = w + 1 := by
        have e9 : ml_ct (bt (wr t ||| ((1 : Int32) <<< (nI q &&& 31)))) 32 = ml_ct (fun j => bt (wr t) j || decide (j = q)) 32 := ml_ct_cg _ hbt
        rw [e9, ml_ct_one (p := bt (wr t)) (k := q) hbq (by rw [decide_eq_true rfl, Bool.or_true]) (fun j hj => by rw [decide_eq_false hj, Bool.or_false]) 32, if_pos hq, a8]
      refine ⟨nI (w + 1), (nI F, nI L, tp, ch, lv, hv, st, mr, fn, ro, op, ba, br, rs, upd wc t (nI (w + 1)), upd wk (6 * t + w) (nI q), upd wv (6 * t + w) v3, upd wh (6 * t + w) h, sn, sk, ss), (nI L, th, va, tu, op, upd se (32 * t + q) h, upd vw (32 * t + q) v3, upd wr t (wr t ||| ((1 : Int32) <<< (nI q &&& 31))), rs, si), ml_mkR (by omega) H hC (other _ _ _ _ _ _ _ (fun u _ hne => ⟨pk_un hne, pk_un hne⟩) (fun u i' hu hne hi' => ⟨pk_un (by omega), pk_un (by omega), pk_un (by omega)⟩) (fun u q' hu hne hq' => ⟨pk_un (by omega), pk_un (by omega)⟩) ?_), fun post hp => ?_, fun post hp => ?_⟩
      · have kw : ∀ i, i < w → upd wk (6 * t + w) (nI q) (6 * t + i) = wk (6 * t + i) := fun i hi => pk_un (by omega)
        rw [pk_us, pk_us]
        refine ⟨w + 1, b, rfl, by omega, a3, a4, fun i hi => ?_, fun i j hij hj => ?_, fun i hi => ?_, e8, fun q' hq' => ?_, a10, fun q' hq' i hi e => ?_, fun q' hq' hn' => ?_⟩
        all_goals dsimp only at *
        · by_cases z : i = w
          · subst z
            exact ⟨q, hq, pk_us⟩
          · rw [kw i (by omega)]
            exact a5 i (by omega)
        · rw [kw i (by omega)]
          by_cases z : j = w
          · subst z
            rw [pk_us]
            exact hn i hij
          · rw [kw j (by omega)]
            exact a6 i j hij (by omega)
        · by_cases z : i = w
          · subst z
            rw [pk_us, pk_us]
            exact hh
          · rw [pk_un (by omega), pk_un (by omega)]
            exact a7 i (by omega)
        · rw [hbt q' hq', Bool.or_eq_true, decide_eq_true_eq, a9 q' hq']
          constructor
          · rintro (⟨i, hi, e⟩ | e)
            · exact ⟨i, by omega, by rw [kw i hi]; exact e⟩
            · exact ⟨w, Nat.lt_succ_self w, by rw [pk_us, e]⟩
          · rintro ⟨i, hi, e⟩
            by_cases z : i = w
            · subst z
              rw [pk_us] at e
              exact Or.inr (ml_nI_inj (by omega) (by omega) e.symm)
            · rw [kw i (by omega)] at e
              exact Or.inl ⟨i, by omega, e⟩
        · by_cases z : i = w
          · subst z
            rw [pk_us] at e
            have : q' = q := ml_nI_inj (by omega) (by omega) e.symm
            subst this
            rw [pk_us, pk_us, pk_us, pk_us]
            exact ⟨rfl, rfl⟩
          · rw [kw i (by omega)] at e
            have hne : q' ≠ q := fun y => hn i (by omega) (by rw [← y]; exact e)
            rw [pk_un (by omega), pk_un (by omega), pk_un (by omega), pk_un (by omega)]
            exact a11 q' hq' i (by omega) e
        · have hne : q' ≠ q := fun y => hn' w (Nat.lt_succ_self w) (by rw [pk_us, y])
          rw [pk_un (by omega), pk_un (by omega)]
          exact a12 q' hq' (fun i hi => by rw [← kw i hi]; exact hn' i (by omega))
      · exact ml_xpu ht hq ho h01 a1 a2 (fun i' hi' e => absurd e (hn i' hi')) (fun _ _ => hp) (fun _ z => absurd z hw)
      · refine ml_ygv ht hq ho h01 (fun _ z => absurd (a8.symm.trans z) hw) (fun _ => ?_)
        rw [e8]
        exact hp
theorem i_vc_write {k : Nat} {u : SX} {v : SY} (I : i_Rel k u v) (hk : k + 4 ≤ 2048) (v1 : Int32) (v2 : Int32) (v3 : Int32) : wpX_write (fun r u' => wpY_write (fun r' v' => r' = r ∧ i_Rel (k + 4) u' v') v v1 v2 v3) u v1 v2 v3 := by
  obtain ⟨r, u', v', hR, hX, hY⟩ := ml_vput I hk v1 v2 v3 1 (Or.inr rfl)
  obtain ⟨fc, ls, tp, ch, lv, hv, st, mr, fn, ro, op, ba, br, rs, wc, wk, wv, wh, sn, sk, ss⟩ := u
  obtain ⟨la, th, va, tu, op', se, vw, wr, rk, si⟩ := v
  obtain ⟨c1, c2, c3, c4, c5, c6, c7, c8, c9, c10, c11, c12, c13, c14, c15, c16, c17, c18, c19, c20, c21⟩ := u'
  obtain ⟨d1, d2, d3, d4, d5, d6, d7, d8, d9, d10⟩ := v'
  unfold wpX_write wpY_write
  dsimp only
  exact hX _ (hY _ ⟨rfl, hR⟩)
theorem i_vc_erase {k : Nat} {u : SX} {v : SY} (I : i_Rel k u v) (hk : k + 4 ≤ 2048) (v1 : Int32) (v2 : Int32) : wpX_erase (fun r u' => wpY_erase (fun r' v' => r' = r ∧ i_Rel (k + 4) u' v') v v1 v2) u v1 v2 := by
  obtain ⟨r, u', v', hR, hX, hY⟩ := ml_vput I hk v1 v2 0 0 (Or.inl ⟨rfl, rfl⟩)
  obtain ⟨fc, ls, tp, ch, lv, hv, st, mr, fn, ro, op, ba, br, rs, wc, wk, wv, wh, sn, sk, ss⟩ := u
  obtain ⟨la, th, va, tu, op', se, vw, wr, rk, si⟩ := v
  obtain ⟨c1, c2, c3, c4, c5, c6, c7, c8, c9, c10, c11, c12, c13, c14, c15, c16, c17, c18, c19, c20, c21⟩ := u'
  obtain ⟨d1, d2, d3, d4, d5, d6, d7, d8, d9, d10⟩ := v'
  unfold wpX_erase wpY_erase
  dsimp only
  exact hX _ (hY _ ⟨rfl, hR⟩)
end
section
/-! what is owed: read, peek, countRange, abort, latest, the states -/
theorem i_vc_read {k : Nat} {u : SX} {v : SY} (I : i_Rel k u v) (hk : k + 4 ≤ 2048) (v1 : Int32) (v2 : Int32) : wpX_read (fun r u' => wpY_read (fun r' v' => r' = r ∧ i_Rel (k + 4) u' v') v v1 v2) u v1 v2 := by
  refine ml_el (P := fun u v => wpX_read (fun r u' => wpY_read (fun r' v' => r' = r ∧ i_Rel (k + 4) u' v') v v1 v2) u v1 v2) ?_ I
  intro F L RS BH BV tp ch lv hv st mr fn ro op ba br rs wc wk wv wh sn sk ss th va tu se vw wr si h1 H hC hG
  by_cases hb : (v1 < 0 ∨ 3 < v1) ∨ (v2 < 0 ∨ 31 < v2)
  · unfold wpX_read
    dsimp only
    refine ml_xck_b ?_ (br_f (by decide) (ml_yrd_b hb ⟨rfl, ml_mkR (by omega) H hC hG⟩))
    rcases hb with a | a | a
    · exact Or.inl a
    · exact Or.inr (Or.inl a)
    · exact Or.inr (Or.inr (Or.inl a))
  rcases ml_tc v1 with a | ⟨t, ht, rfl⟩
  · exact absurd (Or.inl a) hb
  rcases ml_kc v2 with a | ⟨q, hq, rfl⟩
  · exact absurd (Or.inr a) hb
  by_cases ho : op t = 0
  · unfold wpX_read
    dsimp only
    exact ml_xck ht (nI_pos (by omega)) (ml_n31 hq) (Int32.le_refl _) (fun _ => br_f (by decide) (ml_yrd_c ht hq ho ⟨rfl, ml_mkR (by omega) H hC hG⟩)) (fun z => absurd ho z)
  have hTX := hG.2.2 t ht ho
  have hb01 : ∀ q, q < 32 → BH t q = 0 ∨ BH t q = 1 := fun q hq => ml_bh01 H ht hq
  have hs01 : ∀ q, q < 32 → se (32 * t + q) = 0 ∨ se (32 * t + q) = 1 := fun q hq => ml_see (se := fun q => se (32 * t + q)) hTX hb01 hq
  exact ml_xrd ht hq ho (H.2.2.2.2.1 t ht) (fun q hq => (H.2.2.2.2.2.2 t ht q hq).1) hb01 hTX (ml_yrd ht hq ho (hs01 q hq) ⟨rfl, ml_mkR (by omega) H hC hG⟩)
theorem i_vc_peek {k : Nat} {u : SX} {v : SY} (I : i_Rel k u v) (hk : k + 4 ≤ 2048) (v1 : Int32) (v2 : Int32) : wpX_peek (fun r => wpY_peek (fun r' => r' = r ∧ i_Rel (k + 4) u v) v v1 v2) u v1 v2 := by
  have J := i_up I
  refine ml_el (P := fun u v => i_Rel (k + 4) u v → wpX_peek (fun r => wpY_peek (fun r' => r' = r ∧ i_Rel (k + 4) u v) v v1 v2) u v1 v2) ?_ I J
  intro F L RS BH BV tp ch lv hv st mr fn ro op ba br rs wc wk wv wh sn sk ss th va tu se vw wr si h1 H hC hG J
  by_cases hb : (v1 < 0 ∨ 3 < v1) ∨ (v2 < 0 ∨ 31 < v2)
  · unfold wpX_peek
    dsimp only
    refine ml_xck_b ?_ (br_f (by decide) (ml_ypk_b hb ⟨rfl, J⟩))
    rcases hb with a | a | a
    · exact Or.inl a
    · exact Or.inr (Or.inl a)
    · exact Or.inr (Or.inr (Or.inl a))
  rcases ml_tc v1 with a | ⟨t, ht, rfl⟩
  · exact absurd (Or.inl a) hb
  rcases ml_kc v2 with a | ⟨q, hq, rfl⟩
  · exact absurd (Or.inr a) hb
  by_cases ho : op t = 0
  · unfold wpX_peek
    dsimp only
    exact ml_xck ht (nI_pos (by omega)) (ml_n31 hq) (Int32.le_refl _) (fun _ => br_f (by decide) (ml_ypk_c ht hq ho ⟨rfl, J⟩)) (fun z => absurd ho z)
  have hTX := hG.2.2 t ht ho
  exact ml_xpk ht hq ho (H.2.2.2.2.1 t ht) (fun q hq => (H.2.2.2.2.2.2 t ht q hq).1) (fun q hq => (H.2.2.2.2.2.2 t ht q hq).2) hTX (fun z => ml_ypk ht hq ho (fun _ => ⟨rfl, J⟩) (fun y => absurd z y)) (fun z => ml_ypk ht hq ho (fun y => absurd y z) (fun _ => ⟨rfl, J⟩))
theorem i_vc_countRange {k : Nat} {u : SX} {v : SY} (I : i_Rel k u v) (hk : k + 4 ≤ 2048) (v1 : Int32) (v2 : Int32) (v3 : Int32) : wpX_countRange (fun r u' => wpY_countRange (fun r' v' => r' = r ∧ i_Rel (k + 4) u' v') v v1 v2 v3) u v1 v2 v3 := by
  refine ml_el (P := fun u v => wpX_countRange (fun r u' => wpY_countRange (fun r' v' => r' = r ∧ i_Rel (k + 4) u' v') v v1 v2 v3) u v1 v2 v3) ?_ I
  intro F L RS BH BV tp ch lv hv st mr fn ro op ba br rs wc wk wv wh sn sk ss th va tu se vw wr si h1 H hC hG
  by_cases hb : (v1 < 0 ∨ 3 < v1) ∨ v2 < 0 ∨ 31 < v3 ∨ ¬ v2 ≤ v3
  · unfold wpX_countRange
    dsimp only
    refine ml_xck_b hb (br_f (by decide) (ml_ycr_b ?_ ⟨rfl, ml_mkR (by omega) H hC hG⟩))
    rcases hb with a | a | a | a
    · exact Or.inl a
    · exact Or.inr (Or.inl (Or.inl a))
    · exact Or.inr (Or.inr (Or.inl (Or.inr a)))
    · exact Or.inr (Or.inr (Or.inr a))
  rcases ml_tc v1 with a | ⟨t, ht, rfl⟩
  · exact absurd (Or.inl a) hb
  have hle : v2 ≤ v3 := Decidable.byContradiction (fun z => hb (Or.inr (Or.inr (Or.inr z))))
  have h31 : ¬ 31 < v3 := fun z => hb (Or.inr (Or.inr (Or.inl z)))
  have h0 : ¬ v2 < 0 := fun z => hb (Or.inr (Or.inl z))
  rcases ml_kc v2 with (a | a) | ⟨lo, hlo, rfl⟩
  · exact absurd a h0
  · exact absurd (Int32.lt_of_lt_of_le a hle) h31
  rcases ml_kc v3 with (a | a) | ⟨hi, hhi, rfl⟩
  · exact absurd (Int32.lt_of_le_of_lt hle a) h0
  · exact absurd a h31
  have hlh : lo ≤ hi := (nI_leI (by omega) (by omega)).mp hle
  by_cases ho : op t = 0
  · unfold wpX_countRange
    dsimp only
    exact ml_xck ht h0 h31 hle (fun _ => br_f (by decide) (ml_ycr_c ht ho hlh hhi ⟨rfl, ml_mkR (by omega) H hC hG⟩)) (fun z => absurd ho z)
  have hTX := hG.2.2 t ht ho
  have hb01 : ∀ q, q < 32 → BH t q = 0 ∨ BH t q = 1 := fun q hq => ml_bh01 H ht hq
  have hs01 : ∀ q, q < 32 → se (32 * t + q) = 0 ∨ se (32 * t + q) = 1 := fun q hq => ml_see (se := fun q => se (32 * t + q)) hTX hb01 hq
  exact ml_xcr ht ho (H.2.2.2.2.1 t ht) (fun q hq => (H.2.2.2.2.2.2 t ht q hq).1) hb01 hTX hlh hhi (ml_ycr ht ho hlh hhi hs01 ⟨rfl, ml_mkR (by omega) H hC hG⟩)
theorem i_vc_abort {k : Nat} {u : SX} {v : SY} (I : i_Rel k u v) (hk : k + 4 ≤ 2048) (v1 : Int32) : wpX_abort (fun r u' => wpY_abort (fun r' v' => r' = r ∧ i_Rel (k + 4) u' v') v v1) u v1 := by
  refine ml_el (P := fun u v => wpX_abort (fun r u' => wpY_abort (fun r' v' => r' = r ∧ i_Rel (k + 4) u' v') v v1) u v1) ?_ I
  intro F L RS BH BV tp ch lv hv st mr fn ro op ba br rs wc wk wv wh sn sk ss th va tu se vw wr si h1 H hC hG
  rcases ml_tc v1 with h | ⟨t, ht, rfl⟩
  · unfold wpX_abort
    dsimp only
    exact ml_xck_b (Or.inl h) (br_f (by decide) (ml_yab_b h ⟨rfl, ml_mkR (by omega) H hC hG⟩))
  by_cases ho : op t = 0
  · unfold wpX_abort
    dsimp only
    exact ml_xck ht (by decide) (by decide) (by decide) (fun _ => br_f (by decide) (ml_yab_c ht ho ⟨rfl, ml_mkR (by omega) H hC hG⟩)) (fun z => absurd ho z)
  obtain ⟨G1, G2, G3⟩ := hG
  obtain ⟨w, b, a1, a2, a3, a4, a5, a6, a7, a8, a9⟩ := G3 t ht ho
  refine ml_xab ht ho (ml_yab ht ho ⟨by rw [a1, a8], ml_mkR (by omega) (ml_HP_br t H) hC ⟨G1, G2, fun u hu hou => ?_⟩⟩)
  by_cases e : u = t
  · subst e
    rw [pk_us] at hou
    exact absurd rfl hou
  · rw [pk_un e] at hou
    refine ml_TX_cg (G3 u hu hou) (fun i hi => ⟨rfl, rfl, rfl⟩) (fun q hq => ⟨rfl, rfl, if_neg e, if_neg e⟩) L (Nat.le_refl _) (fun q hq b hb z => z)
theorem i_vc_latest {k : Nat} {u : SX} {v : SY} (I : i_Rel k u v) (hk : k + 4 ≤ 2048) : wpX_latest (fun r => wpY_latest (fun r' => r' = r ∧ i_Rel (k + 4) u v) v) u := by
  have J := i_up I
  refine ml_el (P := fun u v => i_Rel (k + 4) u v → wpX_latest (fun r => wpY_latest (fun r' => r' = r ∧ i_Rel (k + 4) u v) v) u) ?_ I J
  intro F L RS BH BV tp ch lv hv st mr fn ro op ba br rs wc wk wv wh sn sk ss th va tu se vw wr si h1 H hC hG J
  exact And.intro rfl J
theorem i_vc_has {k : Nat} {u : SX} {v : SY} (I : i_Rel k u v) (hk : k + 4 ≤ 2048) (v1 : Int32) (v2 : Int32) : wpX_has (fun r => wpY_has (fun r' => r' = r ∧ i_Rel (k + 4) u v) v v1 v2) u v1 v2 := by
  have J := i_up I
  refine ml_el (P := fun u v => i_Rel (k + 4) u v → wpX_has (fun r => wpY_has (fun r' => r' = r ∧ i_Rel (k + 4) u v) v v1 v2) u v1 v2) ?_ I J
  intro F L RS BH BV tp ch lv hv st mr fn ro op ba br rs wc wk wv wh sn sk ss th va tu se vw wr si h1 H hC hG J
  have hL : L < 2 ^ 30 := by omega
  rcases ml_sc v1 (L := L) (by omega) with a | a | ⟨s, hs, rfl⟩
  · exact ml_xha_b v2 (Or.inl a) (ml_yha_b v2 (Or.inl a) ⟨rfl, J⟩)
  · exact ml_xha_b v2 (Or.inr a) (ml_yha_b v2 (Or.inr a) ⟨rfl, J⟩)
  by_cases h6 : s + 6 ≤ L
  · exact ml_xha_g v2 hL h6 (ml_yha_g v2 hL h6 ⟨rfl, J⟩)
  have h6 : L < s + 6 := by omega
  rcases ml_kc v2 with a | ⟨q, hq, rfl⟩
  · exact ml_xha_k hL hs h6 a (ml_yha_k hL hs h6 a ⟨rfl, J⟩)
  have m6 : s % 6 < 6 := Nat.mod_lt _ (by decide)
  have e := (H.2.2.2.2.2.1 _ m6 q hq).1
  exact ml_xha hL hs h6 hq (H.2.2.2.1 _ m6) (fun z => ml_yha hL hs h6 hq (fun _ => ⟨rfl, J⟩) (fun y => absurd (e.symm.trans z) y)) (fun z => ml_yha hL hs h6 hq (fun y => absurd (e.trans y) z) (fun _ => ⟨rfl, J⟩))
theorem i_vc_at {k : Nat} {u : SX} {v : SY} (I : i_Rel k u v) (hk : k + 4 ≤ 2048) (v1 : Int32) (v2 : Int32) : wpX_at (fun r => wpY_at (fun r' => r' = r ∧ i_Rel (k + 4) u v) v v1 v2) u v1 v2 := by
  have J := i_up I
  refine ml_el (P := fun u v => i_Rel (k + 4) u v → wpX_at (fun r => wpY_at (fun r' => r' = r ∧ i_Rel (k + 4) u v) v v1 v2) u v1 v2) ?_ I J
  intro F L RS BH BV tp ch lv hv st mr fn ro op ba br rs wc wk wv wh sn sk ss th va tu se vw wr si h1 H hC hG J
  have hL : L < 2 ^ 30 := by omega
  rcases ml_sc v1 (L := L) (by omega) with a | a | ⟨s, hs, rfl⟩
  · exact ml_xat_0 (fun p hp => ml_xha_b v2 (Or.inl a) hp) (ml_yat_0 (fun p hp => ml_yha_b v2 (Or.inl a) hp) ⟨rfl, J⟩)
  · exact ml_xat_0 (fun p hp => ml_xha_b v2 (Or.inr a) hp) (ml_yat_0 (fun p hp => ml_yha_b v2 (Or.inr a) hp) ⟨rfl, J⟩)
  by_cases h6 : s + 6 ≤ L
  · exact ml_xat_0 (fun p hp => ml_xha_g v2 hL h6 hp) (ml_yat_0 (fun p hp => ml_yha_g v2 hL h6 hp) ⟨rfl, J⟩)
  have h6 : L < s + 6 := by omega
  rcases ml_kc v2 with a | ⟨q, hq, rfl⟩
  · exact ml_xat_0 (fun p hp => ml_xha_k hL hs h6 a hp) (ml_yat_0 (fun p hp => ml_yha_k hL hs h6 a hp) ⟨rfl, J⟩)
  have m6 : s % 6 < 6 := Nat.mod_lt _ (by decide)
  obtain ⟨e, e2, _⟩ := H.2.2.2.2.2.1 _ m6 q hq
  exact ml_xat hL hs h6 hq (H.2.2.2.1 _ m6) (fun z => ml_yat hL hs h6 hq (fun _ => ⟨rfl, J⟩) (fun y => absurd (e.symm.trans z) y)) (fun z => ml_yat hL hs h6 hq (fun y => absurd (e.trans y) z) (fun _ => ⟨e2.symm, J⟩))
theorem i_vc_size {k : Nat} {u : SX} {v : SY} (I : i_Rel k u v) (hk : k + 4 ≤ 2048) (v1 : Int32) : wpX_size (fun r => wpY_size (fun r' => r' = r ∧ i_Rel (k + 4) u v) v v1) u v1 := by
  have J := i_up I
  refine ml_el (P := fun u v => i_Rel (k + 4) u v → wpX_size (fun r => wpY_size (fun r' => r' = r ∧ i_Rel (k + 4) u v) v v1) u v1) ?_ I J
  intro F L RS BH BV tp ch lv hv st mr fn ro op ba br rs wc wk wv wh sn sk ss th va tu se vw wr si h1 H hC hG J
  have hL : L < 2 ^ 30 := by omega
  rcases ml_sc v1 (L := L) (by omega) with a | a | ⟨s, hs, rfl⟩
  · exact ml_xsi_b (Or.inl a) (ml_ysi_b (Or.inl a) ⟨rfl, J⟩)
  · exact ml_xsi_b (Or.inr a) (ml_ysi_b (Or.inr a) ⟨rfl, J⟩)
  by_cases h6 : s + 6 ≤ L
  · exact ml_xsi_g hL h6 (ml_ysi_g hL h6 ⟨rfl, J⟩)
  have h6 : L < s + 6 := by omega
  have m6 : s % 6 < 6 := Nat.mod_lt _ (by decide)
  refine ml_xsi hL hs h6 (H.2.2.2.1 _ m6) (ml_ysi hL hs h6 ⟨congrArg nI (ml_ct_cg _ (fun q hq => ?_)), J⟩)
  rw [(H.2.2.2.2.2.1 _ m6 q hq).1]
theorem ml_un_law {L s : Nat} {RS : Nat → Nat → Int32} {tu : Nat → Int32} (G1 : ∀ p, p ≤ L → L < p + 6 → ∀ q, q < 32 → (RS (p % 6) q).toInt ≤ (p : Int))
    (G2 : ∀ p, p + 1 ≤ L → L < p + 6 → ∀ q, q < 32 → (bt (tu ((p + 1) % 6)) q = true → (RS ((p + 1) % 6) q).toInt = ((p + 1 : Nat) : Int)) ∧ (bt (tu ((p + 1) % 6)) q = false → RS ((p + 1) % 6) q = RS (p % 6) q))
    (h6 : L < s + 6) {q : Nat} (hq : q < 32) : ∀ n, s + n ≤ L → bt (ml_un tu s n) q = decide ((s : Int) < (RS ((s + n) % 6) q).toInt) := by
  intro n
  induction n with
  | zero =>
    intro h
    have := G1 s h h6 q hq
    rw [decide_eq_false (by rw [Nat.add_zero]; omega)]
    exact b_0 q
  | succ n ih =>
    intro h
    have e : s + 1 + n = s + n + 1 := by omega
    obtain ⟨g1, g2⟩ := G2 (s + n) (by omega) (by omega) q hq
    show bt (ml_un tu s n ||| tu ((s + 1 + n) % 6)) q = _
    rw [b_or, e]
    show _ = decide ((s : Int) < (RS ((s + n + 1) % 6) q).toInt)
    cases hb : bt (tu ((s + n + 1) % 6)) q with
    | true =>
      rw [Bool.or_true, decide_eq_true]
      have := g1 hb
      omega
    | false => rw [Bool.or_false, g2 hb, ih (by omega)]
theorem i_vc_changed {k : Nat} {u : SX} {v : SY} (I : i_Rel k u v) (hk : k + 4 ≤ 2048) (v1 : Int32) (v2 : Int32) : wpX_changed (fun r u' => wpY_changed (fun r' => r' = r ∧ i_Rel (k + 4) u' v) v v1 v2) u v1 v2 := by
  refine ml_el (P := fun u v => wpX_changed (fun r u' => wpY_changed (fun r' => r' = r ∧ i_Rel (k + 4) u' v) v v1 v2) u v1 v2) ?_ I
  intro F L RS BH BV tp ch lv hv st mr fn ro op ba br rs wc wk wv wh sn sk ss th va tu se vw wr si h1 H hC hG
  have hL : L < 2 ^ 30 := by omega
  by_cases hb : (v1 < 0 ∨ nI L < v1) ∨ (v2 < 0 ∨ nI L < v2) ∨ ¬ v1 < v2
  · exact ml_xch_b hb (ml_ych_b hL hb ⟨rfl, ml_mkR (by omega) H hC hG⟩)
  rcases ml_sc v1 (L := L) (by omega) with a | a | ⟨s, hs, rfl⟩
  · exact absurd (Or.inl (Or.inl a)) hb
  · exact absurd (Or.inl (Or.inr a)) hb
  rcases ml_sc v2 (L := L) (by omega) with a | a | ⟨p, hp, rfl⟩
  · exact absurd (Or.inr (Or.inl (Or.inl a))) hb
  · exact absurd (Or.inr (Or.inl (Or.inr a))) hb
  have hsp : s < p := (nI_ltI (by omega) (by omega)).mp (Decidable.byContradiction (fun z => hb (Or.inr (Or.inr z))))
  by_cases h6 : s + 6 ≤ L
  · exact ml_xch_g hL hp hsp h6 (ml_ych_g hL hp hsp h6 ⟨rfl, ml_mkR (by omega) H hC hG⟩)
  have h6 : L < s + 6 := by omega
  have m6 : p % 6 < 6 := Nat.mod_lt _ (by decide)
  have st0 : (nI s).toInt = (s : Int) := nI_toInt (by omega)
  refine ml_xch hL hp hsp h6 (H.2.2.2.1 _ m6) (fun tp' sn' sk' ss' => ml_ych hL hp hsp h6 ⟨congrArg nI ?_, ml_mkR (by omega) H hC hG⟩)
  rw [ml_cs_law (by rw [st0]; omega) 5 _ _ 0 (H.2.2.2.1 _ m6)]
  refine ml_ct_cg 32 (fun q hq => ?_)
  have e : s + (p - s) = p := by omega
  rw [ml_un_law hG.1 hG.2.1 h6 hq (p - s) (by omega), e, Nat.zero_add, b_m1 q hq, Bool.true_and, st0, (H.2.2.2.2.2.1 _ m6 q hq).2.2]
end
section
/-! what is owed: commit -/
theorem ml_K {b : Int} {x y : Int32} {sg : Nat → Int32} (h : ∀ q, q < 32 → (bt y q = true ↔ b < (sg q).toInt)) : ml_ct (fun j => bt x j && decide (b < (sg j).toInt)) 32 = 0 ↔ x &&& y = 0 := by
  have e : ∀ j, j < 32 → (bt x j && decide (b < (sg j).toInt)) = bt (x &&& y) j := by
    intro j hj
    rw [b_and]
    congr 1
    cases hb : bt y j with
    | true => exact decide_eq_true ((h j hj).mp hb)
    | false => exact decide_eq_false (fun z => by rw [(h j hj).mpr z] at hb; cases hb)
  rw [ml_ct_cg 32 e]
  constructor
  · intro z
    apply b_ext
    intro i hi
    rw [ml_ct_n 32 z i hi, b_0]
  · intro z
    rw [z]
    exact ml_ct_0 _ (fun j _ => b_0 j)
theorem i_vc_commit {k : Nat} {u : SX} {v : SY} (I : i_Rel k u v) (hk : k + 4 ≤ 2048) (v1 : Int32) : wpX_commit (fun r u' => wpY_commit (fun r' v' => r' = r ∧ i_Rel (k + 4) u' v') v v1) u v1 := by
  refine ml_el (P := fun u v => wpX_commit (fun r u' => wpY_commit (fun r' v' => r' = r ∧ i_Rel (k + 4) u' v') v v1) u v1) ?_ I
  intro F L RS BH BV tp ch lv hv st mr fn ro op ba br rs wc wk wv wh sn sk ss th va tu se vw wr si h1 H hC hG
  rcases ml_tc v1 with h | ⟨t, ht, rfl⟩
  · unfold wpX_commit
    dsimp only
    exact ml_xck_b (Or.inl h) (br_f (by decide) (ml_ycm_b h ⟨rfl, ml_mkR (by omega) H hC hG⟩))
  by_cases ho : op t = 0
  · unfold wpX_commit
    dsimp only
    exact ml_xck ht (by decide) (by decide) (by decide) (fun _ => br_f (by decide) (ml_ycm_c ht ho ⟨rfl, ml_mkR (by omega) H hC hG⟩)) (fun z => absurd ho z)
  have o6 : L % 6 < 6 := Nat.mod_lt _ (by decide)
  have hTX := hG.2.2 t ht ho
  have hb01 : ∀ q, q < 32 → BH t q = 0 ∨ BH t q = 1 := fun q hq => ml_bh01 H ht hq
  have hs01 : ∀ q, q < 32 → se (32 * t + q) = 0 ∨ se (32 * t + q) = 1 := fun q hq => ml_see (se := fun q => se (32 * t + q)) hTX hb01 hq
  have hh01 : ∀ q, q < 32 → th (32 * (L % 6) + q) = 0 ∨ th (32 * (L % 6) + q) = 1 := fun q hq => ml_th01 H o6 hq
  obtain ⟨G1, G2, G3⟩ := hG
  obtain ⟨w, b, a1, a2, a3, a4, a5, a6, a7, a8, a9, a10, a11, a12⟩ := hTX
  dsimp only at a5 a6 a7 a9 a10 a11 a12
  have hbt : (ba t).toInt = (b : Int) := by rw [a3]; exact nI_toInt (by omega)
  have hwh : ∀ i, i < w → wh (6 * t + i) = 0 ∨ wh (6 * t + i) = 1 := fun i hi => (a7 i hi).imp (fun z => z.1) id
  have hK := ml_K (b := (ba t).toInt) (x := rs t) (y := si t) (sg := RS (L % 6)) (by rw [hbt]; exact a10)
  have clo : ∀ u, u < 4 → upd op t 0 u ≠ 0 → u ≠ t ∧ op u ≠ 0 := by
    intro u hu hou
    by_cases e : u = t
    · subst e
      rw [pk_us] at hou
      exact absurd rfl hou
    · rw [pk_un e] at hou
      exact ⟨e, hou⟩
  refine ml_xcm ht (by omega) ho (by rw [hbt]; omega) a1 a2 a5 a6 hwh H hC (fun z tp' sn' sk' ss' => ?_) (fun z F' tp' ch' lv' hv' st' mr' fn' ro' sn' sk' ss' th3 va3 RS3 H3 C3 J3 => ?_)
  · refine ml_ycm ht (by omega) ho hs01 hh01 (fun _ => ⟨rfl, ml_mkR (by omega) (ml_HP_br t H) hC ⟨G1, G2, fun u hu hou => ?_⟩⟩) (fun y => absurd (hK.mpr y) z)
    obtain ⟨e, hou⟩ := clo u hu hou
    exact ml_TX_cg (G3 u hu hou) (fun i hi => ⟨rfl, rfl, rfl⟩) (fun q hq => ⟨rfl, rfl, if_neg e, if_neg e⟩) L (Nat.le_refl _) (fun q hq b hb z => z)
  · refine ml_ycm ht (by omega) ho hs01 hh01 (fun y => absurd (hK.mp z) y) (fun _ th' va' si' hrow hsi => ⟨rfl, ?_⟩)
    obtain ⟨j1, j2, j3⟩ := J3
    obtain ⟨w1, w2⟩ := hrow
    have r6 : (L + 1) % 6 < 6 := Nat.mod_lt _ (by decide)
    have hne : L % 6 ≠ (L + 1) % 6 := by omega
    have yes : ∀ q, q < 32 → bt (wr t) q = true → th3 (32 * ((L + 1) % 6) + q) = se (32 * t + q) ∧ va3 (32 * ((L + 1) % 6) + q) = vw (32 * t + q) ∧ RS3 ((L + 1) % 6) q = nI (L + 1) := by
      intro q hq hb
      obtain ⟨i, hi, e⟩ := (a9 q hq).mp hb
      obtain ⟨x1, x2, x3⟩ := j2 q hq i hi e
      obtain ⟨y1, y2⟩ := a11 q hq i hi e
      exact ⟨x1.trans y1.symm, x2.trans y2.symm, x3⟩
    have no : ∀ q, q < 32 → bt (wr t) q = false → th3 (32 * ((L + 1) % 6) + q) = th (32 * (L % 6) + q) ∧ va3 (32 * ((L + 1) % 6) + q) = va (32 * (L % 6) + q) ∧ RS3 ((L + 1) % 6) q = RS (L % 6) q := by
      intro q hq hb
      refine j3 q hq (fun i hi e => ?_)
      have := (a9 q hq).mpr ⟨i, hi, e⟩
      rw [hb] at this
      cases this
    have L1 : (nI (L + 1)).toInt = ((L + 1 : Nat) : Int) := nI_toInt (by omega)
    refine ml_mkR (RS := RS3) (by omega) (ml_HP_cg H3 ?_) C3 ⟨fun p hp h6 q hq => ?_, fun p hp h6 q hq => ?_, fun u hu hou => ?_⟩
    · intro j hj q hq
      by_cases e : j = (L + 1) % 6
      · subst e
        obtain ⟨x1, x2⟩ := w1 q hq
        rw [x1, x2]
        cases hb : bt (wr t) q with
        | true =>
          obtain ⟨y1, y2, y3⟩ := yes q hq hb
          rw [if_pos rfl, if_pos rfl, y1, y2]
          exact ⟨rfl, rfl, rfl⟩
        | false =>
          obtain ⟨y1, y2, y3⟩ := no q hq hb
          rw [if_neg (by decide), if_neg (by decide), y1, y2]
          exact ⟨rfl, rfl, rfl⟩
      · obtain ⟨x1, x2⟩ := w2 (32 * j + q) (by omega)
        obtain ⟨y1, y2, y3⟩ := j1 j hj e q hq
        rw [x1, x2, y1, y2]
        exact ⟨rfl, rfl, rfl⟩
    · by_cases e : p = L + 1
      · subst e
        cases hb : bt (wr t) q with
        | true =>
          rw [(yes q hq hb).2.2, L1]
          exact Int.le_refl _
        | false =>
          rw [(no q hq hb).2.2]
          have := G1 L (Nat.le_refl _) (by omega) q hq
          omega
      · rw [(j1 (p % 6) (Nat.mod_lt _ (by decide)) (by omega) q hq).2.2]
        exact G1 p (by omega) (by omega) q hq
    · by_cases e : p = L
      · subst e
        rw [pk_us]
        refine ⟨fun hb => ?_, fun hb => ?_⟩
        · rw [(yes q hq hb).2.2, L1]
        · rw [(no q hq hb).2.2, (j1 (p % 6) o6 hne q hq).2.2]
      · rw [pk_un (by omega), (j1 ((p + 1) % 6) (Nat.mod_lt _ (by decide)) (by omega) q hq).2.2, (j1 (p % 6) (Nat.mod_lt _ (by decide)) (by omega) q hq).2.2]
        exact G2 p (by omega) (by omega) q hq
    · obtain ⟨e, hou⟩ := clo u hu hou
      rw [hsi u hu]
      refine ml_TX_cg (G3 u hu hou) (fun i hi => ⟨rfl, rfl, rfl⟩) (fun q hq => ⟨rfl, rfl, if_neg e, if_neg e⟩) (L + 1) (by omega) (fun q hq c hc z => ?_)
      rw [b_or]
      cases hb : bt (wr t) q with
      | true =>
        rw [Bool.or_true, (yes q hq hb).2.2, L1]
        exact ⟨fun _ => by omega, fun _ => rfl⟩
      | false =>
        rw [Bool.or_false, (no q hq hb).2.2]
        exact z
end
