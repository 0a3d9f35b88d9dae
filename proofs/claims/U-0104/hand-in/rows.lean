section
/-! rows of the kit's PURE-ROWS and BITS files (starting texts) -/
theorem pk_us {f : Nat → Int32} {k : Nat} {x : Int32} : upd f k x k = x := if_pos rfl
theorem pk_un {f : Nat → Int32} {k j : Nat} {x : Int32} (h : j ≠ k) : upd f k x j = f j := if_neg h
theorem pk_sub {a b : Nat} (h : b ≤ a) : nI a - nI b = nI (a - b) := by
  obtain ⟨c, rfl⟩ : ∃ c, a = c + b := ⟨a - b, by omega⟩
  rw [← nI_add, Int32.add_sub_cancel, Nat.add_sub_cancel]
theorem pk_m1 (n : Nat) : nI (n + 1) + (-1) = nI n := by
  rw [← nI_1, Int32.add_assoc, show (1 : Int32) + (-1) = 0 from rfl, Int32.add_zero]
theorem pk_mul (a b : Nat) : nI a * nI b = nI (a * b) := (Int32.ofNat_mul a b).symm
theorem pk_div {a d : Nat} (ha : a < 2 ^ 31) (h0 : 0 < d) (hd : d < 2 ^ 31) : nI a / nI d = nI (a / d) := by
  apply Int32.toInt_inj.mp
  rw [lg_idiv_nonneg (by rw [nI_toInt ha]; omega) (by rw [nI_toInt hd]; omega), nI_toInt ha, nI_toInt hd, nI_toInt (Nat.lt_of_le_of_lt (Nat.div_le_self a d) ha)]
  first | rfl | exact (Int.natCast_ediv _ _).symm
theorem pk_rem {a d : Nat} (ha : a < 2 ^ 31) (h0 : 0 < d) (hd : d < 2 ^ 31) : nI a - nI a / nI d * nI d = nI (a % d) := by
  rw [pk_div ha h0 hd, pk_mul, pk_sub (Nat.div_mul_le_self a d)]
  exact congrArg nI (by have := Nat.div_add_mod' a d; omega)
theorem pk_sub_toInt {a b : Nat} (ha : a < 2 ^ 30) (hb : b < 2 ^ 30) : (nI a - nI b).toInt = (a : Int) - b := by
  rw [Int32.toInt_sub, nI_toInt (by omega), nI_toInt (by omega)]
  exact Int.bmod_eq_of_le (by omega) (by omega)
theorem pk_sneg {a b : Nat} (hb : b < 2 ^ 30) (h : a < b) : nI a - nI b < 0 := by
  rw [Int32.lt_iff_toInt_lt, pk_sub_toInt (by omega) hb, show (0 : Int32).toInt = 0 from by decide]
  omega
theorem pk_ix (x : Int32) {n : Nat} (hn : n < 2 ^ 31) : x < 0 ∨ nI n ≤ x ∨ ∃ j : Nat, j < n ∧ x = nI j := by
  by_cases h : x < 0
  · exact Or.inl h
  · obtain ⟨j, hj, rfl⟩ := nI_of h
    by_cases h2 : j < n
    · exact Or.inr (Or.inr ⟨j, h2, rfl⟩)
    · exact Or.inr (Or.inl (nI_le (by omega) hj))
theorem pk_le {x y : Int32} {A B : Prop} (a b : Nat) (f : a ≤ b → A) (g : b < a → B) (hx : x = nI a := by rfl) (hy : y = nI b := by rfl) (ha : a < 2 ^ 31 := by omega) (hb : b < 2 ^ 31 := by omega) : (x ≤ y → A) ∧ (¬ x ≤ y → B) := by
  subst hx hy
  rw [nI_leI ha hb]
  exact ⟨f, fun z => g (by omega)⟩
theorem pk_lt {x y : Int32} {A B : Prop} (a b : Nat) (f : a < b → A) (g : b ≤ a → B) (hx : x = nI a := by rfl) (hy : y = nI b := by rfl) (ha : a < 2 ^ 31 := by omega) (hb : b < 2 ^ 31 := by omega) : (x < y → A) ∧ (¬ x < y → B) := by
  subst hx hy
  rw [nI_ltI ha hb]
  exact ⟨f, fun z => g (by omega)⟩
theorem pk_eq {x y : Int32} {A B : Prop} (a b : Nat) (f : a = b → A) (g : a ≠ b → B) (hx : x = nI a := by rfl) (hy : y = nI b := by rfl) (ha : a < 2 ^ 31 := by omega) (hb : b < 2 ^ 31 := by omega) : (x = y → A) ∧ (¬ x = y → B) := by
  subst hx hy
  rw [nI_eq ha hb]
  exact ⟨f, g⟩
theorem pk_in {x : Int32} (n N : Nat) (h : n < N) (hx : x = nI n := by rfl) (hN : N < 2 ^ 31 := by omega) : vp_in x N := by
  subst hx
  exact vp_in_nI h hN
theorem pk_cl {x : Int32} (n : Nat) (hx : x = nI n := by rfl) (h : n < 2 ^ 31 := by omega) : x.toNatClampNeg = n := by
  subst hx
  exact nI_clamp h
theorem pk_tn {n : Nat} (h : n < 2 ^ 32) : (nI n).toBitVec.toNat = n := Nat.mod_eq_of_lt h
theorem pk_and (x : Int32) {m : Int32} (k : Nat) (hm : m.toBitVec.toNat = 2 ^ k - 1) : x &&& m = nI (x.toBitVec.toNat % 2 ^ k) := by
  apply Int32.toBitVec_inj.mp
  apply BitVec.eq_of_toNat_eq
  rw [Int32.toBitVec_and, BitVec.toNat_and, hm, Nat.and_two_pow_sub_one_eq_mod]
  show _ = (BitVec.ofNat 32 _).toNat
  rw [BitVec.toNat_ofNat]
  exact (Nat.mod_eq_of_lt (Nat.lt_of_le_of_lt (Nat.mod_le _ _) x.toBitVec.isLt)).symm
theorem pk_andN {n : Nat} (h : n < 2 ^ 32) {m : Int32} (k : Nat) (hm : m.toBitVec.toNat = 2 ^ k - 1) : nI n &&& m = nI (n % 2 ^ k) := by
  rw [pk_and _ k hm, pk_tn h]
theorem pk_shr (a s : Int32) (k : Nat) (hs : (s.toBitVec.smod 32).toNat = k) : (a >>> s).toInt = a.toInt >>> k := by
  show (a.toBitVec.sshiftRight (s.toBitVec.smod 32).toNat).toInt = _
  rw [hs, BitVec.toInt_sshiftRight]
  rfl
theorem pk_shrN {n : Nat} (h : n < 2 ^ 31) (s : Int32) (k : Nat) (hs : (s.toBitVec.smod 32).toNat = k) : nI n >>> s = nI (n / 2 ^ k) := by
  apply Int32.toInt_inj.mp
  have h2 : n / 2 ^ k ≤ n := Nat.div_le_self _ _
  rw [pk_shr _ _ k hs, nI_toInt h, nI_toInt (by omega), Int.shiftRight_eq_div_pow]
  rfl
theorem pk_least (P : Nat → Prop) (h : ∃ k, P k) : ∃ k, P k ∧ ∀ j, j < k → ¬ P j := by
  obtain ⟨k, hk⟩ := h
  induction k using Nat.strongRecOn with
  | ind k ih =>
    by_cases e : ∃ j, j < k ∧ P j
    · obtain ⟨j, hj, pj⟩ := e
      exact ih j hj pj
    · exact ⟨k, hk, fun j hj pj => e ⟨j, hj, pj⟩⟩
def bt (x : Int32) (i : Nat) : Bool := x.toBitVec.getLsbD i
theorem b_ext {x y : Int32} (h : ∀ i, i < 32 → bt x i = bt y i) : x = y := Int32.toBitVec_inj.mp (BitVec.eq_of_getLsbD_eq (fun i hi => h i hi))
theorem b_or (x y : Int32) (i : Nat) : bt (x ||| y) i = (bt x i || bt y i) := by unfold bt; rw [Int32.toBitVec_or, BitVec.getLsbD_or]
theorem b_and (x y : Int32) (i : Nat) : bt (x &&& y) i = (bt x i && bt y i) := by unfold bt; rw [Int32.toBitVec_and, BitVec.getLsbD_and]
theorem b_xor (x y : Int32) (i : Nat) : bt (x ^^^ y) i = (bt x i ^^ bt y i) := by unfold bt; rw [Int32.toBitVec_xor, BitVec.getLsbD_xor]
theorem b_big {x : Int32} {i : Nat} (h : 32 ≤ i) : bt x i = false := BitVec.getLsbD_of_ge _ _ h
theorem b_m1 : ∀ i, i < 32 → bt (-1) i = true := by decide +kernel
theorem b_0 (i : Nat) : bt 0 i = false := BitVec.getLsbD_zero
theorem s_l : ∀ n, n < 32 → ((nI n &&& 31).toBitVec.smod 32).toNat = n := by decide +kernel
theorem b_shl (n : Nat) (hn : n < 32) (x : Int32) {i : Nat} (hi : i < 32) : bt (x <<< (nI n &&& 31)) i = (decide (n ≤ i) && bt x (i - n)) := by
  unfold bt
  rw [Int32.toBitVec_shiftLeft]
  show (x.toBitVec <<< ((nI n &&& 31).toBitVec.smod 32).toNat).getLsbD i = _
  rw [s_l n hn, BitVec.getLsbD_shiftLeft]
  rcases Nat.lt_or_ge i n with h | h
  · simp [h, Nat.not_le.mpr h]
  · simp [hi, h, Nat.not_lt.mpr h]
theorem b_sshr (n : Nat) (hn : n < 32) (x : Int32) {i : Nat} (hi : i < 32) : bt (x >>> (nI n &&& 31)) i = if n + i < 32 then bt x (n + i) else bt x 31 := by
  unfold bt
  rw [Int32.toBitVec_shiftRight]
  show (x.toBitVec.sshiftRight ((nI n &&& 31).toBitVec.smod 32).toNat).getLsbD i = _
  rw [s_l n hn, BitVec.getLsbD_sshiftRight, BitVec.msb_eq_getLsbD_last]
  simp [hi]
theorem ts_nf {x : Bool} (h : ¬ x = false) : x = true := by cases x <;> first | rfl | exact absurd rfl h
theorem ts_nt {x : Bool} (h : ¬ x = true) : x = false := by cases x <;> first | rfl | exact absurd rfl h
theorem ts_bit {w : Int64} {s : UInt64} {j : Nat} (hj : j < 64) (hs : s.toNat = j) : ((w.toUInt64 >>> s).toInt64 &&& 1) = 0 ↔ w.toBitVec.getLsbD j = false := by
  have e : (w.toUInt64 >>> s).toInt64.toBitVec = w.toBitVec >>> j := by
    apply BitVec.eq_of_toNat_eq
    show (w.toUInt64 >>> s).toNat = _
    rw [UInt64.toNat_shiftRight, hs, Nat.mod_eq_of_lt hj, BitVec.toNat_ushiftRight]
    rfl
  rw [← Int64.toBitVec_inj, Int64.toBitVec_and, e]
  show w.toBitVec >>> j &&& 1#64 = 0#64 ↔ _
  constructor
  · intro h
    have t := congrArg (fun x => x.getLsbD 0) h
    simpa using t
  · intro h
    apply BitVec.eq_of_getLsbD_eq
    intro i hi
    cases i with
    | zero => simp [h]
    | succ i => simp
end
section
/-! bits, first index, heaps and follow -/
theorem gh_b1 : ∀ i, i < 32 → bt 1 i = decide (i = 0) := by decide +kernel
theorem gh_sh : ∀ s, s < 32 → ∀ i, i < 32 → bt ((1 : Int32) <<< (nI s &&& 31)) i = decide (i = s) := by decide +kernel
theorem gh_t0 {w : Int32} {s : Nat} (hs : s < 32) : ((w >>> (nI s &&& 31)) &&& 1) = 0 ↔ bt w s = false := by
  constructor
  · intro h
    have h2 := congrArg (fun z => bt z 0) h
    rw [b_and, b_sshr s hs w (by omega), b_0, gh_b1 0 (by omega), if_pos (by omega)] at h2
    simpa using h2
  · intro h
    apply b_ext
    intro i hi
    rw [b_and, b_0, gh_b1 i hi]
    by_cases z : i = 0
    · subst z
      rw [b_sshr s hs w (by omega), if_pos (by omega), Nat.add_zero, h]
      rfl
    · rw [decide_eq_false z, Bool.and_false]
theorem gh_t1 {w : Int32} {s : Nat} (hs : s < 32) : (¬ ((w >>> (nI s &&& 31)) &&& 1) = 0) ↔ bt w s = true := by
  rw [gh_t0 hs]
  cases bt w s <;> simp
theorem gh_set {w : Int32} {s i : Nat} (hs : s < 32) (hi : i < 32) : bt (w ||| ((1 : Int32) <<< (nI s &&& 31))) i = true ↔ (bt w i = true ∨ i = s) := by
  rw [b_or, gh_sh s hs i hi]
  simp
theorem gh_clr {w : Int32} {s i : Nat} (hs : s < 32) (hi : i < 32) : bt (w &&& (((1 : Int32) <<< (nI s &&& 31)) ^^^ (-1))) i = true ↔ (bt w i = true ∧ i ≠ s) := by
  rw [b_and, b_xor, gh_sh s hs i hi, b_m1 i hi]
  simp
theorem gh_orT {x y : Int32} {i : Nat} : bt (x ||| y) i = true ↔ (bt x i = true ∨ bt y i = true) := by rw [b_or]; simp
theorem gh_andT {x y : Int32} {i : Nat} : bt (x &&& y) i = true ↔ (bt x i = true ∧ bt y i = true) := by rw [b_and]; simp
theorem gh_0T {i : Nat} : ¬ bt 0 i = true := by rw [b_0]; simp
def gh_lb (w : Int64) (v : Nat) : Bool := w.toBitVec.getLsbD v
theorem gh_l1 : ∀ p, p < 64 → ((1 : Int64) <<< ((nI p).toInt64 &&& 63)).toBitVec = BitVec.twoPow 64 p := by decide +kernel
theorem gh_lset {w : Int64} {p v : Nat} (hp : p < 64) (hv : v < 64) : gh_lb (w ||| ((1 : Int64) <<< ((nI p).toInt64 &&& 63))) v = true ↔ (gh_lb w v = true ∨ v = p) := by
  unfold gh_lb
  rw [Int64.toBitVec_or, BitVec.getLsbD_or, gh_l1 p hp, BitVec.getLsbD_twoPow]
  simp only [Bool.or_eq_true, Bool.and_eq_true, decide_eq_true_eq]
  exact ⟨fun a => a.elim Or.inl (fun b => Or.inr b.2.symm), fun a => a.elim Or.inl (fun b => Or.inr ⟨hp, b.symm⟩)⟩
theorem gh_l0 {v : Nat} : ¬ gh_lb 0 v = true := by
  unfold gh_lb
  rw [show (0 : Int64).toBitVec = 0#64 from rfl, BitVec.getLsbD_zero]
  simp
theorem gh_lor {x y : Int64} {v : Nat} : gh_lb (x ||| y) v = true ↔ (gh_lb x v = true ∨ gh_lb y v = true) := by
  unfold gh_lb
  rw [Int64.toBitVec_or, BitVec.getLsbD_or]
  simp
theorem gh_lsh : ∀ j, j < 64 → ((nI j).toInt64.toUInt64 &&& Int64.toUInt64 63).toNat = j := by decide +kernel
theorem gh_lt0 {x : Int64} {j : Nat} (hj : j < 64) : (((x.toUInt64 >>> ((nI j).toInt64.toUInt64 &&& Int64.toUInt64 63)).toInt64) &&& 1) = 0 ↔ gh_lb x j = false := ts_bit hj (gh_lsh j hj)
/-! the first index of a property -/
noncomputable def gh_fi (P : Nat → Prop) : Nat → Option Nat
  | 0 => none
  | n + 1 => match gh_fi P n with
    | some x => some x
    | none => @ite _ (P n) (Classical.propDecidable _) (some n) none
theorem gh_fi_n {P : Nat → Prop} : ∀ n, (∀ y, y < n → ¬ P y) → gh_fi P n = none := by
  intro n
  induction n with
  | zero => intro _; rfl
  | succ n ih =>
    intro h
    simp only [gh_fi, ih (fun y hy => h y (by omega))]
    exact if_neg (h n (by omega))
theorem gh_fi_s {P : Nat → Prop} {x : Nat} (hx : P x) (hb : ∀ y, y < x → ¬ P y) : ∀ n, x < n → gh_fi P n = some x := by
  intro n
  induction n with
  | zero => intro h; exact absurd h (Nat.not_lt_zero _)
  | succ n ih =>
    intro h
    by_cases z : x < n
    · simp only [gh_fi, ih z]
    · obtain rfl : x = n := by omega
      simp only [gh_fi, gh_fi_n x hb]
      exact if_pos hx
theorem gh_fi_c (P : Nat → Prop) (n : Nat) : (gh_fi P n = none ∧ ∀ y, y < n → ¬ P y) ∨ ∃ x, x < n ∧ P x ∧ (∀ y, y < x → ¬ P y) ∧ gh_fi P n = some x := by
  by_cases h : ∃ x, x < n ∧ P x
  · obtain ⟨x, ⟨h1, h2⟩, h3⟩ := pk_least (fun x => x < n ∧ P x) h
    have h4 : ∀ y, y < x → ¬ P y := fun y hy hp => h3 y hy ⟨by omega, hp⟩
    exact Or.inr ⟨x, h1, h2, h4, gh_fi_s h2 h4 n h1⟩
  · have h4 : ∀ y, y < n → ¬ P y := fun y hy hp => h ⟨y, hy, hp⟩
    exact Or.inl ⟨gh_fi_n n h4, h4⟩
def gh_ot : Option Nat → Int32
  | none => -1
  | some p => nI p
theorem gh_ot_some {p : Nat} : gh_ot (some p) = nI p := rfl
theorem gh_ot_none : gh_ot none = -1 := rfl
theorem gh_m1neg : (-1 : Int32) < 0 := by decide
theorem gh_m1nle : ¬ (0 : Int32) ≤ -1 := by decide
/-! an injection of n numbers below m -/
theorem gh_pig : ∀ (m n : Nat) (f : Nat → Nat), (∀ i, i < n → f i < m) → (∀ i j, i < n → j < n → f i = f j → i = j) → n ≤ m := by
  intro m
  induction m with
  | zero =>
    intro n f h _
    rcases Nat.eq_zero_or_pos n with z | z
    · omega
    · exact absurd (h 0 z) (Nat.not_lt_zero _)
  | succ m ih =>
    intro n f h hi
    cases n with
    | zero => omega
    | succ n =>
      have key : n ≤ m := by
        by_cases hx : ∃ i, i < n ∧ f i = m
        · obtain ⟨i0, hi0, e0⟩ := hx
          have hn : f n ≠ m := fun e => by
            have := hi i0 n (by omega) (by omega) (by omega)
            omega
          have hn2 := h n (by omega)
          refine ih n (fun i => if f i = m then f n else f i) ?_ ?_
          · intro i hin
            show (if f i = m then f n else f i) < m
            by_cases z : f i = m
            · rw [if_pos z]; omega
            · rw [if_neg z]
              have := h i (by omega)
              omega
          · intro i j hin hjn
            show (if f i = m then f n else f i) = (if f j = m then f n else f j) → i = j
            by_cases z : f i = m
            · by_cases w : f j = m
              · intro _; exact hi i j (by omega) (by omega) (by omega)
              · rw [if_pos z, if_neg w]
                intro e
                have := hi n j (by omega) (by omega) e
                omega
            · by_cases w : f j = m
              · rw [if_neg z, if_pos w]
                intro e
                have := hi i n (by omega) (by omega) e
                omega
              · rw [if_neg z, if_neg w]
                exact hi i j (by omega) (by omega)
        · refine ih n f ?_ (fun i j a b => hi i j (by omega) (by omega))
          intro i hin
          have h1 := h i (by omega)
          have h2 : f i ≠ m := fun e => hx ⟨i, hin, e⟩
          omega
      omega
/-! heaps: E i is the end of cell i -/
def gh_Ht (nC : Nat) (kd rf : Nat → Int32) (E : Nat → Nat) : Prop :=
  nC ≤ 64 ∧ ∀ i, i < nC → (kd i = 0 ∨ kd i = 1 ∨ kd i = 2) ∧ E i < nC ∧ rf (E i) < 0 ∧
    ((rf i < 0 ∧ E i = i) ∨ (kd i = 0 ∧ ∃ j, j < nC ∧ rf i = nI j ∧ E i = E j ∧ (kd j = 0 → j < i)))
section
variable {nC : Nat} {kd rf : Nat → Int32} {E : Nat → Nat}
theorem gh_Ht_e (H : gh_Ht nC kd rf E) {i : Nat} (hi : i < nC) : E i < nC := (H.2 i hi).2.1
theorem gh_Ht_r (H : gh_Ht nC kd rf E) {i : Nat} (hi : i < nC) : rf (E i) < 0 := (H.2 i hi).2.2.1
theorem gh_Ht_f (H : gh_Ht nC kd rf E) {i : Nat} (hi : i < nC) (h : rf i < 0) : E i = i := by
  rcases (H.2 i hi).2.2.2 with ⟨_, e⟩ | ⟨_, j, hj, ej, _, _⟩
  · exact e
  · rw [ej] at h
    have h64 := H.1
    exact absurd h (nI_pos (by omega))
theorem gh_Ht_ee (H : gh_Ht nC kd rf E) {i : Nat} (hi : i < nC) : E (E i) = E i := gh_Ht_f H (gh_Ht_e H hi) (gh_Ht_r H hi)
theorem gh_Ht_k (H : gh_Ht nC kd rf E) {i : Nat} (hi : i < nC) (h : kd i ≠ 0) : E i = i := by
  rcases (H.2 i hi).2.2.2 with ⟨_, e⟩ | ⟨z, _⟩
  · exact e
  · exact absurd z h
theorem gh_Ht_3 (H : gh_Ht nC kd rf E) {i : Nat} (hi : i < nC) : kd i = 0 ∨ kd i = 1 ∨ kd i = 2 := (H.2 i hi).1
end
section
variable {f_cells f_goals f_usedSlots f_woken f_clauses f_writing f_openPairs : Int32} {f_blockedOn : Int64} {f_commits f_lastClause f_broken f_cellLimit f_goalLimit f_clauseLimit : Int32} {a_kind a_first a_second a_ref a_hooks a_order a_goalPred a_goalArg a_goalState a_clausePred a_itemCount a_makeCount a_spawnCount a_itemOp a_itemA a_itemB a_itemC a_names : Nat → Int32} {b_seenX b_seenY : Int32} {b_num b_value b_left b_right b_rec b_code : Nat → Int32}
variable {nC : Nat} {E : Nat → Nat}
theorem gh_fx (H : gh_Ht nC a_kind a_ref E) {post : Int32 → Prop} : ∀ n m i q, m < n → i < nC → (a_kind i = 0 → i < m) → q + m ≤ 64 → post (nI (E i)) → wX_follow_4 post f_cells f_goals f_usedSlots f_woken f_clauses f_writing f_openPairs f_blockedOn f_commits f_lastClause f_broken f_cellLimit f_goalLimit f_clauseLimit a_kind a_first a_second a_ref a_hooks a_order a_goalPred a_goalArg a_goalState a_clausePred a_itemCount a_makeCount a_spawnCount a_itemOp a_itemA a_itemB a_itemC a_names n (nI i) (nI q) := by
  intro n
  induction n with
  | zero => intro m i q h; exact absurd h (Nat.not_lt_zero _)
  | succ n ih =>
    intro m i q hn hi hm hq hp
    have h64 := H.1
    have ec : (nI i).toNatClampNeg = i := nI_clamp (by omega)
    have hv : vp_in (nI i) 64 := vp_in_nI (by omega) (by omega)
    rcases (H.2 i hi).2.2.2 with ⟨h, e⟩ | ⟨h, j, hj, ej, eE, hk⟩
    · rw [e] at hp
      refine br_c (fun _ => hp) (fun _ => And.intro hv ?_)
      rw [ec]
      exact br_t h hp
    · have h0 := hm h
      refine br_f (nI_ge (b := 64) (by omega) (by decide)) (And.intro hv ?_)
      rw [ec, ej]
      refine br_f (nI_pos (by omega)) (And.intro hv (nm_e (nm_r (nI_1 q) ?_)))
      rw [eE] at hp
      exact ih (m - 1) j (q + 1) (by omega) hj (fun z => by have := hk z; omega) (by omega) hp
theorem gh_fX (H : gh_Ht nC a_kind a_ref E) {post : Int32 → Prop} {x : Int32} (hx : vp_in x nC) (hp : post (nI (E x.toNatClampNeg))) : wpX_follow post (f_cells, f_goals, f_usedSlots, f_woken, f_clauses, f_writing, f_openPairs, f_blockedOn, f_commits, f_lastClause, f_broken, f_cellLimit, f_goalLimit, f_clauseLimit, a_kind, a_first, a_second, a_ref, a_hooks, a_order, a_goalPred, a_goalArg, a_goalState, a_clausePred, a_itemCount, a_makeCount, a_spawnCount, a_itemOp, a_itemA, a_itemB, a_itemC, a_names) x := by
  have h64 := H.1
  obtain ⟨i, hi, rfl⟩ := vp_in_of hx (by omega)
  rw [nI_clamp (by omega)] at hp
  exact Exists.intro 66 (gh_fx H 66 (i + 1) i 0 (by omega) hi (fun _ => by omega) (by omega) hp)
theorem gh_fy (H : gh_Ht nC a_kind a_ref E) {post : Int32 → Prop} : ∀ n m i q, m < n → i < nC → (a_kind i = 0 → i < m) → q + m ≤ 64 → post (nI (E i)) → wY_follow_4 post b_seenX b_seenY b_num a_kind a_ref b_value b_left b_right b_rec b_code a_clausePred a_itemCount n (nI i) (nI q) := by
  intro n
  induction n with
  | zero => intro m i q h; exact absurd h (Nat.not_lt_zero _)
  | succ n ih =>
    intro m i q hn hi hm hq hp
    have h64 := H.1
    have ec : (nI i).toNatClampNeg = i := nI_clamp (by omega)
    have hv : vp_in (nI i) 64 := vp_in_nI (by omega) (by omega)
    rcases (H.2 i hi).2.2.2 with ⟨h, e⟩ | ⟨h, j, hj, ej, eE, hk⟩
    · rw [e] at hp
      refine br_c (fun _ => hp) (fun _ => And.intro hv ?_)
      rw [ec]
      exact br_c (fun _ => And.intro hv (br_t h hp)) (fun _ => hp)
    · have h0 := hm h
      refine br_f (nI_ge (b := 64) (by omega) (by decide)) (And.intro hv ?_)
      rw [ec, ej]
      refine br_t h (And.intro hv (br_f (nI_pos (by omega)) (And.intro hv (nm_e (nm_r (nI_1 q) ?_)))))
      rw [eE] at hp
      exact ih (m - 1) j (q + 1) (by omega) hj (fun z => by have := hk z; omega) (by omega) hp
theorem gh_fY (H : gh_Ht nC a_kind a_ref E) {post : Int32 → Prop} {x : Int32} (hx : vp_in x nC) (hp : post (nI (E x.toNatClampNeg))) : wpY_follow post (b_seenX, b_seenY, b_num, a_kind, a_ref, b_value, b_left, b_right, b_rec, b_code, a_clausePred, a_itemCount) x := by
  have h64 := H.1
  obtain ⟨i, hi, rfl⟩ := vp_in_of hx (by omega)
  rw [nI_clamp (by omega)] at hp
  exact Exists.intro 66 (gh_fy H 66 (i + 1) i 0 (by omega) hi (fun _ => by omega) (by omega) hp)
end
end
section
/-! tests, clauses and goals: pure functions -/
def gh_kt (kd : Nat → Int32) (w : Int32) : Option Nat → Nat
  | none => 1
  | some p => if kd p = 0 then 1 else if kd p = w then 0 else 2
def gh_it (kd fs : Nat → Int32) (w : Int32) : Option Nat → Nat
  | none => 1
  | some p => if kd p = 0 then 1 else if kd p = 1 then (if fs p = w then 0 else 2) else 2
def gh_lt2 (kd fs : Nat → Int32) (p q : Nat) : Nat :=
  if kd p = 2 then 2 else if kd q = 2 then 2 else if kd p = 0 then 1 else if kd q = 0 then 1 else if fs q ≤ fs p then 2 else 0
def gh_st2 (kd fs : Nat → Int32) (p q : Nat) : Nat :=
  if p = q then 0 else if kd p = 0 then 1 else if kd q = 0 then 1 else if kd p = 1 then (if kd q = 1 then (if fs p = fs q then 0 else 2) else 2) else 2
def gh_two (f : Nat → Nat → Nat) : Option Nat → Option Nat → Nat
  | none, _ => 1
  | some _, none => 1
  | some p, some q => f p q
def gh_tv (kd fs : Nat → Int32) (h : Nat → Option Nat) (op a b : Int32) : Nat :=
  if op = 0 then gh_kt kd 2 (h a.toNatClampNeg)
  else if op = 1 then gh_it kd fs b (h a.toNatClampNeg)
  else if op = 2 then gh_kt kd 1 (h a.toNatClampNeg)
  else if op = 9 then gh_kt kd 1 (h a.toNatClampNeg)
  else if op = 10 then max (gh_kt kd 1 (h a.toNatClampNeg)) (gh_kt kd 1 (h b.toNatClampNeg))
  else if op = 3 then gh_two (gh_lt2 kd fs) (h a.toNatClampNeg) (h b.toNatClampNeg)
  else if op = 4 then gh_two (gh_st2 kd fs) (h a.toNatClampNeg) (h b.toNatClampNeg)
  else if op = 5 then 2 - gh_two (gh_st2 kd fs) (h a.toNatClampNeg) (h b.toNatClampNeg)
  else 0
def gh_k1 (kd : Nat → Int32) (x : Option Nat) (z : Nat) : Prop := kd z = 0 ∧ x = some z
def gh_b2 (kd : Nat → Int32) (x y : Option Nat) (z : Nat) : Prop := kd z = 0 ∧ ∃ p q, x = some p ∧ y = some q ∧ (z = p ∨ z = q)
def gh_bl (kd fs : Nat → Int32) (h : Nat → Option Nat) (op a b : Int32) (z : Nat) : Prop :=
  ((op = 0 ∨ op = 1 ∨ op = 2 ∨ op = 9) ∧ gh_k1 kd (h a.toNatClampNeg) z) ∨
  (op = 10 ∧ (gh_k1 kd (h a.toNatClampNeg) z ∨ gh_k1 kd (h b.toNatClampNeg) z)) ∨
  ((op = 3 ∨ op = 4 ∨ op = 5) ∧ gh_tv kd fs h op a b = 1 ∧ gh_b2 kd (h a.toNatClampNeg) (h b.toNatClampNeg) z)
section
variable {kd fs : Nat → Int32} {h : Nat → Option Nat} {a b : Int32}
theorem gh_tv_0 : gh_tv kd fs h 0 a b = gh_kt kd 2 (h a.toNatClampNeg) := rfl
theorem gh_tv_1 : gh_tv kd fs h 1 a b = gh_it kd fs b (h a.toNatClampNeg) := rfl
theorem gh_tv_2 : gh_tv kd fs h 2 a b = gh_kt kd 1 (h a.toNatClampNeg) := rfl
theorem gh_tv_9 : gh_tv kd fs h 9 a b = gh_kt kd 1 (h a.toNatClampNeg) := rfl
theorem gh_tv_10 : gh_tv kd fs h 10 a b = max (gh_kt kd 1 (h a.toNatClampNeg)) (gh_kt kd 1 (h b.toNatClampNeg)) := rfl
theorem gh_tv_3 : gh_tv kd fs h 3 a b = gh_two (gh_lt2 kd fs) (h a.toNatClampNeg) (h b.toNatClampNeg) := rfl
theorem gh_tv_4 : gh_tv kd fs h 4 a b = gh_two (gh_st2 kd fs) (h a.toNatClampNeg) (h b.toNatClampNeg) := rfl
theorem gh_tv_5 : gh_tv kd fs h 5 a b = 2 - gh_two (gh_st2 kd fs) (h a.toNatClampNeg) (h b.toNatClampNeg) := rfl
theorem gh_op {o k : Nat} (ho : o ≤ 19) (hk : k ≤ 19) (h : o ≠ k) : ¬ nI o = nI k := by
  rw [nI_eq (by omega) (by omega)]
  exact h
theorem gh_tv_n {o : Nat} (ho : o ≤ 19) (h5 : 5 < o) (h9 : o ≠ 9) (h10 : o ≠ 10) : gh_tv kd fs h (nI o) a b = 0 := by
  exact (if_neg (gh_op (k := 0) ho (by omega) (by omega))).trans ((if_neg (gh_op (k := 1) ho (by omega) (by omega))).trans ((if_neg (gh_op (k := 2) ho (by omega) (by omega))).trans ((if_neg (gh_op (k := 9) ho (by omega) (by omega))).trans ((if_neg (gh_op (k := 10) ho (by omega) (by omega))).trans ((if_neg (gh_op (k := 3) ho (by omega) (by omega))).trans ((if_neg (gh_op (k := 4) ho (by omega) (by omega))).trans (if_neg (gh_op (k := 5) ho (by omega) (by omega)))))))))
theorem gh_bl_1 {op : Int32} (ho : op = 0 ∨ op = 1 ∨ op = 2 ∨ op = 9) {z : Nat} : gh_bl kd fs h op a b z ↔ gh_k1 kd (h a.toNatClampNeg) z := by
  constructor
  · rintro (⟨_, k⟩ | ⟨e, _⟩ | ⟨e, _⟩)
    · exact k
    · rcases ho with rfl | rfl | rfl | rfl <;> exact absurd e (by decide)
    · rcases ho with rfl | rfl | rfl | rfl <;> exact absurd e (by decide)
  · intro k
    exact Or.inl ⟨ho, k⟩
theorem gh_bl_10 {z : Nat} : gh_bl kd fs h 10 a b z ↔ (gh_k1 kd (h a.toNatClampNeg) z ∨ gh_k1 kd (h b.toNatClampNeg) z) := by
  constructor
  · rintro (⟨e, _⟩ | ⟨_, k⟩ | ⟨e, _⟩)
    · exact absurd e (by decide)
    · exact k
    · exact absurd e (by decide)
  · intro k
    exact Or.inr (Or.inl ⟨rfl, k⟩)
theorem gh_bl_2 {op : Int32} (ho : op = 3 ∨ op = 4 ∨ op = 5) {z : Nat} : gh_bl kd fs h op a b z ↔ (gh_tv kd fs h op a b = 1 ∧ gh_b2 kd (h a.toNatClampNeg) (h b.toNatClampNeg) z) := by
  constructor
  · rintro (⟨e, _⟩ | ⟨e, _⟩ | ⟨_, k⟩)
    · rcases ho with rfl | rfl | rfl <;> exact absurd e (by decide)
    · rcases ho with rfl | rfl | rfl <;> exact absurd e (by decide)
    · exact k
  · intro k
    exact Or.inr (Or.inr ⟨ho, k⟩)
theorem gh_bl_n {o : Nat} (ho : o ≤ 19) (h5 : 5 < o) (h9 : o ≠ 9) (h10 : o ≠ 10) {z : Nat} : ¬ gh_bl kd fs h (nI o) a b z := by
  rintro (⟨e, _⟩ | ⟨e, _⟩ | ⟨e, _⟩)
  · rcases e with e | e | e | e
    · exact gh_op (k := 0) ho (by omega) (by omega) e
    · exact gh_op (k := 1) ho (by omega) (by omega) e
    · exact gh_op (k := 2) ho (by omega) (by omega) e
    · exact gh_op (k := 9) ho (by omega) (by omega) e
  · exact gh_op (k := 10) ho (by omega) (by omega) e
  · rcases e with e | e | e
    · exact gh_op (k := 3) ho (by omega) (by omega) e
    · exact gh_op (k := 4) ho (by omega) (by omega) e
    · exact gh_op (k := 5) ho (by omega) (by omega) e
theorem gh_kt_le {w : Int32} {x : Option Nat} : gh_kt kd w x ≤ 2 := by
  cases x with
  | none => exact (by decide : (1 : Nat) ≤ 2)
  | some p =>
    show (if kd p = 0 then 1 else if kd p = w then 0 else 2) ≤ 2
    repeat' split
    all_goals omega
theorem gh_it_le {w : Int32} {x : Option Nat} : gh_it kd fs w x ≤ 2 := by
  cases x with
  | none => exact (by decide : (1 : Nat) ≤ 2)
  | some p =>
    show (if kd p = 0 then 1 else if kd p = 1 then (if fs p = w then 0 else 2) else 2) ≤ 2
    repeat' split
    all_goals omega
theorem gh_lt2_le {p q : Nat} : gh_lt2 kd fs p q ≤ 2 := by
  unfold gh_lt2
  repeat' split
  all_goals omega
theorem gh_st2_le {p q : Nat} : gh_st2 kd fs p q ≤ 2 := by
  unfold gh_st2
  repeat' split
  all_goals omega
theorem gh_two_le {f : Nat → Nat → Nat} (hf : ∀ p q, f p q ≤ 2) {x y : Option Nat} : gh_two f x y ≤ 2 := by
  cases x with
  | none => exact (by decide : (1 : Nat) ≤ 2)
  | some p =>
    cases y with
    | none => exact (by decide : (1 : Nat) ≤ 2)
    | some q => exact hf p q
theorem gh_tv_le {op : Int32} : gh_tv kd fs h op a b ≤ 2 := by
  have h1 := gh_kt_le (kd := kd) (w := 1) (x := h a.toNatClampNeg)
  have h2 := gh_kt_le (kd := kd) (w := 1) (x := h b.toNatClampNeg)
  have h3 := gh_kt_le (kd := kd) (w := 2) (x := h a.toNatClampNeg)
  have h4 := gh_it_le (kd := kd) (fs := fs) (w := b) (x := h a.toNatClampNeg)
  have h5 := gh_two_le (f := gh_lt2 kd fs) (fun p q => gh_lt2_le) (x := h a.toNatClampNeg) (y := h b.toNatClampNeg)
  have h6 := gh_two_le (f := gh_st2 kd fs) (fun p q => gh_st2_le) (x := h a.toNatClampNeg) (y := h b.toNatClampNeg)
  unfold gh_tv
  repeat' split
  all_goals omega
end
/-! names of a head -/
def gh_hd (kd fs sc : Nat → Int32) (E G : Nat → Nat) (n : Nat) : Option Nat :=
  if n < 3 then some (G n)
  else if n < 9 ∧ kd (G ((n - 3) / 2)) = 2 then some (if n % 2 = 0 then E (sc (G ((n - 3) / 2))).toNatClampNeg else E (fs (G ((n - 3) / 2))).toNatClampNeg)
  else none
def gh_G (E : Nat → Nat) (ga : Nat → Int32) (s : Nat) : Nat → Nat := fun j => E (ga (s * 3 + j)).toNatClampNeg
def gh_H (kd fs sc : Nat → Int32) (E : Nat → Nat) (ga : Nat → Int32) (s : Nat) : Nat → Option Nat := gh_hd kd fs sc E (gh_G E ga s)
/-! clauses -/
def gh_jv (kd fs : Nat → Int32) (h : Nat → Option Nat) (io ia ib : Nat → Int32) (c : Nat) : Nat → Nat
  | 0 => 0
  | i + 1 => max (gh_jv kd fs h io ia ib c i) (gh_tv kd fs h (io (c * 8 + i)) (ia (c * 8 + i)) (ib (c * 8 + i)))
def gh_cv (kd fs : Nat → Int32) (h : Nat → Option Nat) (io ia ib ic : Nat → Int32) (c : Nat) : Nat := gh_jv kd fs h io ia ib c (ic c).toNatClampNeg
def gh_cb (kd fs : Nat → Int32) (h : Nat → Option Nat) (io ia ib : Nat → Int32) (c m z : Nat) : Prop :=
  ∃ i, i < m ∧ gh_bl kd fs h (io (c * 8 + i)) (ia (c * 8 + i)) (ib (c * 8 + i)) z
def gh_gs (kd fs : Nat → Int32) (h : Nat → Option Nat) (io ia ib ic cp : Nat → Int32) (gp : Int32) : Nat → Nat
  | 0 => 2
  | c + 1 => if cp c = gp then min (gh_gs kd fs h io ia ib ic cp gp c) (gh_cv kd fs h io ia ib ic c) else gh_gs kd fs h io ia ib ic cp gp c
def gh_wt (kd fs : Nat → Int32) (h : Nat → Option Nat) (io ia ib ic cp : Nat → Int32) (gp : Int32) (nK z : Nat) : Prop :=
  ∃ c, c < nK ∧ cp c = gp ∧ gh_cv kd fs h io ia ib ic c = 1 ∧ gh_cb kd fs h io ia ib c (ic c).toNatClampNeg z
section
variable {kd fs : Nat → Int32} {h : Nat → Option Nat} {io ia ib ic cp : Nat → Int32} {gp : Int32} {c : Nat}
theorem gh_jv_le : ∀ {n : Nat}, gh_jv kd fs h io ia ib c n ≤ 2 := by
  intro n
  induction n with
  | zero => exact Nat.zero_le _
  | succ n ih =>
    have := gh_tv_le (kd := kd) (fs := fs) (h := h) (op := io (c * 8 + n)) (a := ia (c * 8 + n)) (b := ib (c * 8 + n))
    show max _ _ ≤ 2
    omega
theorem gh_jv_mono {i : Nat} : ∀ {n : Nat}, i ≤ n → gh_jv kd fs h io ia ib c i ≤ gh_jv kd fs h io ia ib c n := by
  intro n
  induction n with
  | zero => intro z; obtain rfl : i = 0 := by omega
            exact Nat.le_refl _
  | succ n ih =>
    intro z
    by_cases e : i = n + 1
    · rw [e]; exact Nat.le_refl _
    · exact Nat.le_trans (ih (by omega)) (Nat.le_max_left _ _)
theorem gh_jv_i {i n : Nat} (hi : i < n) : gh_tv kd fs h (io (c * 8 + i)) (ia (c * 8 + i)) (ib (c * 8 + i)) ≤ gh_jv kd fs h io ia ib c n :=
  Nat.le_trans (Nat.le_max_right (gh_jv kd fs h io ia ib c i) _) (gh_jv_mono (i := i + 1) hi)
theorem gh_jv_2 {n : Nat} : gh_jv kd fs h io ia ib c n = 2 → ∃ i, i < n ∧ gh_tv kd fs h (io (c * 8 + i)) (ia (c * 8 + i)) (ib (c * 8 + i)) = 2 := by
  induction n with
  | zero => intro e; exact absurd e (by show ¬ (0 : Nat) = 2; decide)
  | succ n ih =>
    intro e
    by_cases z : gh_jv kd fs h io ia ib c n = 2
    · obtain ⟨i, hi, e2⟩ := ih z
      exact ⟨i, by omega, e2⟩
    · have e3 : max (gh_jv kd fs h io ia ib c n) (gh_tv kd fs h (io (c * 8 + n)) (ia (c * 8 + n)) (ib (c * 8 + n))) = 2 := e
      exact ⟨n, by omega, by omega⟩
theorem gh_jv_le1 {n : Nat} (k : ∀ i, i < n → gh_tv kd fs h (io (c * 8 + i)) (ia (c * 8 + i)) (ib (c * 8 + i)) ≤ 1) : gh_jv kd fs h io ia ib c n ≤ 1 := by
  have := gh_jv_le (kd := kd) (fs := fs) (h := h) (io := io) (ia := ia) (ib := ib) (c := c) (n := n)
  by_cases z : gh_jv kd fs h io ia ib c n = 2
  · obtain ⟨i, hi, e⟩ := gh_jv_2 z
    have := k i hi
    omega
  · omega
theorem gh_jv_0 {n : Nat} (k : ∀ i, i < n → gh_tv kd fs h (io (c * 8 + i)) (ia (c * 8 + i)) (ib (c * 8 + i)) = 0) : gh_jv kd fs h io ia ib c n = 0 := by
  induction n with
  | zero => rfl
  | succ n ih =>
    have e1 := ih (fun i hi => k i (by omega))
    have e2 := k n (by omega)
    show max _ _ = 0
    omega
theorem gh_jv_1 {n : Nat} : gh_jv kd fs h io ia ib c n = 1 → ∃ i, i < n ∧ gh_tv kd fs h (io (c * 8 + i)) (ia (c * 8 + i)) (ib (c * 8 + i)) = 1 := by
  induction n with
  | zero => intro e; exact absurd e (by show ¬ (0 : Nat) = 1; decide)
  | succ n ih =>
    intro e
    have e3 : max (gh_jv kd fs h io ia ib c n) (gh_tv kd fs h (io (c * 8 + n)) (ia (c * 8 + n)) (ib (c * 8 + n))) = 1 := e
    by_cases z : gh_jv kd fs h io ia ib c n = 1
    · obtain ⟨i, hi, e2⟩ := ih z
      exact ⟨i, by omega, e2⟩
    · exact ⟨n, by omega, by omega⟩
theorem gh_gs_le : ∀ {n : Nat}, gh_gs kd fs h io ia ib ic cp gp n ≤ 2 := by
  intro n
  induction n with
  | zero => exact Nat.le_refl _
  | succ n ih =>
    show (if cp n = gp then min _ _ else _) ≤ 2
    split
    · omega
    · exact ih
theorem gh_gs_i {c n : Nat} (hc : c < n) (e : cp c = gp) : gh_gs kd fs h io ia ib ic cp gp n ≤ gh_cv kd fs h io ia ib ic c := by
  induction n with
  | zero => exact absurd hc (Nat.not_lt_zero _)
  | succ n ih =>
    show (if cp n = gp then min _ _ else _) ≤ _
    by_cases z : c = n
    · subst z
      rw [if_pos e]
      omega
    · have := ih (by omega)
      split
      · omega
      · exact this
theorem gh_gs_ge {n k : Nat} (hk : k ≤ 2) (a : ∀ c, c < n → cp c = gp → k ≤ gh_cv kd fs h io ia ib ic c) : k ≤ gh_gs kd fs h io ia ib ic cp gp n := by
  induction n with
  | zero => exact hk
  | succ n ih =>
    have h1 := ih (fun c hc => a c (by omega))
    show _ ≤ (if cp n = gp then min _ _ else _)
    split
    · next z =>
      have := a n (by omega) z
      omega
    · exact h1
theorem gh_gs_x {n k : Nat} (hk : k < 2) (e : gh_gs kd fs h io ia ib ic cp gp n ≤ k) : ∃ c, c < n ∧ cp c = gp ∧ gh_cv kd fs h io ia ib ic c ≤ k := by
  by_cases z : ∃ c, c < n ∧ cp c = gp ∧ gh_cv kd fs h io ia ib ic c ≤ k
  · exact z
  · have := gh_gs_ge (kd := kd) (fs := fs) (h := h) (io := io) (ia := ia) (ib := ib) (ic := ic) (cp := cp) (gp := gp) (n := n) (k := k + 1) (by omega) (fun c hc e2 => by
      by_cases w : gh_cv kd fs h io ia ib ic c ≤ k
      · exact absurd ⟨c, hc, e2, w⟩ z
      · omega)
    omega
theorem gh_cv_le : gh_cv kd fs h io ia ib ic c ≤ 2 := gh_jv_le
end
/-! congruences -/
section
variable {kd fs kd' fs' : Nat → Int32} {h h' : Nat → Option Nat} {io ia ib ic cp io' ia' ib' ic' cp' : Nat → Int32} {gp : Int32}
theorem gh_kt_cg {w : Int32} {x : Option Nat} (k : ∀ p, x = some p → kd' p = kd p) : gh_kt kd' w x = gh_kt kd w x := by
  cases x with
  | none => rfl
  | some p => show (if kd' p = 0 then 1 else if kd' p = w then 0 else 2) = (if kd p = 0 then 1 else if kd p = w then 0 else 2); rw [k p rfl]
theorem gh_it_cg {w : Int32} {x : Option Nat} (k : ∀ p, x = some p → kd' p = kd p ∧ fs' p = fs p) : gh_it kd' fs' w x = gh_it kd fs w x := by
  cases x with
  | none => rfl
  | some p =>
    show (if kd' p = 0 then 1 else if kd' p = 1 then (if fs' p = w then 0 else 2) else 2) = (if kd p = 0 then 1 else if kd p = 1 then (if fs p = w then 0 else 2) else 2)
    rw [(k p rfl).1, (k p rfl).2]
theorem gh_two_cg {f f' : Nat → Nat → Nat} {x y : Option Nat} (k : ∀ p q, x = some p → y = some q → f' p q = f p q) : gh_two f' x y = gh_two f x y := by
  cases x with
  | none => rfl
  | some p =>
    cases y with
    | none => rfl
    | some q => exact k p q rfl rfl
theorem gh_tv_cg (k : ∀ n p, h n = some p → kd' p = kd p ∧ fs' p = fs p) (op a b : Int32) : gh_tv kd' fs' h op a b = gh_tv kd fs h op a b := by
  have e1 : ∀ w n, gh_kt kd' w (h n) = gh_kt kd w (h n) := fun w n => gh_kt_cg (fun p e => (k n p e).1)
  have e2 : ∀ w n, gh_it kd' fs' w (h n) = gh_it kd fs w (h n) := fun w n => gh_it_cg (fun p e => k n p e)
  have e3 : ∀ n m, gh_two (gh_lt2 kd' fs') (h n) (h m) = gh_two (gh_lt2 kd fs) (h n) (h m) := fun n m => gh_two_cg (fun p q ep eq => by
    unfold gh_lt2
    rw [(k n p ep).1, (k n p ep).2, (k m q eq).1, (k m q eq).2])
  have e4 : ∀ n m, gh_two (gh_st2 kd' fs') (h n) (h m) = gh_two (gh_st2 kd fs) (h n) (h m) := fun n m => gh_two_cg (fun p q ep eq => by
    unfold gh_st2
    rw [(k n p ep).1, (k n p ep).2, (k m q eq).1, (k m q eq).2])
  unfold gh_tv
  rw [e1, e1, e1, e2, e3, e4]
theorem gh_k1_cg {x : Option Nat} (k : ∀ p, x = some p → kd' p = kd p) {z : Nat} : gh_k1 kd' x z ↔ gh_k1 kd x z := by
  constructor
  · rintro ⟨a, b⟩; exact ⟨by rw [← k z b]; exact a, b⟩
  · rintro ⟨a, b⟩; exact ⟨by rw [k z b]; exact a, b⟩
theorem gh_b2_cg {x y : Option Nat} (k : ∀ p, x = some p ∨ y = some p → kd' p = kd p) {z : Nat} : gh_b2 kd' x y z ↔ gh_b2 kd x y z := by
  constructor
  · rintro ⟨a, p, q, ep, eq, e⟩
    refine ⟨?_, p, q, ep, eq, e⟩
    rcases e with rfl | rfl
    · rw [← k z (Or.inl ep)]; exact a
    · rw [← k z (Or.inr eq)]; exact a
  · rintro ⟨a, p, q, ep, eq, e⟩
    refine ⟨?_, p, q, ep, eq, e⟩
    rcases e with rfl | rfl
    · rw [k z (Or.inl ep)]; exact a
    · rw [k z (Or.inr eq)]; exact a
theorem gh_bl_cg (k : ∀ n p, h n = some p → kd' p = kd p ∧ fs' p = fs p) (op a b : Int32) {z : Nat} : gh_bl kd' fs' h op a b z ↔ gh_bl kd fs h op a b z := by
  have e1 : ∀ n, gh_k1 kd' (h n) z ↔ gh_k1 kd (h n) z := fun n => gh_k1_cg (fun p e => (k n p e).1)
  have e2 : ∀ n m, gh_b2 kd' (h n) (h m) z ↔ gh_b2 kd (h n) (h m) z := fun n m => gh_b2_cg (fun p e => e.elim (fun e => (k n p e).1) (fun e => (k m p e).1))
  unfold gh_bl
  rw [e1, e1, e2, gh_tv_cg k]
theorem gh_jv_cg {c : Nat} {n : Nat} (k : ∀ i, i < n → gh_tv kd' fs' h' (io' (c * 8 + i)) (ia' (c * 8 + i)) (ib' (c * 8 + i)) = gh_tv kd fs h (io (c * 8 + i)) (ia (c * 8 + i)) (ib (c * 8 + i))) : gh_jv kd' fs' h' io' ia' ib' c n = gh_jv kd fs h io ia ib c n := by
  induction n with
  | zero => rfl
  | succ n ih =>
    show max _ _ = max _ _
    rw [ih (fun i hi => k i (by omega)), k n (by omega)]
theorem gh_gs_cg {n : Nat} (k : ∀ c, c < n → cp' c = cp c ∧ (cp c = gp → gh_cv kd' fs' h' io' ia' ib' ic' c = gh_cv kd fs h io ia ib ic c)) : gh_gs kd' fs' h' io' ia' ib' ic' cp' gp n = gh_gs kd fs h io ia ib ic cp gp n := by
  induction n with
  | zero => rfl
  | succ n ih =>
    show (if cp' n = gp then min _ _ else _) = (if cp n = gp then min _ _ else _)
    rw [ih (fun c hc => k c (by omega)), (k n (by omega)).1]
    by_cases z : cp n = gp
    · rw [if_pos z, if_pos z, (k n (by omega)).2 z]
    · rw [if_neg z, if_neg z]
theorem gh_hd_cg {kd' fs sc fs' sc' : Nat → Int32} {E E' G G' : Nat → Nat} (kG : ∀ j, j < 3 → G' j = G j) (k : ∀ j, j < 3 → kd' (G j) = kd (G j)) (kp : ∀ j, j < 3 → kd (G j) = 2 → E' (sc' (G j)).toNatClampNeg = E (sc (G j)).toNatClampNeg ∧ E' (fs' (G j)).toNatClampNeg = E (fs (G j)).toNatClampNeg) : gh_hd kd' fs' sc' E' G' = gh_hd kd fs sc E G := by
  funext n
  unfold gh_hd
  by_cases z : n < 3
  · rw [if_pos z, if_pos z, kG n z]
  · rw [if_neg z, if_neg z]
    by_cases w : n < 9
    · have hj : (n - 3) / 2 < 3 := by omega
      rw [kG _ hj, k _ hj]
      by_cases y : kd (G ((n - 3) / 2)) = 2
      · have hw : n < 9 ∧ kd (G ((n - 3) / 2)) = 2 := ⟨w, y⟩
        rw [if_pos hw, if_pos hw, (kp _ hj y).1, (kp _ hj y).2]
      · rw [if_neg (fun e => y e.2), if_neg (fun e => y e.2)]
    · rw [if_neg (fun e => w e.1), if_neg (fun e => w e.1)]
end
end
section
/-! what a binding of the variable v to t does to tests, clauses and goals -/
def gh_sg (v t : Nat) (x : Nat) : Nat := if x = v then t else x
theorem gh_sg_v {v t : Nat} : gh_sg v t v = t := if_pos rfl
theorem gh_sg_n {v t x : Nat} (h : x ≠ v) : gh_sg v t x = x := if_neg h
/-! well formed clauses -/
def gh_HN (io ia : Nat → Int32) (c i : Nat) (x : Int32) : Prop :=
  ∃ n, n ≤ 8 ∧ x = nI n ∧ (n < 3 ∨ ∃ i', i' < i ∧ io (c * 8 + i') = 0 ∧ ia (c * 8 + i') = nI ((n - 3) / 2))
def gh_cnt (io : Nat → Int32) (lo hi : Int32) (c : Nat) : Nat → Nat
  | 0 => 0
  | i + 1 => gh_cnt io lo hi c i + (if io (c * 8 + i) < lo then 0 else if hi < io (c * 8 + i) then 0 else 1)
def gh_BN (io ia : Nat → Int32) (c i : Nat) (x : Int32) : Prop := gh_HN io ia c i x ∨ ∃ q, q < gh_cnt io 6 10 c i ∧ x = nI (9 + q)
def gh_Fit (P Q : Int32 → Prop) (o : Nat) (a b c : Int32) : Prop :=
  (o = 0 ∧ ∃ j, j < 3 ∧ a = nI j) ∨ ((o = 1 ∨ o = 2 ∨ o = 9) ∧ P a) ∨ ((o = 3 ∨ o = 4 ∨ o = 5 ∨ o = 10) ∧ P a ∧ P b) ∨ (o = 6 ∨ o = 7) ∨ ((o = 8 ∨ o = 11) ∧ Q a ∧ Q b) ∨ (12 ≤ o ∧ Q a ∧ Q b ∧ Q c)
def gh_WI (io ia ib ix : Nat → Int32) (c i : Nat) : Prop :=
  ∃ o, o ≤ 19 ∧ io (c * 8 + i) = nI o ∧ gh_Fit (gh_HN io ia c i) (gh_BN io ia c i) o (ia (c * 8 + i)) (ib (c * 8 + i)) (ix (c * 8 + i))
/-- the names that a test reads -/
def gh_us (op a b x : Int32) : Prop := ((op = 0 ∨ op = 1 ∨ op = 2 ∨ op = 9 ∨ op = 3 ∨ op = 4 ∨ op = 5 ∨ op = 10) ∧ x = a) ∨ ((op = 3 ∨ op = 4 ∨ op = 5 ∨ op = 10) ∧ x = b)
/-- an item is one of nine tests or none -/
def gh_nine (op : Int32) : Prop := op = 0 ∨ op = 1 ∨ op = 2 ∨ op = 9 ∨ op = 10 ∨ op = 3 ∨ op = 4 ∨ op = 5 ∨ ∃ o, o ≤ 19 ∧ 5 < o ∧ o ≠ 9 ∧ o ≠ 10 ∧ op = nI o
theorem gh_nine_of {o : Nat} (ho : o ≤ 19) : gh_nine (nI o) := by
  by_cases h : 5 < o ∧ o ≠ 9 ∧ o ≠ 10
  · exact Or.inr (Or.inr (Or.inr (Or.inr (Or.inr (Or.inr (Or.inr (Or.inr ⟨o, ho, h.1, h.2.1, h.2.2, rfl⟩)))))))
  · have : o = 0 ∨ o = 1 ∨ o = 2 ∨ o = 9 ∨ o = 10 ∨ o = 3 ∨ o = 4 ∨ o = 5 := by omega
    rcases this with rfl | rfl | rfl | rfl | rfl | rfl | rfl | rfl
    · exact Or.inl rfl
    · exact Or.inr (Or.inl rfl)
    · exact Or.inr (Or.inr (Or.inl rfl))
    · exact Or.inr (Or.inr (Or.inr (Or.inl rfl)))
    · exact Or.inr (Or.inr (Or.inr (Or.inr (Or.inl rfl))))
    · exact Or.inr (Or.inr (Or.inr (Or.inr (Or.inr (Or.inl rfl)))))
    · exact Or.inr (Or.inr (Or.inr (Or.inr (Or.inr (Or.inr (Or.inl rfl))))))
    · exact Or.inr (Or.inr (Or.inr (Or.inr (Or.inr (Or.inr (Or.inr (Or.inl rfl)))))))
theorem gh_WI_9 {io ia ib ix : Nat → Int32} {c i : Nat} (h : gh_WI io ia ib ix c i) : gh_nine (io (c * 8 + i)) := by
  obtain ⟨o, ho, e, _⟩ := h
  rw [e]
  exact gh_nine_of ho
theorem gh_WI_us {io ia ib ix : Nat → Int32} {c i : Nat} (h : gh_WI io ia ib ix c i) {x : Int32} (hx : gh_us (io (c * 8 + i)) (ia (c * 8 + i)) (ib (c * 8 + i)) x) : gh_HN io ia c i x := by
  obtain ⟨o, ho, e, f⟩ := h
  rw [e] at hx
  have key : ∀ k, k ≤ 19 → nI o = nI k → o = k := fun k hk z => by rw [nI_eq (by omega) (by omega)] at z; exact z
  have hx2 : ((o = 0 ∨ o = 1 ∨ o = 2 ∨ o = 9 ∨ o = 3 ∨ o = 4 ∨ o = 5 ∨ o = 10) ∧ x = ia (c * 8 + i)) ∨ ((o = 3 ∨ o = 4 ∨ o = 5 ∨ o = 10) ∧ x = ib (c * 8 + i)) := by
    rcases hx with ⟨z, ex⟩ | ⟨z, ex⟩
    · refine Or.inl ⟨?_, ex⟩
      rcases z with z | z | z | z | z | z | z | z
      · have := key 0 (by omega) z; omega
      · have := key 1 (by omega) z; omega
      · have := key 2 (by omega) z; omega
      · have := key 9 (by omega) z; omega
      · have := key 3 (by omega) z; omega
      · have := key 4 (by omega) z; omega
      · have := key 5 (by omega) z; omega
      · have := key 10 (by omega) z; omega
    · refine Or.inr ⟨?_, ex⟩
      rcases z with z | z | z | z
      · have := key 3 (by omega) z; omega
      · have := key 4 (by omega) z; omega
      · have := key 5 (by omega) z; omega
      · have := key 10 (by omega) z; omega
  rcases f with ⟨f0, j, hj, ej⟩ | ⟨f0, fa⟩ | ⟨f0, fa, fb⟩ | f0 | ⟨f0, _⟩ | ⟨f0, _⟩
  · rcases hx2 with ⟨_, rfl⟩ | ⟨z, _⟩
    · exact ⟨j, by omega, ej, Or.inl hj⟩
    · omega
  · rcases hx2 with ⟨_, rfl⟩ | ⟨z, _⟩
    · exact fa
    · omega
  · rcases hx2 with ⟨_, rfl⟩ | ⟨_, rfl⟩
    · exact fa
    · exact fb
  · rcases hx2 with ⟨z, _⟩ | ⟨z, _⟩ <;> omega
  · rcases hx2 with ⟨z, _⟩ | ⟨z, _⟩ <;> omega
  · rcases hx2 with ⟨z, _⟩ | ⟨z, _⟩ <;> omega
section
variable {kd fs sc : Nat → Int32} {E G : Nat → Nat} {v t : Nat}
theorem gh_hd_s (hv : kd v = 0) {n x : Nat} (h : gh_hd kd fs sc E G n = some x) : gh_hd kd fs sc (fun i => gh_sg v t (E i)) (fun j => gh_sg v t (G j)) n = some (gh_sg v t x) := by
  unfold gh_hd at h ⊢
  by_cases z : n < 3
  · rw [if_pos z] at h ⊢
    obtain rfl := Option.some.inj h
    rfl
  · rw [if_neg z] at h ⊢
    by_cases w : n < 9 ∧ kd (G ((n - 3) / 2)) = 2
    · rw [if_pos w] at h
      have hne : G ((n - 3) / 2) ≠ v := fun e => by
        rw [e, hv] at w
        exact absurd w.2 (by decide)
      simp only [gh_sg_n hne]
      rw [if_pos w]
      obtain rfl := Option.some.inj h
      by_cases y : n % 2 = 0
      · rw [if_pos y, if_pos y]
      · rw [if_neg y, if_neg y]
    · rw [if_neg w] at h
      exact absurd h (by simp)
theorem gh_hd_n {n : Nat} (h : gh_hd kd fs sc E G n = none) (hc : G ((n - 3) / 2) = v → kd t ≠ 2) : gh_hd kd fs sc (fun i => gh_sg v t (E i)) (fun j => gh_sg v t (G j)) n = none := by
  unfold gh_hd at h ⊢
  by_cases z : n < 3
  · rw [if_pos z] at h
    exact absurd h (by simp)
  · rw [if_neg z] at h ⊢
    by_cases w : n < 9 ∧ kd (G ((n - 3) / 2)) = 2
    · rw [if_pos w] at h
      exact absurd h (by simp)
    · refine if_neg ?_
      dsimp only
      rintro ⟨a, b⟩
      by_cases y : G ((n - 3) / 2) = v
      · rw [y, gh_sg_v] at b
        exact hc y b
      · rw [gh_sg_n y] at b
        exact w ⟨a, b⟩
theorem gh_hd_none {n : Nat} (h : gh_hd kd fs sc E G n = none) (hn : n ≤ 8) : ¬ n < 3 ∧ kd (G ((n - 3) / 2)) ≠ 2 := by
  unfold gh_hd at h
  by_cases z : n < 3
  · rw [if_pos z] at h
    exact absurd h (by simp)
  · refine ⟨z, fun w => ?_⟩
    rw [if_neg z, if_pos ⟨by omega, w⟩] at h
    exact absurd h (by simp)
end
/-! one test -/
section
variable {kd fs : Nat → Int32} {v t : Nat} {x y x' y' : Option Nat}
theorem gh_kt_ne (hv : kd v = 0) {w : Int32} (R : ∀ p, x = some p → x' = some (gh_sg v t p)) (h : gh_kt kd w x ≠ 1) : gh_kt kd w x' = gh_kt kd w x := by
  cases x with
  | none => exact absurd rfl h
  | some p =>
    rw [R p rfl]
    have : p ≠ v := fun e => h (by rw [e]; exact if_pos hv)
    rw [gh_sg_n this]
theorem gh_it_ne (hv : kd v = 0) {w : Int32} (R : ∀ p, x = some p → x' = some (gh_sg v t p)) (h : gh_it kd fs w x ≠ 1) : gh_it kd fs w x' = gh_it kd fs w x := by
  cases x with
  | none => exact absurd rfl h
  | some p =>
    rw [R p rfl]
    have : p ≠ v := fun e => h (by rw [e]; exact if_pos hv)
    rw [gh_sg_n this]
theorem gh_lt_ne (hv : kd v = 0) (R : ∀ p, x = some p → x' = some (gh_sg v t p)) (S : ∀ p, y = some p → y' = some (gh_sg v t p)) (h : gh_two (gh_lt2 kd fs) x y ≠ 1) : gh_two (gh_lt2 kd fs) x' y' = gh_two (gh_lt2 kd fs) x y := by
  cases x with
  | none => exact absurd rfl h
  | some p =>
    cases y with
    | none => exact absurd rfl h
    | some q =>
      rw [R p rfl, S q rfl]
      replace h : gh_lt2 kd fs p q ≠ 1 := h
      show gh_lt2 kd fs (gh_sg v t p) (gh_sg v t q) = gh_lt2 kd fs p q
      have n02 : ¬ (0 : Int32) = 2 := by decide
      by_cases a : p = v
      · subst a
        by_cases b : kd q = 2
        · have : q ≠ p := fun e => by rw [e, hv] at b; exact n02 b
          rw [gh_sg_n this]
          unfold gh_lt2
          rw [if_pos b, if_pos b, ite_self, ite_self]
        · exfalso
          apply h
          unfold gh_lt2
          rw [if_neg (by rw [hv]; exact n02), if_neg b, if_pos hv]
      · rw [gh_sg_n a]
        by_cases b : q = v
        · subst b
          by_cases c : kd p = 2
          · unfold gh_lt2
            rw [if_pos c, if_pos c]
          · exfalso
            apply h
            unfold gh_lt2
            rw [if_neg c, if_neg (by rw [hv]; exact n02), if_pos hv, ite_self]
        · rw [gh_sg_n b]
theorem gh_st_ne (hv : kd v = 0) (R : ∀ p, x = some p → x' = some (gh_sg v t p)) (S : ∀ p, y = some p → y' = some (gh_sg v t p)) (h : gh_two (gh_st2 kd fs) x y ≠ 1) : gh_two (gh_st2 kd fs) x' y' = gh_two (gh_st2 kd fs) x y := by
  cases x with
  | none => exact absurd rfl h
  | some p =>
    cases y with
    | none => exact absurd rfl h
    | some q =>
      rw [R p rfl, S q rfl]
      replace h : gh_st2 kd fs p q ≠ 1 := h
      show gh_st2 kd fs (gh_sg v t p) (gh_sg v t q) = gh_st2 kd fs p q
      by_cases e : p = q
      · subst e
        unfold gh_st2
        rw [if_pos rfl, if_pos rfl]
      · have a : p ≠ v := fun z => by
          apply h
          unfold gh_st2
          rw [if_neg e, if_pos (by rw [z]; exact hv)]
        have b : q ≠ v := fun z => by
          apply h
          unfold gh_st2
          rw [if_neg e, if_pos (show kd q = 0 by rw [z]; exact hv), ite_self]
        rw [gh_sg_n a, gh_sg_n b]
theorem gh_kd_sg (hv : kd v = 0) {p : Nat} (h : p = v → kd t = 0) : kd (gh_sg v t p) = kd p := by
  by_cases e : p = v
  · rw [e, gh_sg_v, hv]
    exact h e
  · rw [gh_sg_n e]
theorem gh_k1_sg (hv : kd v = 0) (R : ∀ p, x = some p → x' = some (gh_sg v t p)) (N : x = none → x' = none) (hc : x = some v → kd t = 0) (w : Nat) : gh_k1 kd x' w ↔ ∃ z, gh_k1 kd x z ∧ gh_sg v t z = w := by
  cases x with
  | none =>
    rw [N rfl]
    constructor
    · rintro ⟨_, e⟩; exact absurd e (by simp)
    · rintro ⟨z, ⟨_, e⟩, _⟩; exact absurd e (by simp)
  | some p =>
    rw [R p rfl]
    have ek := gh_kd_sg (kd := kd) (v := v) (t := t) hv (p := p) (fun e => hc (by rw [e]))
    constructor
    · rintro ⟨a, e⟩
      have e2 := Option.some.inj e
      exact ⟨p, ⟨by rw [← ek, e2]; exact a, rfl⟩, e2⟩
    · rintro ⟨z, ⟨a, e⟩, rfl⟩
      obtain rfl := Option.some.inj e
      exact ⟨by rw [ek]; exact a, rfl⟩
theorem gh_kt_1 (hv : kd v = 0) {w : Int32} (R : ∀ p, x = some p → x' = some (gh_sg v t p)) (N : x = none → x' = none) (hc : x = some v → kd t = 0) (h : gh_kt kd w x = 1) : gh_kt kd w x' = 1 := by
  cases x with
  | none => rw [N rfl]; rfl
  | some p =>
    rw [R p rfl]
    have ek := gh_kd_sg (kd := kd) (v := v) (t := t) hv (p := p) (fun e => hc (by rw [e]))
    show (if kd (gh_sg v t p) = 0 then 1 else if kd (gh_sg v t p) = w then 0 else 2) = 1
    rw [ek]
    exact h
theorem gh_it_1 (hv : kd v = 0) {w : Int32} (R : ∀ p, x = some p → x' = some (gh_sg v t p)) (N : x = none → x' = none) (hc : x = some v → kd t = 0) (h : gh_it kd fs w x = 1) : gh_it kd fs w x' = 1 := by
  cases x with
  | none => rw [N rfl]; rfl
  | some p =>
    rw [R p rfl]
    have ek := gh_kd_sg (kd := kd) (v := v) (t := t) hv (p := p) (fun e => hc (by rw [e]))
    have h0 : kd p = 0 := by
      replace h : (if kd p = 0 then 1 else if kd p = 1 then (if fs p = w then 0 else 2) else 2) = 1 := h
      by_cases z : kd p = 0
      · exact z
      · exfalso
        rw [if_neg z] at h
        revert h
        repeat' split
        all_goals omega
    exact if_pos (by rw [ek]; exact h0)
theorem gh_b2_sg (hv : kd v = 0) (R : ∀ p, x = some p → x' = some (gh_sg v t p)) (S : ∀ p, y = some p → y' = some (gh_sg v t p)) (N : x = none → x' = none) (M : y = none → y' = none) (hc : gh_b2 kd x y v → kd t = 0) (w : Nat) : gh_b2 kd x' y' w ↔ ∃ z, gh_b2 kd x y z ∧ gh_sg v t z = w := by
  cases x with
  | none =>
    rw [N rfl]
    constructor
    · rintro ⟨_, p, q, e, _⟩; exact absurd e (by simp)
    · rintro ⟨z, ⟨_, p, q, e, _⟩, _⟩; exact absurd e (by simp)
  | some p =>
    cases y with
    | none =>
      rw [M rfl]
      constructor
      · rintro ⟨_, p, q, _, e, _⟩; exact absurd e (by simp)
      · rintro ⟨z, ⟨_, p, q, _, e, _⟩, _⟩; exact absurd e (by simp)
    | some q =>
      rw [R p rfl, S q rfl]
      have ep := gh_kd_sg (kd := kd) (v := v) (t := t) hv (p := p) (fun e => hc ⟨hv, p, q, rfl, rfl, Or.inl e.symm⟩)
      have eq := gh_kd_sg (kd := kd) (v := v) (t := t) hv (p := q) (fun e => hc ⟨hv, p, q, rfl, rfl, Or.inr e.symm⟩)
      constructor
      · rintro ⟨a, p', q', e1, e2, e3⟩
        rw [← Option.some.inj e1, ← Option.some.inj e2] at e3
        rcases e3 with e3 | e3
        · exact ⟨p, ⟨by rw [← ep, ← e3]; exact a, p, q, rfl, rfl, Or.inl rfl⟩, e3.symm⟩
        · exact ⟨q, ⟨by rw [← eq, ← e3]; exact a, p, q, rfl, rfl, Or.inr rfl⟩, e3.symm⟩
      · rintro ⟨z, ⟨a, p', q', e1, e2, e3⟩, rfl⟩
        rw [← Option.some.inj e1, ← Option.some.inj e2] at e3
        rcases e3 with rfl | rfl
        · exact ⟨by rw [ep]; exact a, _, _, rfl, rfl, Or.inl rfl⟩
        · exact ⟨by rw [eq]; exact a, _, _, rfl, rfl, Or.inr rfl⟩
theorem gh_lt_1 (hv : kd v = 0) (R : ∀ p, x = some p → x' = some (gh_sg v t p)) (S : ∀ p, y = some p → y' = some (gh_sg v t p)) (N : x = none → x' = none) (M : y = none → y' = none) (hc : gh_b2 kd x y v → kd t = 0) (h : gh_two (gh_lt2 kd fs) x y = 1) : gh_two (gh_lt2 kd fs) x' y' = 1 := by
  cases x with
  | none => rw [N rfl]; rfl
  | some p =>
    cases y with
    | none => rw [R p rfl, M rfl]; rfl
    | some q =>
      rw [R p rfl, S q rfl]
      have ep := gh_kd_sg (kd := kd) (v := v) (t := t) hv (p := p) (fun e => hc ⟨hv, p, q, rfl, rfl, Or.inl e.symm⟩)
      have eq := gh_kd_sg (kd := kd) (v := v) (t := t) hv (p := q) (fun e => hc ⟨hv, p, q, rfl, rfl, Or.inr e.symm⟩)
      replace h : gh_lt2 kd fs p q = 1 := h
      show gh_lt2 kd fs (gh_sg v t p) (gh_sg v t q) = 1
      unfold gh_lt2 at h ⊢
      rw [ep, eq]
      by_cases a : kd p = 2
      · rw [if_pos a] at h; exact absurd h (by decide)
      · by_cases b : kd q = 2
        · rw [if_neg a, if_pos b] at h; exact absurd h (by decide)
        · rw [if_neg a, if_neg b] at h ⊢
          by_cases c : kd p = 0
          · rw [if_pos c]
          · by_cases d : kd q = 0
            · rw [if_neg c, if_pos d]
            · rw [if_neg c, if_neg d] at h
              exfalso
              revert h
              split <;> omega
theorem gh_st_1 (hv : kd v = 0) (R : ∀ p, x = some p → x' = some (gh_sg v t p)) (S : ∀ p, y = some p → y' = some (gh_sg v t p)) (N : x = none → x' = none) (M : y = none → y' = none) (hc : gh_b2 kd x y v → kd t = 0 ∧ ¬ gh_b2 kd x y t) (h : gh_two (gh_st2 kd fs) x y = 1) : gh_two (gh_st2 kd fs) x' y' = 1 := by
  cases x with
  | none => rw [N rfl]; rfl
  | some p =>
    cases y with
    | none => rw [R p rfl, M rfl]; rfl
    | some q =>
      rw [R p rfl, S q rfl]
      have ep := gh_kd_sg (kd := kd) (v := v) (t := t) hv (p := p) (fun e => (hc ⟨hv, p, q, rfl, rfl, Or.inl e.symm⟩).1)
      have eq := gh_kd_sg (kd := kd) (v := v) (t := t) hv (p := q) (fun e => (hc ⟨hv, p, q, rfl, rfl, Or.inr e.symm⟩).1)
      replace h : gh_st2 kd fs p q = 1 := h
      show gh_st2 kd fs (gh_sg v t p) (gh_sg v t q) = 1
      by_cases e : p = q
      · unfold gh_st2 at h
        rw [if_pos e] at h
        exact absurd h (by decide)
      · have hne : gh_sg v t p ≠ gh_sg v t q := by
          intro z
          by_cases a : p = v
          · have b : q ≠ v := fun w => e (by rw [a, w])
            rw [a, gh_sg_v, gh_sg_n b] at z
            obtain ⟨c1, c2⟩ := hc ⟨hv, p, q, rfl, rfl, Or.inl a.symm⟩
            exact c2 ⟨c1, p, q, rfl, rfl, Or.inr z⟩
          · by_cases b : q = v
            · rw [b, gh_sg_v, gh_sg_n a] at z
              obtain ⟨c1, c2⟩ := hc ⟨hv, p, q, rfl, rfl, Or.inr b.symm⟩
              exact c2 ⟨c1, p, q, rfl, rfl, Or.inl z.symm⟩
            · rw [gh_sg_n a, gh_sg_n b] at z
              exact e z
        unfold gh_st2 at h ⊢
        rw [if_neg hne, ep, eq]
        rw [if_neg e] at h
        by_cases c : kd p = 0
        · rw [if_pos c]
        · by_cases d : kd q = 0
          · rw [if_neg c, if_pos d]
          · rw [if_neg c, if_neg d] at h
            exfalso
            revert h
            repeat' split
            all_goals omega
end
section
variable {kd fs : Nat → Int32} {v t : Nat} {h h' : Nat → Option Nat} {op a b : Int32}
theorem gh_tv_ne (hv : kd v = 0) (R : ∀ n p, h n = some p → h' n = some (gh_sg v t p)) (hop : gh_nine op) (hn : gh_tv kd fs h op a b ≠ 1) : gh_tv kd fs h' op a b = gh_tv kd fs h op a b := by
  rcases hop with rfl | rfl | rfl | rfl | rfl | rfl | rfl | rfl | ⟨o, ho, h5, h9, h10, rfl⟩
  · rw [gh_tv_0] at hn ⊢; exact gh_kt_ne hv (R _) hn
  · rw [gh_tv_1] at hn ⊢; exact gh_it_ne hv (R _) hn
  · rw [gh_tv_2] at hn ⊢; exact gh_kt_ne hv (R _) hn
  · rw [gh_tv_9] at hn ⊢; exact gh_kt_ne hv (R _) hn
  · rw [gh_tv_10] at hn ⊢
    rw [gh_tv_10]
    have l1 := gh_kt_le (kd := kd) (w := 1) (x := h a.toNatClampNeg)
    have l2 := gh_kt_le (kd := kd) (w := 1) (x := h b.toNatClampNeg)
    have l3 := gh_kt_le (kd := kd) (w := 1) (x := h' a.toNatClampNeg)
    have l4 := gh_kt_le (kd := kd) (w := 1) (x := h' b.toNatClampNeg)
    have f1 : gh_kt kd 1 (h a.toNatClampNeg) = 1 ∨ gh_kt kd 1 (h' a.toNatClampNeg) = gh_kt kd 1 (h a.toNatClampNeg) := by
      by_cases z : gh_kt kd 1 (h a.toNatClampNeg) = 1
      · exact Or.inl z
      · exact Or.inr (gh_kt_ne hv (R _) z)
    have f2 : gh_kt kd 1 (h b.toNatClampNeg) = 1 ∨ gh_kt kd 1 (h' b.toNatClampNeg) = gh_kt kd 1 (h b.toNatClampNeg) := by
      by_cases z : gh_kt kd 1 (h b.toNatClampNeg) = 1
      · exact Or.inl z
      · exact Or.inr (gh_kt_ne hv (R _) z)
    omega
  · rw [gh_tv_3] at hn ⊢; exact gh_lt_ne hv (R _) (R _) hn
  · rw [gh_tv_4] at hn ⊢; exact gh_st_ne hv (R _) (R _) hn
  · rw [gh_tv_5] at hn
    rw [gh_tv_5, gh_tv_5, gh_st_ne hv (R _) (R _) (fun z => hn (by rw [z]))]
  · rw [gh_tv_n ho h5 h9 h10, gh_tv_n ho h5 h9 h10]
theorem gh_tv_sg (hv : kd v = 0) (R : ∀ n p, h n = some p → h' n = some (gh_sg v t p)) (hop : gh_nine op)
    (N : ∀ x : Int32, gh_us op a b x → h x.toNatClampNeg = none → h' x.toNatClampNeg = none)
    (hc : gh_bl kd fs h op a b v → kd t = 0 ∧ ¬ gh_bl kd fs h op a b t) (h1 : gh_tv kd fs h op a b ≤ 1) :
    gh_tv kd fs h' op a b = gh_tv kd fs h op a b ∧ ∀ w, gh_bl kd fs h' op a b w ↔ ∃ z, gh_bl kd fs h op a b z ∧ gh_sg v t z = w := by
  have one : ∀ (op : Int32), (op = 0 ∨ op = 1 ∨ op = 2 ∨ op = 9) → (N : h a.toNatClampNeg = none → h' a.toNatClampNeg = none) → (hc : gh_bl kd fs h op a b v → kd t = 0 ∧ ¬ gh_bl kd fs h op a b t) → ∀ w, gh_bl kd fs h' op a b w ↔ ∃ z, gh_bl kd fs h op a b z ∧ gh_sg v t z = w := by
    intro op ho N hc w
    rw [gh_bl_1 ho, gh_k1_sg hv (R _) N (fun e => (hc ((gh_bl_1 ho).mpr ⟨hv, e⟩)).1) w]
    constructor
    · rintro ⟨z, k, e⟩; exact ⟨z, (gh_bl_1 ho).mpr k, e⟩
    · rintro ⟨z, k, e⟩; exact ⟨z, (gh_bl_1 ho).mp k, e⟩
  have kone : ∀ (op : Int32) (w : Int32), (op = 0 ∨ op = 1 ∨ op = 2 ∨ op = 9) → (h a.toNatClampNeg = none → h' a.toNatClampNeg = none) → (gh_bl kd fs h op a b v → kd t = 0 ∧ ¬ gh_bl kd fs h op a b t) → gh_kt kd w (h' a.toNatClampNeg) = gh_kt kd w (h a.toNatClampNeg) := by
    intro op w ho N hc
    by_cases z : gh_kt kd w (h a.toNatClampNeg) = 1
    · rw [z]
      exact gh_kt_1 hv (R _) N (fun e => (hc ((gh_bl_1 ho).mpr ⟨hv, e⟩)).1) z
    · exact gh_kt_ne hv (R _) z
  have two : ∀ (op : Int32), (op = 3 ∨ op = 4 ∨ op = 5) → gh_tv kd fs h op a b = gh_tv kd fs h' op a b → (h a.toNatClampNeg = none → h' a.toNatClampNeg = none) → (h b.toNatClampNeg = none → h' b.toNatClampNeg = none) → (gh_tv kd fs h op a b = 1 → gh_b2 kd (h a.toNatClampNeg) (h b.toNatClampNeg) v → kd t = 0) → ∀ w, gh_bl kd fs h' op a b w ↔ ∃ z, gh_bl kd fs h op a b z ∧ gh_sg v t z = w := by
    intro op ho et N M hc w
    rw [gh_bl_2 ho, ← et]
    constructor
    · rintro ⟨e, k⟩
      rw [gh_b2_sg hv (R _) (R _) N M (hc e) w] at k
      obtain ⟨z, k1, k2⟩ := k
      exact ⟨z, (gh_bl_2 ho).mpr ⟨e, k1⟩, k2⟩
    · rintro ⟨z, k, k2⟩
      obtain ⟨e, k1⟩ := (gh_bl_2 ho).mp k
      exact ⟨e, (gh_b2_sg hv (R _) (R _) N M (hc e) w).mpr ⟨z, k1, k2⟩⟩
  rcases hop with rfl | rfl | rfl | rfl | rfl | rfl | rfl | rfl | ⟨o, ho, h5, h9, h10, rfl⟩
  · have Na := N a (Or.inl ⟨Or.inl rfl, rfl⟩)
    exact ⟨kone 0 2 (Or.inl rfl) Na hc, one 0 (Or.inl rfl) Na hc⟩
  · have Na := N a (Or.inl ⟨Or.inr (Or.inl rfl), rfl⟩)
    refine ⟨?_, one 1 (Or.inr (Or.inl rfl)) Na hc⟩
    rw [gh_tv_1, gh_tv_1]
    by_cases z : gh_it kd fs b (h a.toNatClampNeg) = 1
    · rw [z]
      exact gh_it_1 hv (R _) Na (fun e => (hc ((gh_bl_1 (Or.inr (Or.inl rfl))).mpr ⟨hv, e⟩)).1) z
    · exact gh_it_ne hv (R _) z
  · have Na := N a (Or.inl ⟨Or.inr (Or.inr (Or.inl rfl)), rfl⟩)
    exact ⟨kone 2 1 (Or.inr (Or.inr (Or.inl rfl))) Na hc, one 2 (Or.inr (Or.inr (Or.inl rfl))) Na hc⟩
  · have Na := N a (Or.inl ⟨Or.inr (Or.inr (Or.inr (Or.inl rfl))), rfl⟩)
    exact ⟨kone 9 1 (Or.inr (Or.inr (Or.inr rfl))) Na hc, one 9 (Or.inr (Or.inr (Or.inr rfl))) Na hc⟩
  · have Na := N a (Or.inl ⟨Or.inr (Or.inr (Or.inr (Or.inr (Or.inr (Or.inr (Or.inr rfl)))))), rfl⟩)
    have Nb := N b (Or.inr ⟨Or.inr (Or.inr (Or.inr rfl)), rfl⟩)
    have ca : h a.toNatClampNeg = some v → kd t = 0 := fun e => (hc (gh_bl_10.mpr (Or.inl ⟨hv, e⟩))).1
    have cb : h b.toNatClampNeg = some v → kd t = 0 := fun e => (hc (gh_bl_10.mpr (Or.inr ⟨hv, e⟩))).1
    have f : ∀ x : Int32, (h x.toNatClampNeg = none → h' x.toNatClampNeg = none) → (h x.toNatClampNeg = some v → kd t = 0) → gh_kt kd 1 (h' x.toNatClampNeg) = gh_kt kd 1 (h x.toNatClampNeg) := by
      intro x N c
      by_cases z : gh_kt kd 1 (h x.toNatClampNeg) = 1
      · rw [z]; exact gh_kt_1 hv (R _) N c z
      · exact gh_kt_ne hv (R _) z
    refine ⟨?_, ?_⟩
    · rw [gh_tv_10, gh_tv_10, f a Na ca, f b Nb cb]
    · intro w
      rw [gh_bl_10, gh_k1_sg hv (R _) Na ca w, gh_k1_sg hv (R _) Nb cb w]
      constructor
      · rintro (⟨z, k, e⟩ | ⟨z, k, e⟩)
        · exact ⟨z, gh_bl_10.mpr (Or.inl k), e⟩
        · exact ⟨z, gh_bl_10.mpr (Or.inr k), e⟩
      · rintro ⟨z, k, e⟩
        rcases gh_bl_10.mp k with k | k
        · exact Or.inl ⟨z, k, e⟩
        · exact Or.inr ⟨z, k, e⟩
  · have Na := N a (Or.inl ⟨Or.inr (Or.inr (Or.inr (Or.inr (Or.inl rfl)))), rfl⟩)
    have Nb := N b (Or.inr ⟨Or.inl rfl, rfl⟩)
    have et : gh_tv kd fs h' 3 a b = gh_tv kd fs h 3 a b := by
      by_cases z : gh_tv kd fs h 3 a b = 1
      · rw [z]
        exact gh_lt_1 hv (R _) (R _) Na Nb (fun k => (hc ((gh_bl_2 (Or.inl rfl)).mpr ⟨z, k⟩)).1) z
      · exact gh_lt_ne hv (R _) (R _) z
    exact ⟨et, two 3 (Or.inl rfl) et.symm Na Nb (fun z k => (hc ((gh_bl_2 (Or.inl rfl)).mpr ⟨z, k⟩)).1)⟩
  · have Na := N a (Or.inl ⟨Or.inr (Or.inr (Or.inr (Or.inr (Or.inr (Or.inl rfl))))), rfl⟩)
    have Nb := N b (Or.inr ⟨Or.inr (Or.inl rfl), rfl⟩)
    have et : gh_tv kd fs h' 4 a b = gh_tv kd fs h 4 a b := by
      by_cases z : gh_tv kd fs h 4 a b = 1
      · rw [z]
        exact gh_st_1 hv (R _) (R _) Na Nb (fun k => ⟨(hc ((gh_bl_2 (Or.inr (Or.inl rfl))).mpr ⟨z, k⟩)).1, fun k2 => (hc ((gh_bl_2 (Or.inr (Or.inl rfl))).mpr ⟨z, k⟩)).2 ((gh_bl_2 (Or.inr (Or.inl rfl))).mpr ⟨z, k2⟩)⟩) z
      · exact gh_st_ne hv (R _) (R _) z
    exact ⟨et, two 4 (Or.inr (Or.inl rfl)) et.symm Na Nb (fun z k => (hc ((gh_bl_2 (Or.inr (Or.inl rfl))).mpr ⟨z, k⟩)).1)⟩
  · have Na := N a (Or.inl ⟨Or.inr (Or.inr (Or.inr (Or.inr (Or.inr (Or.inr (Or.inl rfl)))))), rfl⟩)
    have Nb := N b (Or.inr ⟨Or.inr (Or.inr (Or.inl rfl)), rfl⟩)
    have l6 := gh_two_le (f := gh_st2 kd fs) (fun p q => gh_st2_le) (x := h a.toNatClampNeg) (y := h b.toNatClampNeg)
    have et : gh_tv kd fs h' 5 a b = gh_tv kd fs h 5 a b := by
      by_cases z : gh_tv kd fs h 5 a b = 1
      · have z2 : gh_two (gh_st2 kd fs) (h a.toNatClampNeg) (h b.toNatClampNeg) = 1 := by rw [gh_tv_5] at z; omega
        rw [gh_tv_5, gh_tv_5, z2, gh_st_1 hv (R _) (R _) Na Nb (fun k => ⟨(hc ((gh_bl_2 (Or.inr (Or.inr rfl))).mpr ⟨z, k⟩)).1, fun k2 => (hc ((gh_bl_2 (Or.inr (Or.inr rfl))).mpr ⟨z, k⟩)).2 ((gh_bl_2 (Or.inr (Or.inr rfl))).mpr ⟨z, k2⟩)⟩) z2]
      · have z2 : gh_two (gh_st2 kd fs) (h a.toNatClampNeg) (h b.toNatClampNeg) ≠ 1 := fun e => z (by rw [gh_tv_5, e])
        rw [gh_tv_5, gh_tv_5, gh_st_ne hv (R _) (R _) z2]
    exact ⟨et, two 5 (Or.inr (Or.inr rfl)) et.symm Na Nb (fun z k => (hc ((gh_bl_2 (Or.inr (Or.inr rfl))).mpr ⟨z, k⟩)).1)⟩
  · refine ⟨by rw [gh_tv_n ho h5 h9 h10, gh_tv_n ho h5 h9 h10], fun w => ?_⟩
    constructor
    · intro k; exact absurd k (gh_bl_n ho h5 h9 h10)
    · rintro ⟨z, k, _⟩; exact absurd k (gh_bl_n ho h5 h9 h10)
end
/-! a clause, a goal -/
section
variable {kd fs sc : Nat → Int32} {E G : Nat → Nat} {v t : Nat} {io ia ib ic ix cp : Nat → Int32} {gp : Int32} {c m nK : Nat}
theorem gh_jv_ne (hv : kd v = 0) (W : ∀ i, i < m → gh_WI io ia ib ix c i) (h : gh_jv kd fs (gh_hd kd fs sc E G) io ia ib c m ≠ 1) : gh_jv kd fs (gh_hd kd fs sc (fun i => gh_sg v t (E i)) (fun j => gh_sg v t (G j))) io ia ib c m = gh_jv kd fs (gh_hd kd fs sc E G) io ia ib c m := by
  have l1 := gh_jv_le (kd := kd) (fs := fs) (h := (gh_hd kd fs sc E G)) (io := io) (ia := ia) (ib := ib) (c := c) (n := m)
  have l2 := gh_jv_le (kd := kd) (fs := fs) (h := (gh_hd kd fs sc (fun i => gh_sg v t (E i)) (fun j => gh_sg v t (G j)))) (io := io) (ia := ia) (ib := ib) (c := c) (n := m)
  have R : ∀ n p, (gh_hd kd fs sc E G) n = some p → (gh_hd kd fs sc (fun i => gh_sg v t (E i)) (fun j => gh_sg v t (G j))) n = some (gh_sg v t p) := fun n p e => gh_hd_s hv e
  by_cases z : gh_jv kd fs (gh_hd kd fs sc E G) io ia ib c m = 2
  · obtain ⟨i, hi, e⟩ := gh_jv_2 z
    have e2 := gh_tv_ne (fs := fs) (t := t) (a := ia (c * 8 + i)) (b := ib (c * 8 + i)) hv R (gh_WI_9 (W i hi)) (by rw [e]; decide)
    have e3 := gh_jv_i (kd := kd) (fs := fs) (h := (gh_hd kd fs sc (fun i => gh_sg v t (E i)) (fun j => gh_sg v t (G j)))) (io := io) (ia := ia) (ib := ib) (c := c) hi
    rw [e2, e] at e3
    omega
  · have z0 : gh_jv kd fs (gh_hd kd fs sc E G) io ia ib c m = 0 := by omega
    rw [z0]
    apply gh_jv_0
    intro i hi
    have e := gh_jv_i (kd := kd) (fs := fs) (h := (gh_hd kd fs sc E G)) (io := io) (ia := ia) (ib := ib) (c := c) hi
    have e1 : gh_tv kd fs (gh_hd kd fs sc E G) (io (c * 8 + i)) (ia (c * 8 + i)) (ib (c * 8 + i)) = 0 := by omega
    rw [gh_tv_ne (fs := fs) (t := t) hv R (gh_WI_9 (W i hi)) (by rw [e1]; decide), e1]
theorem gh_jv_sg (hv : kd v = 0) (W : ∀ i, i < m → gh_WI io ia ib ix c i) (h1 : gh_jv kd fs (gh_hd kd fs sc E G) io ia ib c m = 1) (hc : gh_cb kd fs (gh_hd kd fs sc E G) io ia ib c m v → kd t = 0 ∧ ¬ gh_cb kd fs (gh_hd kd fs sc E G) io ia ib c m t) :
    gh_jv kd fs (gh_hd kd fs sc (fun i => gh_sg v t (E i)) (fun j => gh_sg v t (G j))) io ia ib c m = 1 ∧ ∀ w, gh_cb kd fs (gh_hd kd fs sc (fun i => gh_sg v t (E i)) (fun j => gh_sg v t (G j))) io ia ib c m w ↔ ∃ z, gh_cb kd fs (gh_hd kd fs sc E G) io ia ib c m z ∧ gh_sg v t z = w := by
  have R : ∀ n p, (gh_hd kd fs sc E G) n = some p → (gh_hd kd fs sc (fun i => gh_sg v t (E i)) (fun j => gh_sg v t (G j))) n = some (gh_sg v t p) := fun n p e => gh_hd_s hv e
  have key : ∀ i, i < m → gh_tv kd fs (gh_hd kd fs sc (fun i => gh_sg v t (E i)) (fun j => gh_sg v t (G j))) (io (c * 8 + i)) (ia (c * 8 + i)) (ib (c * 8 + i)) = gh_tv kd fs (gh_hd kd fs sc E G) (io (c * 8 + i)) (ia (c * 8 + i)) (ib (c * 8 + i)) ∧ ∀ w, gh_bl kd fs (gh_hd kd fs sc (fun i => gh_sg v t (E i)) (fun j => gh_sg v t (G j))) (io (c * 8 + i)) (ia (c * 8 + i)) (ib (c * 8 + i)) w ↔ ∃ z, gh_bl kd fs (gh_hd kd fs sc E G) (io (c * 8 + i)) (ia (c * 8 + i)) (ib (c * 8 + i)) z ∧ gh_sg v t z = w := by
    intro i hi
    refine gh_tv_sg hv R (gh_WI_9 (W i hi)) ?_ ?_ ?_
    · intro x hx e
      obtain ⟨n, hn, rfl, hp⟩ := gh_WI_us (W i hi) hx
      rw [nI_clamp (by omega)] at e ⊢
      obtain ⟨n3, k2⟩ := gh_hd_none e hn
      refine gh_hd_n e ?_
      intro eG
      rcases hp with hp | ⟨i', hi', o', a'⟩
      · exact absurd hp n3
      · have hj : (n - 3) / 2 < 3 := by omega
        have eh : (gh_hd kd fs sc E G) (nI ((n - 3) / 2)).toNatClampNeg = some (G ((n - 3) / 2)) := by
          rw [nI_clamp (by omega)]
          exact if_pos hj
        have hb : gh_bl kd fs (gh_hd kd fs sc E G) (io (c * 8 + i')) (ia (c * 8 + i')) (ib (c * 8 + i')) v := by
          rw [o', a']
          refine (gh_bl_1 (Or.inl rfl)).mpr ⟨hv, ?_⟩
          rw [eh, eG]
        have := (hc ⟨i', by omega, hb⟩).1
        rw [this]
        decide
    · intro hb
      obtain ⟨c1, c2⟩ := hc ⟨i, hi, hb⟩
      exact ⟨c1, fun z => c2 ⟨i, hi, z⟩⟩
    · have := gh_jv_i (kd := kd) (fs := fs) (h := (gh_hd kd fs sc E G)) (io := io) (ia := ia) (ib := ib) (c := c) hi
      omega
  refine ⟨?_, ?_⟩
  · rw [gh_jv_cg (fun i hi => (key i hi).1), h1]
  · intro w
    constructor
    · rintro ⟨i, hi, k⟩
      obtain ⟨z, k1, k2⟩ := ((key i hi).2 w).mp k
      exact ⟨z, ⟨i, hi, k1⟩, k2⟩
    · rintro ⟨z, ⟨i, hi, k1⟩, k2⟩
      exact ⟨i, hi, ((key i hi).2 w).mpr ⟨z, k1, k2⟩⟩
theorem gh_gs_ne (hv : kd v = 0) (W : ∀ c, c < nK → ∀ i, i < (ic c).toNatClampNeg → gh_WI io ia ib ix c i) (h : gh_gs kd fs (gh_hd kd fs sc E G) io ia ib ic cp gp nK ≠ 1) : gh_gs kd fs (gh_hd kd fs sc (fun i => gh_sg v t (E i)) (fun j => gh_sg v t (G j))) io ia ib ic cp gp nK = gh_gs kd fs (gh_hd kd fs sc E G) io ia ib ic cp gp nK := by
  have l1 := gh_gs_le (kd := kd) (fs := fs) (h := (gh_hd kd fs sc E G)) (io := io) (ia := ia) (ib := ib) (ic := ic) (cp := cp) (gp := gp) (n := nK)
  have l2 := gh_gs_le (kd := kd) (fs := fs) (h := (gh_hd kd fs sc (fun i => gh_sg v t (E i)) (fun j => gh_sg v t (G j)))) (io := io) (ia := ia) (ib := ib) (ic := ic) (cp := cp) (gp := gp) (n := nK)
  by_cases z : gh_gs kd fs (gh_hd kd fs sc E G) io ia ib ic cp gp nK = 2
  · have := gh_gs_ge (kd := kd) (fs := fs) (h := (gh_hd kd fs sc (fun i => gh_sg v t (E i)) (fun j => gh_sg v t (G j)))) (io := io) (ia := ia) (ib := ib) (ic := ic) (cp := cp) (gp := gp) (n := nK) (k := 2) (by omega) (fun c hc e => by
      have h2 := gh_gs_i (kd := kd) (fs := fs) (h := (gh_hd kd fs sc E G)) (io := io) (ia := ia) (ib := ib) (ic := ic) hc e
      have h3 := gh_cv_le (kd := kd) (fs := fs) (h := (gh_hd kd fs sc E G)) (io := io) (ia := ia) (ib := ib) (ic := ic) (c := c)
      have h4 : gh_cv kd fs (gh_hd kd fs sc E G) io ia ib ic c = 2 := by omega
      have h5 : gh_cv kd fs (gh_hd kd fs sc (fun i => gh_sg v t (E i)) (fun j => gh_sg v t (G j))) io ia ib ic c = gh_cv kd fs (gh_hd kd fs sc E G) io ia ib ic c := gh_jv_ne hv (W c hc) (by show gh_cv kd fs (gh_hd kd fs sc E G) io ia ib ic c ≠ 1; omega)
      omega)
    omega
  · obtain ⟨c, hc, e, e0⟩ := gh_gs_x (kd := kd) (fs := fs) (h := (gh_hd kd fs sc E G)) (io := io) (ia := ia) (ib := ib) (ic := ic) (cp := cp) (gp := gp) (n := nK) (k := 0) (by omega) (by omega)
    have h5 : gh_cv kd fs (gh_hd kd fs sc (fun i => gh_sg v t (E i)) (fun j => gh_sg v t (G j))) io ia ib ic c = gh_cv kd fs (gh_hd kd fs sc E G) io ia ib ic c := gh_jv_ne hv (W c hc) (by show gh_cv kd fs (gh_hd kd fs sc E G) io ia ib ic c ≠ 1; omega)
    have h2 := gh_gs_i (kd := kd) (fs := fs) (h := (gh_hd kd fs sc (fun i => gh_sg v t (E i)) (fun j => gh_sg v t (G j)))) (io := io) (ia := ia) (ib := ib) (ic := ic) hc e
    omega
theorem gh_gs_sg (hv : kd v = 0) (W : ∀ c, c < nK → ∀ i, i < (ic c).toNatClampNeg → gh_WI io ia ib ix c i) (h1 : gh_gs kd fs (gh_hd kd fs sc E G) io ia ib ic cp gp nK = 1)
    (hc : gh_wt kd fs (gh_hd kd fs sc E G) io ia ib ic cp gp nK v → kd t = 0 ∧ ¬ gh_wt kd fs (gh_hd kd fs sc E G) io ia ib ic cp gp nK t) :
    gh_gs kd fs (gh_hd kd fs sc (fun i => gh_sg v t (E i)) (fun j => gh_sg v t (G j))) io ia ib ic cp gp nK = 1 ∧ ∀ w, gh_wt kd fs (gh_hd kd fs sc (fun i => gh_sg v t (E i)) (fun j => gh_sg v t (G j))) io ia ib ic cp gp nK w ↔ ∃ z, gh_wt kd fs (gh_hd kd fs sc E G) io ia ib ic cp gp nK z ∧ gh_sg v t z = w := by
  have key : ∀ c, c < nK → cp c = gp → gh_cv kd fs (gh_hd kd fs sc (fun i => gh_sg v t (E i)) (fun j => gh_sg v t (G j))) io ia ib ic c = gh_cv kd fs (gh_hd kd fs sc E G) io ia ib ic c ∧ (gh_cv kd fs (gh_hd kd fs sc E G) io ia ib ic c = 1 → ∀ w, gh_cb kd fs (gh_hd kd fs sc (fun i => gh_sg v t (E i)) (fun j => gh_sg v t (G j))) io ia ib c (ic c).toNatClampNeg w ↔ ∃ z, gh_cb kd fs (gh_hd kd fs sc E G) io ia ib c (ic c).toNatClampNeg z ∧ gh_sg v t z = w) := by
    intro c hcn e
    by_cases z : gh_cv kd fs (gh_hd kd fs sc E G) io ia ib ic c = 1
    · have := gh_jv_sg (t := t) hv (W c hcn) z (fun k => by
        obtain ⟨c1, c2⟩ := hc ⟨c, hcn, e, z, k⟩
        exact ⟨c1, fun k2 => c2 ⟨c, hcn, e, z, k2⟩⟩)
      exact ⟨by rw [z]; exact this.1, fun _ => this.2⟩
    · exact ⟨gh_jv_ne hv (W c hcn) z, fun y => absurd y z⟩
  refine ⟨?_, ?_⟩
  · rw [← h1]
    exact gh_gs_cg (fun c hcn => ⟨rfl, fun e => (key c hcn e).1⟩)
  · intro w
    constructor
    · rintro ⟨c, hcn, e, z, k⟩
      rw [(key c hcn e).1] at z
      obtain ⟨y, k1, k2⟩ := ((key c hcn e).2 z w).mp k
      exact ⟨y, ⟨c, hcn, e, z, k1⟩, k2⟩
    · rintro ⟨y, ⟨c, hcn, e, z, k1⟩, k2⟩
      refine ⟨c, hcn, e, ?_, ((key c hcn e).2 z w).mpr ⟨y, k1, k2⟩⟩
      rw [(key c hcn e).1]
      exact z
end
end
section
/-! the component's tests -/
def gh_HX (nC : Nat) (kd rf fs sc : Nat → Int32) (E : Nat → Nat) : Prop := gh_Ht nC kd rf E ∧ ∀ i, i < nC → kd i = 2 → vp_in (fs i) nC ∧ vp_in (sc i) nC
def gh_Ar (nC : Nat) (ga : Nat → Int32) (s : Nat) : Prop := ∀ j, j < 3 → vp_in (ga (s * 3 + j)) nC
theorem gh_vn {x : Int32} {n : Nat} (h : vp_in x n) : x.toNatClampNeg < n := Nat.lt_of_not_le (fun z => h (Or.inr z))
theorem gh_vx {x : Int32} {n : Nat} (h : vp_in x n) (hn : n < 2 ^ 31) : nI x.toNatClampNeg = x := by
  obtain ⟨j, hj, rfl⟩ := vp_in_of h hn
  rw [nI_clamp (by omega)]
theorem gh_vmono {x : Int32} {n m : Nat} (h : vp_in x n) (hm : n ≤ m) : vp_in x m := fun z => h (z.elim Or.inl (fun z => Or.inr (Nat.le_trans hm z)))
theorem gh_ix3 (s j : Nat) : nI s * 3 + nI j = nI (s * 3 + j) := by
  rw [show nI s * 3 = nI (s * 3) from pk_mul s 3, nI_add]
theorem gh_hf {n : Nat} (h3 : 3 ≤ n) (hn : n ≤ 8) : (nI n - 3) >>> ((1 : Int32) &&& 31) = nI ((n - 3) / 2) := by
  rw [show nI n - 3 = nI (n - 3) from pk_sub (b := 3) h3]
  exact pk_shrN (by omega) _ 1 (by decide)
theorem gh_odd {n : Nat} (hn : n ≤ 8) : nI n &&& 1 = nI (n % 2) := pk_andN (by omega) 1 (by decide)
section
variable {nC : Nat} {kd rf fs sc ga : Nat → Int32} {E : Nat → Nat} {s : Nat}
theorem gh_G_lt (H : gh_HX nC kd rf fs sc E) (A : gh_Ar nC ga s) {j : Nat} (hj : j < 3) : gh_G E ga s j < nC := gh_Ht_e H.1 (gh_vn (A j hj))
theorem gh_H_lt (H : gh_HX nC kd rf fs sc E) (A : gh_Ar nC ga s) {n p : Nat} (h : gh_H kd fs sc E ga s n = some p) : p < nC ∧ rf p < 0 := by
  unfold gh_H gh_hd at h
  by_cases z : n < 3
  · rw [if_pos z] at h
    obtain rfl := Option.some.inj h
    exact ⟨gh_G_lt H A z, gh_Ht_r H.1 (gh_vn (A n z))⟩
  · rw [if_neg z] at h
    by_cases w : n < 9 ∧ kd (gh_G E ga s ((n - 3) / 2)) = 2
    · rw [if_pos w] at h
      have hg := gh_G_lt H A (j := (n - 3) / 2) (by omega)
      obtain ⟨h1, h2⟩ := H.2 _ hg w.2
      obtain rfl := Option.some.inj h
      by_cases y : n % 2 = 0
      · rw [if_pos y]; exact ⟨gh_Ht_e H.1 (gh_vn h2), gh_Ht_r H.1 (gh_vn h2)⟩
      · rw [if_neg y]; exact ⟨gh_Ht_e H.1 (gh_vn h1), gh_Ht_r H.1 (gh_vn h1)⟩
    · rw [if_neg w] at h
      exact absurd h (by simp)
end
theorem gh_lno {w : Int64} {P : Nat → Prop} (h : ∀ z, ¬ P z) : ∀ z, z < 64 → (gh_lb w z = true ↔ (gh_lb w z = true ∨ P z)) := fun z _ => ⟨Or.inl, fun e => e.elim id (fun e => absurd e (h z))⟩
section
variable {f_cells f_goals f_usedSlots f_woken f_clauses f_writing f_openPairs : Int32} {f_blockedOn : Int64} {f_commits f_lastClause f_broken f_cellLimit f_goalLimit f_clauseLimit : Int32} {a_kind a_first a_second a_ref a_hooks a_order a_goalPred a_goalArg a_goalState a_clausePred a_itemCount a_makeCount a_spawnCount a_itemOp a_itemA a_itemB a_itemC a_names : Nat → Int32}
variable {nC : Nat} {E : Nat → Nat} {s : Nat}
theorem gh_hcX {n : Nat} (H : gh_HX nC a_kind a_ref a_first a_second E) (A : gh_Ar nC a_goalArg s) (hs : s < 16) (hn : n ≤ 8) {post : Int32 → Prop} (hp : post (gh_ot ((gh_H a_kind a_first a_second E a_goalArg s) n))) : wpX_headCell post (f_cells, f_goals, f_usedSlots, f_woken, f_clauses, f_writing, f_openPairs, f_blockedOn, f_commits, f_lastClause, f_broken, f_cellLimit, f_goalLimit, f_clauseLimit, a_kind, a_first, a_second, a_ref, a_hooks, a_order, a_goalPred, a_goalArg, a_goalState, a_clausePred, a_itemCount, a_makeCount, a_spawnCount, a_itemOp, a_itemA, a_itemB, a_itemC, a_names) (nI s) (nI n) := by
  have h64 := H.1.1
  by_cases h3 : n < 3
  · refine br_f (nI_ge (b := 3) h3 (by decide)) ?_
    rw [gh_ix3]
    refine And.intro (vp_in_nI (by omega) (by omega)) ?_
    rw [nI_clamp (by omega)]
    refine gh_fX H.1 (A n h3) ?_
    have e : (gh_H a_kind a_first a_second E a_goalArg s) n = some (E (a_goalArg (s * 3 + n)).toNatClampNeg) := if_pos h3
    rw [e] at hp
    exact hp
  · refine br_t (nI_le (a := 3) (by omega) (by omega)) ?_
    rw [gh_hf (by omega) hn, gh_ix3]
    have hj : (n - 3) / 2 < 3 := by omega
    refine And.intro (vp_in_nI (by omega) (by omega)) ?_
    rw [nI_clamp (by omega)]
    refine gh_fX H.1 (A _ hj) ?_
    have hg : gh_G E a_goalArg s ((n - 3) / 2) < nC := gh_G_lt H A hj
    have eg : E (a_goalArg (s * 3 + (n - 3) / 2)).toNatClampNeg = gh_G E a_goalArg s ((n - 3) / 2) := rfl
    rw [eg]
    generalize hgg : gh_G E a_goalArg s ((n - 3) / 2) = g at hg
    have hv : vp_in (nI g) 64 := vp_in_nI (by omega) (by omega)
    refine And.intro hv ?_
    rw [nI_clamp (by omega), gh_odd hn]
    by_cases w : a_kind g = 2
    · obtain ⟨v1, v2⟩ := H.2 g hg w
      refine br_t w ?_
      have e : (gh_H a_kind a_first a_second E a_goalArg s) n = some (if n % 2 = 0 then E (a_second g).toNatClampNeg else E (a_first g).toNatClampNeg) := by
        unfold gh_H gh_hd
        rw [hgg, if_neg h3, if_pos ⟨by omega, w⟩]
      rw [e] at hp
      by_cases y : n % 2 = 0
      · rw [if_pos y] at hp
        rw [y]
        exact br_t rfl (And.intro hv (gh_fX H.1 v2 hp))
      · rw [if_neg y] at hp
        have y1 : n % 2 = 1 := by omega
        rw [y1]
        exact br_f (by decide) (And.intro hv (gh_fX H.1 v1 hp))
    · refine br_f w ?_
      have e : (gh_H a_kind a_first a_second E a_goalArg s) n = none := by
        unfold gh_H gh_hd
        rw [hgg, if_neg h3, if_neg (fun z => w z.2)]
      rw [e] at hp
      exact hp
theorem gh_blk2 {q : Nat} (hq : q < 64) {post : Int32 → SX → Prop} (k : ∀ B, (∀ z, z < 64 → (gh_lb B z = true ↔ (gh_lb f_blockedOn z = true ∨ (a_kind z = 0 ∧ z = q)))) → post 1 (f_cells, f_goals, f_usedSlots, f_woken, f_clauses, f_writing, f_openPairs, B, f_commits, f_lastClause, f_broken, f_cellLimit, f_goalLimit, f_clauseLimit, a_kind, a_first, a_second, a_ref, a_hooks, a_order, a_goalPred, a_goalArg, a_goalState, a_clausePred, a_itemCount, a_makeCount, a_spawnCount, a_itemOp, a_itemA, a_itemB, a_itemC, a_names)) : wX_block_21 post (nI q) f_cells f_goals f_usedSlots f_woken f_clauses f_writing f_openPairs f_blockedOn f_commits f_lastClause f_broken f_cellLimit f_goalLimit f_clauseLimit a_kind a_first a_second a_ref a_hooks a_order a_goalPred a_goalArg a_goalState a_clausePred a_itemCount a_makeCount a_spawnCount a_itemOp a_itemA a_itemB a_itemC a_names := by
  refine And.intro (vp_in_nI hq (by omega)) ?_
  rw [nI_clamp (by omega)]
  refine br_c (fun h => nm_e (k _ ?_)) (fun h => k _ (gh_lno ?_))
  · intro z hz
    rw [gh_lset hq hz]
    constructor
    · rintro (e | rfl)
      · exact Or.inl e
      · exact Or.inr ⟨h, rfl⟩
    · rintro (e | ⟨_, e⟩)
      · exact Or.inl e
      · exact Or.inr e
  · rintro z ⟨e, rfl⟩
    exact h e
theorem gh_blk {p q : Nat} (hp : p < 64) (hq : q < 64) {post : Int32 → SX → Prop} (k : ∀ B, (∀ z, z < 64 → (gh_lb B z = true ↔ (gh_lb f_blockedOn z = true ∨ (a_kind z = 0 ∧ (z = p ∨ z = q))))) → post 1 (f_cells, f_goals, f_usedSlots, f_woken, f_clauses, f_writing, f_openPairs, B, f_commits, f_lastClause, f_broken, f_cellLimit, f_goalLimit, f_clauseLimit, a_kind, a_first, a_second, a_ref, a_hooks, a_order, a_goalPred, a_goalArg, a_goalState, a_clausePred, a_itemCount, a_makeCount, a_spawnCount, a_itemOp, a_itemA, a_itemB, a_itemC, a_names)) : wpX_block post (f_cells, f_goals, f_usedSlots, f_woken, f_clauses, f_writing, f_openPairs, f_blockedOn, f_commits, f_lastClause, f_broken, f_cellLimit, f_goalLimit, f_clauseLimit, a_kind, a_first, a_second, a_ref, a_hooks, a_order, a_goalPred, a_goalArg, a_goalState, a_clausePred, a_itemCount, a_makeCount, a_spawnCount, a_itemOp, a_itemA, a_itemB, a_itemC, a_names) (nI p) (nI q) := by
  refine And.intro (vp_in_nI hp (by omega)) ?_
  rw [nI_clamp (by omega)]
  refine br_c (fun h => nm_e (gh_blk2 hq (fun B hB => k B ?_))) (fun h => gh_blk2 hq (fun B hB => k B ?_))
  · intro z hz
    rw [hB z hz, gh_lset hp hz]
    constructor
    · rintro ((e | rfl) | ⟨e1, e2⟩)
      · exact Or.inl e
      · exact Or.inr ⟨h, Or.inl rfl⟩
      · exact Or.inr ⟨e1, Or.inr e2⟩
    · rintro (e | ⟨e1, e2 | e2⟩)
      · exact Or.inl (Or.inl e)
      · exact Or.inl (Or.inr e2)
      · exact Or.inr ⟨e1, e2⟩
  · intro z hz
    rw [hB z hz]
    constructor
    · rintro (e | ⟨e1, e2⟩)
      · exact Or.inl e
      · exact Or.inr ⟨e1, Or.inr e2⟩
    · rintro (e | ⟨e1, e2 | e2⟩)
      · exact Or.inl e
      · rw [e2] at e1
        exact absurd e1 h
      · exact Or.inr ⟨e1, e2⟩
theorem gh_ktX {x : Option Nat} (hx : ∀ p, x = some p → p < 64) {w : Int32} {post : Int32 → SX → Prop} (k : ∀ B, (∀ z, z < 64 → (gh_lb B z = true ↔ (gh_lb f_blockedOn z = true ∨ gh_k1 a_kind x z))) → post (nI (gh_kt a_kind w x)) (f_cells, f_goals, f_usedSlots, f_woken, f_clauses, f_writing, f_openPairs, B, f_commits, f_lastClause, f_broken, f_cellLimit, f_goalLimit, f_clauseLimit, a_kind, a_first, a_second, a_ref, a_hooks, a_order, a_goalPred, a_goalArg, a_goalState, a_clausePred, a_itemCount, a_makeCount, a_spawnCount, a_itemOp, a_itemA, a_itemB, a_itemC, a_names)) : wpX_kindTest post (f_cells, f_goals, f_usedSlots, f_woken, f_clauses, f_writing, f_openPairs, f_blockedOn, f_commits, f_lastClause, f_broken, f_cellLimit, f_goalLimit, f_clauseLimit, a_kind, a_first, a_second, a_ref, a_hooks, a_order, a_goalPred, a_goalArg, a_goalState, a_clausePred, a_itemCount, a_makeCount, a_spawnCount, a_itemOp, a_itemA, a_itemB, a_itemC, a_names) (gh_ot x) w := by
  cases x with
  | none => exact br_f gh_m1nle (k f_blockedOn (gh_lno (fun z e => absurd e.2 (by simp))))
  | some p =>
    have hp := hx p rfl
    have hv : vp_in (nI p) 64 := vp_in_nI hp (by omega)
    show wpX_kindTest post (f_cells, f_goals, f_usedSlots, f_woken, f_clauses, f_writing, f_openPairs, f_blockedOn, f_commits, f_lastClause, f_broken, f_cellLimit, f_goalLimit, f_clauseLimit, a_kind, a_first, a_second, a_ref, a_hooks, a_order, a_goalPred, a_goalArg, a_goalState, a_clausePred, a_itemCount, a_makeCount, a_spawnCount, a_itemOp, a_itemA, a_itemB, a_itemC, a_names) (nI p) w
    refine br_t (nI_pos' (by omega)) (And.intro hv ?_)
    rw [nI_clamp (by omega)]
    refine br_c (fun h0 => ?_) (fun h0 => And.intro hv (br_c (fun hw => ?_) (fun hw => ?_)))
    · refine gh_blk hp hp (fun B hB => ?_)
      have t := k B (fun z hz => by
        rw [hB z hz]
        constructor
        · rintro (e | ⟨e1, e2⟩)
          · exact Or.inl e
          · obtain rfl : z = p := e2.elim id id
            exact Or.inr ⟨e1, rfl⟩
        · rintro (e | ⟨e1, e2⟩)
          · exact Or.inl e
          · exact Or.inr ⟨e1, Or.inl (Option.some.inj e2).symm⟩)
      rw [show gh_kt a_kind w (some p) = 1 from if_pos h0] at t
      exact t
    · have t := k f_blockedOn (gh_lno (fun z e => by
        obtain ⟨e1, e2⟩ := e
        rw [← Option.some.inj e2] at e1
        exact h0 e1))
      rw [show gh_kt a_kind w (some p) = 0 from (if_neg h0).trans (if_pos hw)] at t
      exact t
    · have t := k f_blockedOn (gh_lno (fun z e => by
        obtain ⟨e1, e2⟩ := e
        rw [← Option.some.inj e2] at e1
        exact h0 e1))
      rw [show gh_kt a_kind w (some p) = 2 from (if_neg h0).trans (if_neg hw)] at t
      exact t
theorem gh_itX {x : Option Nat} (hx : ∀ p, x = some p → p < 64) {w : Int32} {post : Int32 → SX → Prop} (k : ∀ B, (∀ z, z < 64 → (gh_lb B z = true ↔ (gh_lb f_blockedOn z = true ∨ gh_k1 a_kind x z))) → post (nI (gh_it a_kind a_first w x)) (f_cells, f_goals, f_usedSlots, f_woken, f_clauses, f_writing, f_openPairs, B, f_commits, f_lastClause, f_broken, f_cellLimit, f_goalLimit, f_clauseLimit, a_kind, a_first, a_second, a_ref, a_hooks, a_order, a_goalPred, a_goalArg, a_goalState, a_clausePred, a_itemCount, a_makeCount, a_spawnCount, a_itemOp, a_itemA, a_itemB, a_itemC, a_names)) : wpX_isTest post (f_cells, f_goals, f_usedSlots, f_woken, f_clauses, f_writing, f_openPairs, f_blockedOn, f_commits, f_lastClause, f_broken, f_cellLimit, f_goalLimit, f_clauseLimit, a_kind, a_first, a_second, a_ref, a_hooks, a_order, a_goalPred, a_goalArg, a_goalState, a_clausePred, a_itemCount, a_makeCount, a_spawnCount, a_itemOp, a_itemA, a_itemB, a_itemC, a_names) (gh_ot x) w := by
  unfold wpX_isTest
  dsimp only
  refine gh_ktX hx (fun B hB => ?_)
  have t := k B hB
  cases x with
  | none => exact br_f (show ¬ nI 1 = 0 by decide) t
  | some p =>
    have hp := hx p rfl
    have hv : vp_in (nI p) 64 := vp_in_nI hp (by omega)
    by_cases h0 : a_kind p = 0
    · rw [show gh_kt a_kind 1 (some p) = 1 from if_pos h0]
      rw [show gh_it a_kind a_first w (some p) = 1 from if_pos h0] at t
      exact br_f (by decide) t
    · by_cases h1 : a_kind p = 1
      · rw [show gh_kt a_kind 1 (some p) = 0 from (if_neg h0).trans (if_pos h1)]
        have ec : (gh_ot (some p)).toNatClampNeg = p := nI_clamp (by omega)
        refine br_t rfl (And.intro hv ?_)
        rw [ec]
        have e : gh_it a_kind a_first w (some p) = (if a_first p = w then 0 else 2) := (if_neg h0).trans (if_pos h1)
        rw [e] at t
        refine br_c (fun h => ?_) (fun h => ?_)
        · rw [if_pos h] at t; exact t
        · rw [if_neg h] at t; exact t
      · rw [show gh_kt a_kind 1 (some p) = 2 from (if_neg h0).trans (if_neg h1)]
        rw [show gh_it a_kind a_first w (some p) = 2 from (if_neg h0).trans (if_neg h1)] at t
        exact br_f (by decide) t
theorem gh_ntX {x y : Option Nat} (hx : ∀ p, x = some p → p < 64) (hy : ∀ p, y = some p → p < 64) {post : Int32 → SX → Prop} (k : ∀ B, (∀ z, z < 64 → (gh_lb B z = true ↔ (gh_lb f_blockedOn z = true ∨ (gh_k1 a_kind x z ∨ gh_k1 a_kind y z)))) → post (nI (max (gh_kt a_kind 1 x) (gh_kt a_kind 1 y))) (f_cells, f_goals, f_usedSlots, f_woken, f_clauses, f_writing, f_openPairs, B, f_commits, f_lastClause, f_broken, f_cellLimit, f_goalLimit, f_clauseLimit, a_kind, a_first, a_second, a_ref, a_hooks, a_order, a_goalPred, a_goalArg, a_goalState, a_clausePred, a_itemCount, a_makeCount, a_spawnCount, a_itemOp, a_itemA, a_itemB, a_itemC, a_names)) : wpX_numbersTest post (f_cells, f_goals, f_usedSlots, f_woken, f_clauses, f_writing, f_openPairs, f_blockedOn, f_commits, f_lastClause, f_broken, f_cellLimit, f_goalLimit, f_clauseLimit, a_kind, a_first, a_second, a_ref, a_hooks, a_order, a_goalPred, a_goalArg, a_goalState, a_clausePred, a_itemCount, a_makeCount, a_spawnCount, a_itemOp, a_itemA, a_itemB, a_itemC, a_names) (gh_ot x) (gh_ot y) := by
  unfold wpX_numbersTest
  dsimp only
  refine gh_ktX hx (fun B hB => ?_)
  refine gh_ktX hy (fun C hC => ?_)
  have t := k C (fun z hz => by
    rw [hC z hz, hB z hz, or_assoc])
  have l1 := gh_kt_le (kd := a_kind) (w := 1) (x := x)
  have l2 := gh_kt_le (kd := a_kind) (w := 1) (x := y)
  generalize gh_kt a_kind 1 x = m at t l1
  generalize gh_kt a_kind 1 y = n at t l2
  refine pk_le m n (fun h => ?_) (fun h => ?_)
  · rw [Nat.max_eq_right h] at t; exact t
  · rw [Nat.max_eq_left (by omega)] at t; exact t
theorem gh_ltX {p q : Nat} (hp : p < 64) (hq : q < 64) {post : Int32 → SX → Prop} (k : ∀ B, (∀ z, z < 64 → (gh_lb B z = true ↔ (gh_lb f_blockedOn z = true ∨ (gh_lt2 a_kind a_first p q = 1 ∧ gh_b2 a_kind (some p) (some q) z)))) → post (nI (gh_lt2 a_kind a_first p q)) (f_cells, f_goals, f_usedSlots, f_woken, f_clauses, f_writing, f_openPairs, B, f_commits, f_lastClause, f_broken, f_cellLimit, f_goalLimit, f_clauseLimit, a_kind, a_first, a_second, a_ref, a_hooks, a_order, a_goalPred, a_goalArg, a_goalState, a_clausePred, a_itemCount, a_makeCount, a_spawnCount, a_itemOp, a_itemA, a_itemB, a_itemC, a_names)) : wpX_lessTest post (f_cells, f_goals, f_usedSlots, f_woken, f_clauses, f_writing, f_openPairs, f_blockedOn, f_commits, f_lastClause, f_broken, f_cellLimit, f_goalLimit, f_clauseLimit, a_kind, a_first, a_second, a_ref, a_hooks, a_order, a_goalPred, a_goalArg, a_goalState, a_clausePred, a_itemCount, a_makeCount, a_spawnCount, a_itemOp, a_itemA, a_itemB, a_itemC, a_names) (nI p) (nI q) := by
  have vp : vp_in (nI p) 64 := vp_in_nI hp (by omega)
  have vq : vp_in (nI q) 64 := vp_in_nI hq (by omega)
  have ep : (nI p).toNatClampNeg = p := nI_clamp (by omega)
  have eq : (nI q).toNatClampNeg = q := nI_clamp (by omega)
  have blk : gh_lt2 a_kind a_first p q = 1 → wX_lessTest_40 post (nI p) (nI q) f_cells f_goals f_usedSlots f_woken f_clauses f_writing f_openPairs f_blockedOn f_commits f_lastClause f_broken f_cellLimit f_goalLimit f_clauseLimit a_kind a_first a_second a_ref a_hooks a_order a_goalPred a_goalArg a_goalState a_clausePred a_itemCount a_makeCount a_spawnCount a_itemOp a_itemA a_itemB a_itemC a_names := fun e => by
    refine gh_blk hp hq (fun B hB => ?_)
    have t := k B (fun z hz => by
      rw [hB z hz]
      constructor
      · rintro (a | ⟨a, b⟩)
        · exact Or.inl a
        · exact Or.inr ⟨e, a, p, q, rfl, rfl, b⟩
      · rintro (a | ⟨_, a, p', q', b1, b2, b⟩)
        · exact Or.inl a
        · rw [← Option.some.inj b1, ← Option.some.inj b2] at b
          exact Or.inr ⟨a, b⟩)
    rw [e] at t
    exact t
  refine And.intro vp ?_
  rw [ep]
  refine br_c (fun h => ?_) (fun h1 => And.intro vq ?_)
  · have e : gh_lt2 a_kind a_first p q = 2 := if_pos h
    have t := k f_blockedOn (gh_lno (fun z w => by rw [e] at w; exact absurd w.1 (by decide)))
    rw [e] at t
    exact t
  · rw [eq]
    refine br_c (fun h => ?_) (fun h2 => And.intro vp ?_)
    · have e : gh_lt2 a_kind a_first p q = 2 := (if_neg h1).trans (if_pos h)
      have t := k f_blockedOn (gh_lno (fun z w => by rw [e] at w; exact absurd w.1 (by decide)))
      rw [e] at t
      exact t
    · refine br_c (fun h => ?_) (fun h3 => And.intro vq ?_)
      · exact blk ((if_neg h1).trans ((if_neg h2).trans (if_pos h)))
      · refine br_c (fun h => ?_) (fun h4 => And.intro vp (And.intro vq ?_))
        · exact blk ((if_neg h1).trans ((if_neg h2).trans ((if_neg h3).trans (if_pos h))))
        · refine br_c (fun h => ?_) (fun h => ?_)
          · have e : gh_lt2 a_kind a_first p q = 2 := (if_neg h1).trans ((if_neg h2).trans ((if_neg h3).trans ((if_neg h4).trans (if_pos h))))
            have t := k f_blockedOn (gh_lno (fun z w => by rw [e] at w; exact absurd w.1 (by decide)))
            rw [e] at t
            exact t
          · have e : gh_lt2 a_kind a_first p q = 0 := (if_neg h1).trans ((if_neg h2).trans ((if_neg h3).trans ((if_neg h4).trans (if_neg h))))
            have t := k f_blockedOn (gh_lno (fun z w => by rw [e] at w; exact absurd w.1 (by decide)))
            rw [e] at t
            exact t
theorem gh_stX {p q : Nat} (hp : p < 64) (hq : q < 64) {post : Int32 → SX → Prop} (k : ∀ B, (∀ z, z < 64 → (gh_lb B z = true ↔ (gh_lb f_blockedOn z = true ∨ (gh_st2 a_kind a_first p q = 1 ∧ gh_b2 a_kind (some p) (some q) z)))) → post (nI (gh_st2 a_kind a_first p q)) (f_cells, f_goals, f_usedSlots, f_woken, f_clauses, f_writing, f_openPairs, B, f_commits, f_lastClause, f_broken, f_cellLimit, f_goalLimit, f_clauseLimit, a_kind, a_first, a_second, a_ref, a_hooks, a_order, a_goalPred, a_goalArg, a_goalState, a_clausePred, a_itemCount, a_makeCount, a_spawnCount, a_itemOp, a_itemA, a_itemB, a_itemC, a_names)) : wpX_sameTest post (f_cells, f_goals, f_usedSlots, f_woken, f_clauses, f_writing, f_openPairs, f_blockedOn, f_commits, f_lastClause, f_broken, f_cellLimit, f_goalLimit, f_clauseLimit, a_kind, a_first, a_second, a_ref, a_hooks, a_order, a_goalPred, a_goalArg, a_goalState, a_clausePred, a_itemCount, a_makeCount, a_spawnCount, a_itemOp, a_itemA, a_itemB, a_itemC, a_names) (nI p) (nI q) := by
  have vp : vp_in (nI p) 64 := vp_in_nI hp (by omega)
  have vq : vp_in (nI q) 64 := vp_in_nI hq (by omega)
  have ep : (nI p).toNatClampNeg = p := nI_clamp (by omega)
  have eq : (nI q).toNatClampNeg = q := nI_clamp (by omega)
  have blk : gh_st2 a_kind a_first p q = 1 → wX_sameTest_25 post (nI p) (nI q) f_cells f_goals f_usedSlots f_woken f_clauses f_writing f_openPairs f_blockedOn f_commits f_lastClause f_broken f_cellLimit f_goalLimit f_clauseLimit a_kind a_first a_second a_ref a_hooks a_order a_goalPred a_goalArg a_goalState a_clausePred a_itemCount a_makeCount a_spawnCount a_itemOp a_itemA a_itemB a_itemC a_names := fun e => by
    refine gh_blk hp hq (fun B hB => ?_)
    have t := k B (fun z hz => by
      rw [hB z hz]
      constructor
      · rintro (a | ⟨a, b⟩)
        · exact Or.inl a
        · exact Or.inr ⟨e, a, p, q, rfl, rfl, b⟩
      · rintro (a | ⟨_, a, p', q', b1, b2, b⟩)
        · exact Or.inl a
        · rw [← Option.some.inj b1, ← Option.some.inj b2] at b
          exact Or.inr ⟨a, b⟩)
    rw [e] at t
    exact t
  have none1 : ∀ m, m ≠ 1 → gh_st2 a_kind a_first p q = m → post (nI m) (f_cells, f_goals, f_usedSlots, f_woken, f_clauses, f_writing, f_openPairs, f_blockedOn, f_commits, f_lastClause, f_broken, f_cellLimit, f_goalLimit, f_clauseLimit, a_kind, a_first, a_second, a_ref, a_hooks, a_order, a_goalPred, a_goalArg, a_goalState, a_clausePred, a_itemCount, a_makeCount, a_spawnCount, a_itemOp, a_itemA, a_itemB, a_itemC, a_names) := fun m hm e => by
    have t := k f_blockedOn (gh_lno (fun z w => by rw [e] at w; exact absurd w.1 hm))
    rw [e] at t
    exact t
  refine br_c (fun h => ?_) (fun h1 => And.intro vp ?_)
  · have h' : p = q := (nI_eq (by omega) (by omega)).mp h
    exact none1 0 (by decide) (if_pos h')
  · have h1' : ¬ p = q := fun e => h1 (by rw [e])
    rw [ep]
    refine br_c (fun h => ?_) (fun h2 => And.intro vq ?_)
    · exact blk ((if_neg h1').trans (if_pos h))
    · rw [eq]
      refine br_c (fun h => ?_) (fun h3 => And.intro vp ?_)
      · exact blk ((if_neg h1').trans ((if_neg h2).trans (if_pos h)))
      · have e3 : gh_st2 a_kind a_first p q = (if a_kind p = 1 then (if a_kind q = 1 then (if a_first p = a_first q then 0 else 2) else 2) else 2) := (if_neg h1').trans ((if_neg h2).trans (if_neg h3))
        have no : gh_st2 a_kind a_first p q = 2 → wX_sameTest_56 post (nI p) (nI q) f_cells f_goals f_usedSlots f_woken f_clauses f_writing f_openPairs f_blockedOn f_commits f_lastClause f_broken f_cellLimit f_goalLimit f_clauseLimit a_kind a_first a_second a_ref a_hooks a_order a_goalPred a_goalArg a_goalState a_clausePred a_itemCount a_makeCount a_spawnCount a_itemOp a_itemA a_itemB a_itemC a_names := fun e => by
          show wX_sameTest_57 post (nI p) (nI q) 0 f_cells f_goals f_usedSlots f_woken f_clauses f_writing f_openPairs f_blockedOn f_commits f_lastClause f_broken f_cellLimit f_goalLimit f_clauseLimit a_kind a_first a_second a_ref a_hooks a_order a_goalPred a_goalArg a_goalState a_clausePred a_itemCount a_makeCount a_spawnCount a_itemOp a_itemA a_itemB a_itemC a_names
          exact br_t rfl (none1 2 (by decide) e)
        refine br_c (fun h4 => And.intro vq ?_) (fun h4 => no (e3.trans (if_neg h4)))
        refine br_c (fun h5 => ?_) (fun h5 => no (e3.trans ((if_pos h4).trans (if_neg h5))))
        show wX_sameTest_57 post (nI p) (nI q) 1 f_cells f_goals f_usedSlots f_woken f_clauses f_writing f_openPairs f_blockedOn f_commits f_lastClause f_broken f_cellLimit f_goalLimit f_clauseLimit a_kind a_first a_second a_ref a_hooks a_order a_goalPred a_goalArg a_goalState a_clausePred a_itemCount a_makeCount a_spawnCount a_itemOp a_itemA a_itemB a_itemC a_names
        refine br_f (by decide) (And.intro vp (And.intro vq ?_))
        rw [ep, eq]
        refine br_c (fun h6 => ?_) (fun h6 => ?_)
        · exact none1 0 (by decide) (e3.trans ((if_pos h4).trans ((if_pos h5).trans (if_pos h6))))
        · exact none1 2 (by decide) (e3.trans ((if_pos h4).trans ((if_pos h5).trans (if_neg h6))))
end
end
section
/-! the component: test, judge, first ready clause, hooks, settle -/
theorem gh_bl_none {kd fs : Nat → Int32} {h : Nat → Option Nat} {op a b : Int32} (ho : op = 3 ∨ op = 4 ∨ op = 5) (hx : h a.toNatClampNeg = none ∨ h b.toNatClampNeg = none) (z : Nat) : ¬ gh_bl kd fs h op a b z := by
  intro k
  obtain ⟨_, _, p, q, e1, e2, _⟩ := (gh_bl_2 ho).mp k
  rcases hx with e | e
  · rw [e] at e1; exact absurd e1 (by simp)
  · rw [e] at e2; exact absurd e2 (by simp)
theorem gh_ix8 (c i : Nat) : nI c * 8 + nI i = nI (c * 8 + i) := by
  rw [show nI c * 8 = nI (c * 8) from pk_mul c 8, nI_add]
theorem gh_cb_s {kd fs : Nat → Int32} {h : Nat → Option Nat} {io ia ib : Nat → Int32} {c i z : Nat} : gh_cb kd fs h io ia ib c (i + 1) z ↔ (gh_cb kd fs h io ia ib c i z ∨ gh_bl kd fs h (io (c * 8 + i)) (ia (c * 8 + i)) (ib (c * 8 + i)) z) := by
  constructor
  · rintro ⟨j, hj, k⟩
    by_cases e : j = i
    · rw [e] at k; exact Or.inr k
    · exact Or.inl ⟨j, by omega, k⟩
  · rintro (⟨j, hj, k⟩ | k)
    · exact ⟨j, by omega, k⟩
    · exact ⟨i, by omega, k⟩
/-! the hooks of a slot taken away, and set again -/
def gh_uhf (q : Nat) (m : Int32) (hk : Nat → Int32) : Nat → Int32 := fun v => if v < q then hk v &&& m else hk v
noncomputable def gh_hkf (q : Nat) (P : Nat → Prop) (b : Int32) (hk : Nat → Int32) : Nat → Int32 := fun v => @ite _ (v < q ∧ P v) (Classical.propDecidable _) (hk v ||| b) (hk v)
theorem gh_uhf_0 {m : Int32} {hk : Nat → Int32} : gh_uhf 0 m hk = hk := funext fun _ => if_neg (Nat.not_lt_zero _)
theorem gh_uhf_s {q : Nat} {m : Int32} {hk : Nat → Int32} : upd (gh_uhf q m hk) q (gh_uhf q m hk q &&& m) = gh_uhf (q + 1) m hk := by
  funext v
  by_cases e : v = q
  · subst e
    rw [pk_us]
    unfold gh_uhf
    rw [if_neg (Nat.lt_irrefl _), if_pos (by omega)]
  · rw [pk_un e]
    unfold gh_uhf
    by_cases z : v < q
    · rw [if_pos z, if_pos (by omega)]
    · rw [if_neg z, if_neg (by omega)]
theorem gh_uhf_b {q s v i : Nat} {hk : Nat → Int32} (hs : s < 32) (hi : i < 32) (hv : v < q) : bt (gh_uhf q (((1 : Int32) <<< (nI s &&& 31)) ^^^ (-1)) hk v) i = true ↔ (bt (hk v) i = true ∧ i ≠ s) := by
  unfold gh_uhf
  rw [if_pos hv, gh_clr hs hi]
theorem gh_hkf_0 {P : Nat → Prop} {b : Int32} {hk : Nat → Int32} : gh_hkf 0 P b hk = hk := funext fun _ => if_neg (fun z => Nat.not_lt_zero _ z.1)
theorem gh_hkf_n {q : Nat} {P : Nat → Prop} {b : Int32} {hk : Nat → Int32} (h : ¬ P q) : gh_hkf (q + 1) P b hk = gh_hkf q P b hk := by
  funext v
  unfold gh_hkf
  by_cases z : v < q ∧ P v
  · rw [if_pos z, if_pos ⟨by omega, z.2⟩]
  · rw [if_neg z]
    refine if_neg ?_
    rintro ⟨a, c⟩
    by_cases e : v = q
    · rw [e] at c; exact h c
    · exact z ⟨by omega, c⟩
theorem gh_hkf_s {q : Nat} {P : Nat → Prop} {b : Int32} {hk : Nat → Int32} (h : P q) : upd (gh_hkf q P b hk) q (gh_hkf q P b hk q ||| b) = gh_hkf (q + 1) P b hk := by
  funext v
  by_cases e : v = q
  · subst e
    rw [pk_us]
    unfold gh_hkf
    rw [if_neg (fun z => Nat.lt_irrefl _ z.1), if_pos ⟨by omega, h⟩]
  · rw [pk_un e]
    unfold gh_hkf
    by_cases z : v < q ∧ P v
    · rw [if_pos z, if_pos ⟨by omega, z.2⟩]
    · rw [if_neg z, if_neg (fun y => z ⟨by omega, y.2⟩)]
theorem gh_hkf_b {q s v i : Nat} {P : Nat → Prop} {hk : Nat → Int32} (hs : s < 32) (hi : i < 32) (hv : v < q) : bt (gh_hkf q P ((1 : Int32) <<< (nI s &&& 31)) hk v) i = true ↔ (bt (hk v) i = true ∨ (i = s ∧ P v)) := by
  unfold gh_hkf
  by_cases z : P v
  · rw [if_pos ⟨hv, z⟩, gh_set hs hi]
    exact ⟨fun y => y.elim Or.inl (fun y => Or.inr ⟨y, z⟩), fun y => y.elim Or.inl (fun y => Or.inr y.1)⟩
  · rw [if_neg (fun y => z y.2)]
    exact ⟨Or.inl, fun y => y.elim id (fun y => absurd y.2 z)⟩
theorem gh_hkf_no {q : Nat} {P : Nat → Prop} {b : Int32} {hk : Nat → Int32} (h : ∀ v, ¬ P v) : gh_hkf q P b hk = hk := funext fun v => if_neg (fun z => h v z.2)
section
variable {f_cells f_goals f_usedSlots f_woken f_clauses f_writing f_openPairs : Int32} {f_blockedOn : Int64} {f_commits f_lastClause f_broken f_cellLimit f_goalLimit f_clauseLimit : Int32} {a_kind a_first a_second a_ref a_hooks a_order a_goalPred a_goalArg a_goalState a_clausePred a_itemCount a_makeCount a_spawnCount a_itemOp a_itemA a_itemB a_itemC a_names : Nat → Int32}
variable {nC : Nat} {E : Nat → Nat} {s : Nat}
theorem gh_tX {q : Nat} (H : gh_HX nC a_kind a_ref a_first a_second E) (A : gh_Ar nC a_goalArg s) (hs : s < 16) (hq : q < 128) (h9 : gh_nine (a_itemOp q)) (hn : ∀ x, gh_us (a_itemOp q) (a_itemA q) (a_itemB q) x → ∃ n, n ≤ 8 ∧ x = nI n) {post : Int32 → SX → Prop}
    (k : ∀ B, (∀ z, z < 64 → (gh_lb B z = true ↔ (gh_lb f_blockedOn z = true ∨ gh_bl a_kind a_first (gh_H a_kind a_first a_second E a_goalArg s) (a_itemOp q) (a_itemA q) (a_itemB q) z))) → post (nI (gh_tv a_kind a_first (gh_H a_kind a_first a_second E a_goalArg s) (a_itemOp q) (a_itemA q) (a_itemB q))) (f_cells, f_goals, f_usedSlots, f_woken, f_clauses, f_writing, f_openPairs, B, f_commits, f_lastClause, f_broken, f_cellLimit, f_goalLimit, f_clauseLimit, a_kind, a_first, a_second, a_ref, a_hooks, a_order, a_goalPred, a_goalArg, a_goalState, a_clausePred, a_itemCount, a_makeCount, a_spawnCount, a_itemOp, a_itemA, a_itemB, a_itemC, a_names)) : wpX_test post (f_cells, f_goals, f_usedSlots, f_woken, f_clauses, f_writing, f_openPairs, f_blockedOn, f_commits, f_lastClause, f_broken, f_cellLimit, f_goalLimit, f_clauseLimit, a_kind, a_first, a_second, a_ref, a_hooks, a_order, a_goalPred, a_goalArg, a_goalState, a_clausePred, a_itemCount, a_makeCount, a_spawnCount, a_itemOp, a_itemA, a_itemB, a_itemC, a_names) (nI s) (nI q) := by
  have hv : vp_in (nI q) 128 := vp_in_nI hq (by omega)
  have ec : (nI q).toNatClampNeg = q := nI_clamp (by omega)
  have bd : ∀ n p, (gh_H a_kind a_first a_second E a_goalArg s) n = some p → p < 64 := fun n p e => by
    have h1 := (gh_H_lt H A e).1
    have h2 := H.1.1
    omega
  refine And.intro hv ?_
  rw [ec]
  rcases h9 with e | e | e | e | e | e | e | e | ⟨o, ho, h5, hn9, hn10, e⟩
  · obtain ⟨n, n8, ea⟩ := hn (a_itemA q) (Or.inl ⟨Or.inl e, rfl⟩)
    rw [e, ea] at k
    rw [gh_tv_0, nI_clamp (n := n) (by omega)] at k
    rw [e]
    refine nm_e (br_t (by decide) (And.intro hv ?_))
    rw [ec, ea]
    refine gh_hcX H A hs n8 (br_t rfl ?_)
    refine gh_ktX (bd n) (fun B hB => k B (fun z hz => ?_))
    rw [gh_bl_1 (Or.inl rfl), nI_clamp (n := n) (by omega)]
    exact hB z hz
  · obtain ⟨n, n8, ea⟩ := hn (a_itemA q) (Or.inl ⟨Or.inr (Or.inl e), rfl⟩)
    rw [e, ea] at k
    rw [gh_tv_1, nI_clamp (n := n) (by omega)] at k
    rw [e]
    refine nm_e (br_t (by decide) (And.intro hv ?_))
    rw [ec, ea]
    refine gh_hcX H A hs n8 (br_f (by decide) (br_t rfl (And.intro hv ?_)))
    refine gh_itX (bd n) (fun B hB => k B (fun z hz => ?_))
    rw [gh_bl_1 (Or.inr (Or.inl rfl)), nI_clamp (n := n) (by omega)]
    exact hB z hz
  · obtain ⟨n, n8, ea⟩ := hn (a_itemA q) (Or.inl ⟨Or.inr (Or.inr (Or.inl e)), rfl⟩)
    rw [e, ea] at k
    rw [gh_tv_2, nI_clamp (n := n) (by omega)] at k
    rw [e]
    refine nm_e (br_t (by decide) (And.intro hv ?_))
    rw [ec, ea]
    refine gh_hcX H A hs n8 (br_f (by decide) (br_f (by decide) (br_t rfl ?_)))
    refine gh_ktX (bd n) (fun B hB => k B (fun z hz => ?_))
    rw [gh_bl_1 (Or.inr (Or.inr (Or.inl rfl))), nI_clamp (n := n) (by omega)]
    exact hB z hz
  · obtain ⟨n, n8, ea⟩ := hn (a_itemA q) (Or.inl ⟨Or.inr (Or.inr (Or.inr (Or.inl e))), rfl⟩)
    rw [e, ea] at k
    rw [gh_tv_9, nI_clamp (n := n) (by omega)] at k
    rw [e]
    refine nm_e (br_f (by decide) (br_t rfl (And.intro hv ?_)))
    rw [ec, ea]
    refine gh_hcX H A hs n8 (br_f (by decide) (br_f (by decide) (br_f (by decide) (br_t rfl ?_))))
    refine gh_ktX (bd n) (fun B hB => k B (fun z hz => ?_))
    rw [gh_bl_1 (Or.inr (Or.inr (Or.inr rfl))), nI_clamp (n := n) (by omega)]
    exact hB z hz
  · obtain ⟨n, n8, ea⟩ := hn (a_itemA q) (Or.inl ⟨Or.inr (Or.inr (Or.inr (Or.inr (Or.inr (Or.inr (Or.inr e)))))), rfl⟩)
    obtain ⟨m, m8, eb⟩ := hn (a_itemB q) (Or.inr ⟨Or.inr (Or.inr (Or.inr e)), rfl⟩)
    rw [e, ea, eb] at k
    rw [gh_tv_10, nI_clamp (n := n) (by omega), nI_clamp (n := m) (by omega)] at k
    rw [e]
    refine nm_e (br_f (by decide) (br_f (by decide) (br_t rfl (And.intro hv ?_))))
    rw [ec, ea, eb]
    refine gh_hcX H A hs n8 (br_f (by decide) (br_f (by decide) (br_f (by decide) (br_f (by decide) (And.intro hv ?_)))))
    refine gh_hcX H A hs m8 (br_t rfl ?_)
    refine gh_ntX (bd n) (bd m) (fun B hB => k B (fun z hz => ?_))
    rw [gh_bl_10, nI_clamp (n := n) (by omega), nI_clamp (n := m) (by omega)]
    exact hB z hz
  · obtain ⟨n, n8, ea⟩ := hn (a_itemA q) (Or.inl ⟨Or.inr (Or.inr (Or.inr (Or.inr (Or.inl e)))), rfl⟩)
    obtain ⟨m, m8, eb⟩ := hn (a_itemB q) (Or.inr ⟨Or.inl e, rfl⟩)
    rw [e, ea, eb] at k
    have cn : (nI n).toNatClampNeg = n := nI_clamp (by omega)
    have cm : (nI m).toNatClampNeg = m := nI_clamp (by omega)
    have no := gh_bl_none (kd := a_kind) (fs := a_first) (h := (gh_H a_kind a_first a_second E a_goalArg s)) (op := 3) (a := nI n) (b := nI m) (Or.inl rfl)
    have bl2 := fun z => gh_bl_2 (kd := a_kind) (fs := a_first) (h := (gh_H a_kind a_first a_second E a_goalArg s)) (op := 3) (a := nI n) (b := nI m) (z := z) (Or.inl rfl)
    rw [gh_tv_3, cn, cm] at k bl2
    rw [cn, cm] at no
    rw [e]
    refine nm_e (br_t (by decide) (And.intro hv ?_))
    rw [ec, ea, eb]
    refine gh_hcX H A hs n8 (br_f (by decide) (br_f (by decide) (br_f (by decide) (br_f (by decide) (And.intro hv ?_)))))
    refine gh_hcX H A hs m8 (br_f (by decide) ?_)
    have bn := bd n
    have bm := bd m
    generalize (gh_H a_kind a_first a_second E a_goalArg s) n = x at k bl2 no bn ⊢
    generalize (gh_H a_kind a_first a_second E a_goalArg s) m = y at k bl2 no bm ⊢
    cases x with
    | none => exact br_t gh_m1neg (k f_blockedOn (gh_lno (no (Or.inl rfl))))
    | some p =>
      have hp := bn p rfl
      refine br_f (nI_pos (by omega)) ?_
      cases y with
      | none => exact br_f gh_m1nle (k f_blockedOn (gh_lno (no (Or.inr rfl))))
      | some r =>
        have hr := bm r rfl
        refine br_t (nI_pos' (by omega)) (br_t rfl ?_)
        refine gh_ltX hp hr (fun B hB => k B (fun z hz => ?_))
        rw [bl2]
        exact hB z hz
  · obtain ⟨n, n8, ea⟩ := hn (a_itemA q) (Or.inl ⟨Or.inr (Or.inr (Or.inr (Or.inr (Or.inr (Or.inl e))))), rfl⟩)
    obtain ⟨m, m8, eb⟩ := hn (a_itemB q) (Or.inr ⟨Or.inr (Or.inl e), rfl⟩)
    rw [e, ea, eb] at k
    have cn : (nI n).toNatClampNeg = n := nI_clamp (by omega)
    have cm : (nI m).toNatClampNeg = m := nI_clamp (by omega)
    have no := gh_bl_none (kd := a_kind) (fs := a_first) (h := (gh_H a_kind a_first a_second E a_goalArg s)) (op := 4) (a := nI n) (b := nI m) (Or.inr (Or.inl rfl))
    have bl2 := fun z => gh_bl_2 (kd := a_kind) (fs := a_first) (h := (gh_H a_kind a_first a_second E a_goalArg s)) (op := 4) (a := nI n) (b := nI m) (z := z) (Or.inr (Or.inl rfl))
    rw [gh_tv_4, cn, cm] at k bl2
    rw [cn, cm] at no
    rw [e]
    refine nm_e (br_t (by decide) (And.intro hv ?_))
    rw [ec, ea, eb]
    refine gh_hcX H A hs n8 (br_f (by decide) (br_f (by decide) (br_f (by decide) (br_f (by decide) (And.intro hv ?_)))))
    refine gh_hcX H A hs m8 (br_f (by decide) ?_)
    have bn := bd n
    have bm := bd m
    generalize (gh_H a_kind a_first a_second E a_goalArg s) n = x at k bl2 no bn ⊢
    generalize (gh_H a_kind a_first a_second E a_goalArg s) m = y at k bl2 no bm ⊢
    cases x with
    | none => exact br_t gh_m1neg (k f_blockedOn (gh_lno (no (Or.inl rfl))))
    | some p =>
      have hp := bn p rfl
      refine br_f (nI_pos (by omega)) ?_
      cases y with
      | none => exact br_f gh_m1nle (k f_blockedOn (gh_lno (no (Or.inr rfl))))
      | some r =>
        have hr := bm r rfl
        refine br_t (nI_pos' (by omega)) (br_f (by decide) ?_)
        refine gh_stX hp hr (fun B hB => br_t rfl (k B (fun z hz => ?_)))
        rw [bl2]
        exact hB z hz
  · obtain ⟨n, n8, ea⟩ := hn (a_itemA q) (Or.inl ⟨Or.inr (Or.inr (Or.inr (Or.inr (Or.inr (Or.inr (Or.inl e)))))), rfl⟩)
    obtain ⟨m, m8, eb⟩ := hn (a_itemB q) (Or.inr ⟨Or.inr (Or.inr (Or.inl e)), rfl⟩)
    rw [e, ea, eb] at k
    have cn : (nI n).toNatClampNeg = n := nI_clamp (by omega)
    have cm : (nI m).toNatClampNeg = m := nI_clamp (by omega)
    have no := gh_bl_none (kd := a_kind) (fs := a_first) (h := (gh_H a_kind a_first a_second E a_goalArg s)) (op := 5) (a := nI n) (b := nI m) (Or.inr (Or.inr rfl))
    have bl2 := fun z => gh_bl_2 (kd := a_kind) (fs := a_first) (h := (gh_H a_kind a_first a_second E a_goalArg s)) (op := 5) (a := nI n) (b := nI m) (z := z) (Or.inr (Or.inr rfl))
    rw [gh_tv_5, cn, cm] at k bl2
    rw [cn, cm] at no
    rw [e]
    refine nm_e (br_t (by decide) (And.intro hv ?_))
    rw [ec, ea, eb]
    refine gh_hcX H A hs n8 (br_f (by decide) (br_f (by decide) (br_f (by decide) (br_f (by decide) (And.intro hv ?_)))))
    refine gh_hcX H A hs m8 (br_f (by decide) ?_)
    have bn := bd n
    have bm := bd m
    generalize (gh_H a_kind a_first a_second E a_goalArg s) n = x at k bl2 no bn ⊢
    generalize (gh_H a_kind a_first a_second E a_goalArg s) m = y at k bl2 no bm ⊢
    cases x with
    | none => exact br_t gh_m1neg (k f_blockedOn (gh_lno (no (Or.inl rfl))))
    | some p =>
      have hp := bn p rfl
      refine br_f (nI_pos (by omega)) ?_
      cases y with
      | none => exact br_f gh_m1nle (k f_blockedOn (gh_lno (no (Or.inr rfl))))
      | some r =>
        have hr := bm r rfl
        have l := gh_st2_le (kd := a_kind) (fs := a_first) (p := p) (q := r)
        refine br_t (nI_pos' (by omega)) (br_f (by decide) ?_)
        refine gh_stX hp hr (fun B hB => br_f (by decide) ?_)
        rw [show (2 : Int32) - nI (gh_st2 a_kind a_first p r) = nI (2 - gh_st2 a_kind a_first p r) from pk_sub (a := 2) l]
        refine k B (fun z hz => ?_)
        rw [bl2, hB z hz]
        have e3 : (2 - gh_two (gh_st2 a_kind a_first) (some p) (some r) = 1) ↔ gh_st2 a_kind a_first p r = 1 := by
          show (2 - gh_st2 a_kind a_first p r = 1) ↔ gh_st2 a_kind a_first p r = 1
          omega
        rw [e3]
  · rw [e] at k
    rw [gh_tv_n ho h5 hn9 hn10] at k
    rw [e]
    refine nm_e (br_f (nI_ge (a := 5) h5 (by omega)) (br_f (gh_op (k := 9) ho (by omega) hn9) (br_f (gh_op (k := 10) ho (by omega) hn10) (k f_blockedOn (gh_lno (fun z => ?_))))))
    exact gh_bl_n ho h5 hn9 hn10
/-! judge -/
theorem gh_jx {c m : Nat} (H : gh_HX nC a_kind a_ref a_first a_second E) (A : gh_Ar nC a_goalArg s) (hs : s < 16) (hc : c < 16) (hm : m ≤ 8) (ec : a_itemCount c = nI m) (W : ∀ i, i < m → gh_WI a_itemOp a_itemA a_itemB a_itemC c i) {post : Int32 → SX → Prop}
    (k : ∀ B, (gh_jv a_kind a_first (gh_H a_kind a_first a_second E a_goalArg s) a_itemOp a_itemA a_itemB c m ≠ 2 → ∀ z, z < 64 → (gh_lb B z = true ↔ gh_cb a_kind a_first (gh_H a_kind a_first a_second E a_goalArg s) a_itemOp a_itemA a_itemB c m z)) → post (nI (gh_jv a_kind a_first (gh_H a_kind a_first a_second E a_goalArg s) a_itemOp a_itemA a_itemB c m)) (f_cells, f_goals, f_usedSlots, f_woken, f_clauses, f_writing, f_openPairs, B, f_commits, f_lastClause, f_broken, f_cellLimit, f_goalLimit, f_clauseLimit, a_kind, a_first, a_second, a_ref, a_hooks, a_order, a_goalPred, a_goalArg, a_goalState, a_clausePred, a_itemCount, a_makeCount, a_spawnCount, a_itemOp, a_itemA, a_itemB, a_itemC, a_names)) :
    ∀ d i n B, i + d = m → d < n → (gh_jv a_kind a_first (gh_H a_kind a_first a_second E a_goalArg s) a_itemOp a_itemA a_itemB c i ≠ 2 → ∀ z, z < 64 → (gh_lb B z = true ↔ gh_cb a_kind a_first (gh_H a_kind a_first a_second E a_goalArg s) a_itemOp a_itemA a_itemB c i z)) → wX_judge_10 post (nI s) (nI c) n (nI (gh_jv a_kind a_first (gh_H a_kind a_first a_second E a_goalArg s) a_itemOp a_itemA a_itemB c i)) (nI i) f_cells f_goals f_usedSlots f_woken f_clauses f_writing f_openPairs B f_commits f_lastClause f_broken f_cellLimit f_goalLimit f_clauseLimit a_kind a_first a_second a_ref a_hooks a_order a_goalPred a_goalArg a_goalState a_clausePred a_itemCount a_makeCount a_spawnCount a_itemOp a_itemA a_itemB a_itemC a_names := by
  have hv : vp_in (nI c) 16 := vp_in_nI hc (by omega)
  have cc : (nI c).toNatClampNeg = c := nI_clamp (by omega)
  intro d
  induction d with
  | zero =>
    intro i n B hi hn hB
    obtain ⟨n, rfl⟩ : ∃ n', n = n' + 1 := ⟨n - 1, by omega⟩
    obtain rfl : i = m := by omega
    refine And.intro hv ?_
    rw [cc, ec]
    exact br_t (nI_le (Nat.le_refl _) (by omega)) (k B hB)
  | succ d ih =>
    intro i n B hi hn hB
    obtain ⟨n, rfl⟩ : ∃ n', n = n' + 1 := ⟨n - 1, by omega⟩
    refine And.intro hv ?_
    rw [cc, ec]
    refine br_f (nI_ge (by omega) (by omega)) ?_
    have lj := gh_jv_le (kd := a_kind) (fs := a_first) (h := (gh_H a_kind a_first a_second E a_goalArg s)) (io := a_itemOp) (ia := a_itemA) (ib := a_itemB) (c := c) (n := i)
    by_cases z : gh_jv a_kind a_first (gh_H a_kind a_first a_second E a_goalArg s) a_itemOp a_itemA a_itemB c i = 2
    · have z2 : gh_jv a_kind a_first (gh_H a_kind a_first a_second E a_goalArg s) a_itemOp a_itemA a_itemB c m = 2 := by
        have h1 := gh_jv_mono (kd := a_kind) (fs := a_first) (h := (gh_H a_kind a_first a_second E a_goalArg s)) (io := a_itemOp) (ia := a_itemA) (ib := a_itemB) (c := c) (i := i) (n := m) (by omega)
        have h2 := gh_jv_le (kd := a_kind) (fs := a_first) (h := (gh_H a_kind a_first a_second E a_goalArg s)) (io := a_itemOp) (ia := a_itemA) (ib := a_itemB) (c := c) (n := m)
        omega
      have t := k B (fun h => absurd z2 h)
      rw [z2] at t
      rw [z]
      exact br_t rfl t
    · refine br_f (fun e => z ((nI_eq (a := gh_jv a_kind a_first (gh_H a_kind a_first a_second E a_goalArg s) a_itemOp a_itemA a_itemB c i) (b := 2) (by omega) (by omega)).mp e)) ?_
      rw [gh_ix8]
      have lt := gh_tv_le (kd := a_kind) (fs := a_first) (h := (gh_H a_kind a_first a_second E a_goalArg s)) (op := a_itemOp (c * 8 + i)) (a := a_itemA (c * 8 + i)) (b := a_itemB (c * 8 + i))
      have es : gh_jv a_kind a_first (gh_H a_kind a_first a_second E a_goalArg s) a_itemOp a_itemA a_itemB c (i + 1) = max (gh_jv a_kind a_first (gh_H a_kind a_first a_second E a_goalArg s) a_itemOp a_itemA a_itemB c i) (gh_tv a_kind a_first (gh_H a_kind a_first a_second E a_goalArg s) (a_itemOp (c * 8 + i)) (a_itemA (c * 8 + i)) (a_itemB (c * 8 + i))) := rfl
      refine gh_tX H A hs (by omega) (gh_WI_9 (W i (by omega))) (fun x hx => ?_) (fun B' hB' => ?_)
      · obtain ⟨n, h1, h2, _⟩ := gh_WI_us (W i (by omega)) hx
        exact ⟨n, h1, h2⟩
      · have t := ih (i + 1) n B' (by omega) (by omega) (fun hne z hz => by
          rw [hB' z hz, hB (by omega) z hz, gh_cb_s])
        refine pk_le (gh_tv a_kind a_first (gh_H a_kind a_first a_second E a_goalArg s) (a_itemOp (c * 8 + i)) (a_itemA (c * 8 + i)) (a_itemB (c * 8 + i))) (gh_jv a_kind a_first (gh_H a_kind a_first a_second E a_goalArg s) a_itemOp a_itemA a_itemB c i) (fun h => nm_r (nI_1 i) ?_) (fun h => nm_r (nI_1 i) ?_)
        · rw [es, Nat.max_eq_left h] at t
          exact t
        · rw [es, Nat.max_eq_right (by omega)] at t
          exact t
theorem gh_jX {c m : Nat} (H : gh_HX nC a_kind a_ref a_first a_second E) (A : gh_Ar nC a_goalArg s) (hs : s < 16) (hc : c < 16) (hm : m ≤ 8) (ec : a_itemCount c = nI m) (W : ∀ i, i < m → gh_WI a_itemOp a_itemA a_itemB a_itemC c i) {post : Int32 → SX → Prop}
    (k : ∀ B, (gh_jv a_kind a_first (gh_H a_kind a_first a_second E a_goalArg s) a_itemOp a_itemA a_itemB c m ≠ 2 → ∀ z, z < 64 → (gh_lb B z = true ↔ gh_cb a_kind a_first (gh_H a_kind a_first a_second E a_goalArg s) a_itemOp a_itemA a_itemB c m z)) → post (nI (gh_jv a_kind a_first (gh_H a_kind a_first a_second E a_goalArg s) a_itemOp a_itemA a_itemB c m)) (f_cells, f_goals, f_usedSlots, f_woken, f_clauses, f_writing, f_openPairs, B, f_commits, f_lastClause, f_broken, f_cellLimit, f_goalLimit, f_clauseLimit, a_kind, a_first, a_second, a_ref, a_hooks, a_order, a_goalPred, a_goalArg, a_goalState, a_clausePred, a_itemCount, a_makeCount, a_spawnCount, a_itemOp, a_itemA, a_itemB, a_itemC, a_names)) : wpX_judge post (f_cells, f_goals, f_usedSlots, f_woken, f_clauses, f_writing, f_openPairs, f_blockedOn, f_commits, f_lastClause, f_broken, f_cellLimit, f_goalLimit, f_clauseLimit, a_kind, a_first, a_second, a_ref, a_hooks, a_order, a_goalPred, a_goalArg, a_goalState, a_clausePred, a_itemCount, a_makeCount, a_spawnCount, a_itemOp, a_itemA, a_itemB, a_itemC, a_names) (nI s) (nI c) :=
  Exists.intro (m + 1) (gh_jx H A hs hc hm ec W k m 0 (m + 1) 0 (by omega) (by omega) (fun _ z _ => ⟨fun e => absurd e gh_l0, fun ⟨i, hi, _⟩ => absurd hi (Nat.not_lt_zero _)⟩))
/-- the clauses below n are well formed -/
def gh_CW (n : Nat) (ic io ia ib ix : Nat → Int32) : Prop := ∀ c, c < n → c < 16 ∧ ∃ m, m ≤ 8 ∧ ic c = nI m ∧ ∀ i, i < m → gh_WI io ia ib ix c i
theorem gh_ocx {nK : Nat} (hf : f_clauses = nI nK) (hs : s < 16) (H : gh_HX nC a_kind a_ref a_first a_second E) (A : gh_Ar nC a_goalArg s) (W : gh_CW nK a_itemCount a_itemOp a_itemA a_itemB a_itemC) {post : Int32 → SX → Prop}
    (k : ∀ B, post (gh_ot (gh_fi (fun c => a_clausePred c = a_goalPred s ∧ gh_cv a_kind a_first (gh_H a_kind a_first a_second E a_goalArg s) a_itemOp a_itemA a_itemB a_itemCount c = 0) nK)) (f_cells, f_goals, f_usedSlots, f_woken, f_clauses, f_writing, f_openPairs, B, f_commits, f_lastClause, f_broken, f_cellLimit, f_goalLimit, f_clauseLimit, a_kind, a_first, a_second, a_ref, a_hooks, a_order, a_goalPred, a_goalArg, a_goalState, a_clausePred, a_itemCount, a_makeCount, a_spawnCount, a_itemOp, a_itemA, a_itemB, a_itemC, a_names)) :
    ∀ d c n B, c + d = nK → d < n → (∀ c', c' < c → ¬ (a_clausePred c' = a_goalPred s ∧ gh_cv a_kind a_first (gh_H a_kind a_first a_second E a_goalArg s) a_itemOp a_itemA a_itemB a_itemCount c' = 0)) → wX_openClause_2 post (nI s) n (nI c) f_cells f_goals f_usedSlots f_woken f_clauses f_writing f_openPairs B f_commits f_lastClause f_broken f_cellLimit f_goalLimit f_clauseLimit a_kind a_first a_second a_ref a_hooks a_order a_goalPred a_goalArg a_goalState a_clausePred a_itemCount a_makeCount a_spawnCount a_itemOp a_itemA a_itemB a_itemC a_names := by
  subst hf
  have vs : vp_in (nI s) 16 := vp_in_nI hs (by omega)
  have cs : (nI s).toNatClampNeg = s := nI_clamp (by omega)
  have h16 : nK ≤ 16 := by
    rcases Nat.eq_zero_or_pos nK with z | z
    · omega
    · have := (W (nK - 1) (by omega)).1
      omega
  intro d
  induction d with
  | zero =>
    intro c n B hc hn hP
    obtain ⟨n, rfl⟩ : ∃ n', n = n' + 1 := ⟨n - 1, by omega⟩
    obtain rfl : c = nK := by omega
    have t := k B
    rw [gh_fi_n _ hP] at t
    exact br_t (nI_le (Nat.le_refl _) (by omega)) t
  | succ d ih =>
    intro c n B hc hn hP
    obtain ⟨n, rfl⟩ : ∃ n', n = n' + 1 := ⟨n - 1, by omega⟩
    have cc : (nI c).toNatClampNeg = c := nI_clamp (by omega)
    obtain ⟨c16, m, hm, em, Wc⟩ := W c (by omega)
    refine br_f (nI_ge (by omega) (by omega)) (And.intro (vp_in_nI c16 (by omega)) (And.intro vs ?_))
    rw [cc, cs]
    have ecv : gh_cv a_kind a_first (gh_H a_kind a_first a_second E a_goalArg s) a_itemOp a_itemA a_itemB a_itemCount c = gh_jv a_kind a_first (gh_H a_kind a_first a_second E a_goalArg s) a_itemOp a_itemA a_itemB c m := by
      show gh_jv a_kind a_first (gh_H a_kind a_first a_second E a_goalArg s) a_itemOp a_itemA a_itemB c (a_itemCount c).toNatClampNeg = _
      rw [em, nI_clamp (by omega)]
    refine br_c (fun hp => ?_) (fun hp => nm_r (nI_1 c) ?_)
    · refine gh_jX H A hs c16 hm em Wc (fun B' _ => ?_)
      rw [← ecv]
      have lv := gh_cv_le (kd := a_kind) (fs := a_first) (h := (gh_H a_kind a_first a_second E a_goalArg s)) (io := a_itemOp) (ia := a_itemA) (ib := a_itemB) (ic := a_itemCount) (c := c)
      refine pk_eq (gh_cv a_kind a_first (gh_H a_kind a_first a_second E a_goalArg s) a_itemOp a_itemA a_itemB a_itemCount c) 0 (fun h0 => ?_) (fun h0 => nm_r (nI_1 c) ?_)
      · have t := k B'
        rw [gh_fi_s ⟨hp, h0⟩ hP nK (by omega)] at t
        exact t
      · exact ih (c + 1) n B' (by omega) (by omega) (fun c' hc' => by
          by_cases e : c' = c
          · rw [e]; exact fun z => h0 z.2
          · exact hP c' (by omega))
    · exact ih (c + 1) n B (by omega) (by omega) (fun c' hc' => by
        by_cases e : c' = c
        · rw [e]; exact fun z => hp z.1
        · exact hP c' (by omega))
theorem gh_ocX {nK : Nat} (hf : f_clauses = nI nK) (hs : s < 16) (H : gh_HX nC a_kind a_ref a_first a_second E) (A : gh_Ar nC a_goalArg s) (W : gh_CW nK a_itemCount a_itemOp a_itemA a_itemB a_itemC) {post : Int32 → SX → Prop}
    (k : ∀ B, post (gh_ot (gh_fi (fun c => a_clausePred c = a_goalPred s ∧ gh_cv a_kind a_first (gh_H a_kind a_first a_second E a_goalArg s) a_itemOp a_itemA a_itemB a_itemCount c = 0) nK)) (f_cells, f_goals, f_usedSlots, f_woken, f_clauses, f_writing, f_openPairs, B, f_commits, f_lastClause, f_broken, f_cellLimit, f_goalLimit, f_clauseLimit, a_kind, a_first, a_second, a_ref, a_hooks, a_order, a_goalPred, a_goalArg, a_goalState, a_clausePred, a_itemCount, a_makeCount, a_spawnCount, a_itemOp, a_itemA, a_itemB, a_itemC, a_names)) : wpX_openClause post (f_cells, f_goals, f_usedSlots, f_woken, f_clauses, f_writing, f_openPairs, f_blockedOn, f_commits, f_lastClause, f_broken, f_cellLimit, f_goalLimit, f_clauseLimit, a_kind, a_first, a_second, a_ref, a_hooks, a_order, a_goalPred, a_goalArg, a_goalState, a_clausePred, a_itemCount, a_makeCount, a_spawnCount, a_itemOp, a_itemA, a_itemB, a_itemC, a_names) (nI s) :=
  Exists.intro (nK + 1) (gh_ocx hf hs H A W k nK 0 (nK + 1) f_blockedOn (by omega) (by omega) (fun c hc => absurd hc (Nat.not_lt_zero _)))
/-! hooks -/
theorem gh_uhx {m : Int32} (hf : f_cells = nI nC) (h64 : nC ≤ 64) {post : SX → Prop} (k : post (f_cells, f_goals, f_usedSlots, f_woken, f_clauses, f_writing, f_openPairs, f_blockedOn, f_commits, f_lastClause, f_broken, f_cellLimit, f_goalLimit, f_clauseLimit, a_kind, a_first, a_second, a_ref, (gh_uhf nC m a_hooks), a_order, a_goalPred, a_goalArg, a_goalState, a_clausePred, a_itemCount, a_makeCount, a_spawnCount, a_itemOp, a_itemA, a_itemB, a_itemC, a_names)) :
    ∀ d q n, q + d = nC → d < n → wX_unhook_8 post m f_cells f_goals f_usedSlots f_woken f_clauses f_writing f_openPairs f_blockedOn f_commits f_lastClause f_broken f_cellLimit f_goalLimit f_clauseLimit n (nI q) a_kind a_first a_second a_ref (gh_uhf q m a_hooks) a_order a_goalPred a_goalArg a_goalState a_clausePred a_itemCount a_makeCount a_spawnCount a_itemOp a_itemA a_itemB a_itemC a_names := by
  subst hf
  intro d
  induction d with
  | zero =>
    intro q n hq hn
    obtain ⟨n, rfl⟩ : ∃ n', n = n' + 1 := ⟨n - 1, by omega⟩
    obtain rfl : q = nC := by omega
    exact br_t (nI_le (Nat.le_refl _) (by omega)) k
  | succ d ih =>
    intro q n hq hn
    obtain ⟨n, rfl⟩ : ∃ n', n = n' + 1 := ⟨n - 1, by omega⟩
    have vq : vp_in (nI q) 64 := vp_in_nI (by omega) (by omega)
    refine br_f (nI_ge (by omega) (by omega)) (And.intro vq (And.intro vq ?_))
    rw [nI_clamp (by omega)]
    exact nm_r gh_uhf_s (nm_r (nI_1 q) (ih (q + 1) n (by omega) (by omega)))
theorem gh_uhX (hf : f_cells = nI nC) (h64 : nC ≤ 64) {post : SX → Prop} (k : post (f_cells, f_goals, f_usedSlots, f_woken, f_clauses, f_writing, f_openPairs, f_blockedOn, f_commits, f_lastClause, f_broken, f_cellLimit, f_goalLimit, f_clauseLimit, a_kind, a_first, a_second, a_ref, (gh_uhf nC (((1 : Int32) <<< (nI s &&& 31)) ^^^ (-1)) a_hooks), a_order, a_goalPred, a_goalArg, a_goalState, a_clausePred, a_itemCount, a_makeCount, a_spawnCount, a_itemOp, a_itemA, a_itemB, a_itemC, a_names)) : wpX_unhook post (f_cells, f_goals, f_usedSlots, f_woken, f_clauses, f_writing, f_openPairs, f_blockedOn, f_commits, f_lastClause, f_broken, f_cellLimit, f_goalLimit, f_clauseLimit, a_kind, a_first, a_second, a_ref, a_hooks, a_order, a_goalPred, a_goalArg, a_goalState, a_clausePred, a_itemCount, a_makeCount, a_spawnCount, a_itemOp, a_itemA, a_itemB, a_itemC, a_names) (nI s) := by
  have t := gh_uhx hf h64 k nC 0 (nC + 1) (by omega) (by omega)
  rw [gh_uhf_0] at t
  exact nm_e (Exists.intro (nC + 1) t)
theorem gh_hkx {w : Int64} {P : Nat → Prop} (hf : f_cells = nI nC) (h64 : nC ≤ 64) (hw : ∀ v, v < nC → (gh_lb w v = true ↔ P v)) {post : SX → Prop} (k : post (f_cells, f_goals, f_usedSlots, f_woken, f_clauses, f_writing, f_openPairs, f_blockedOn, f_commits, f_lastClause, f_broken, f_cellLimit, f_goalLimit, f_clauseLimit, a_kind, a_first, a_second, a_ref, (gh_hkf nC P ((1 : Int32) <<< (nI s &&& 31)) a_hooks), a_order, a_goalPred, a_goalArg, a_goalState, a_clausePred, a_itemCount, a_makeCount, a_spawnCount, a_itemOp, a_itemA, a_itemB, a_itemC, a_names)) :
    ∀ d q n, q + d = nC → d < n → wX_hook_3 post (nI s) w f_cells f_goals f_usedSlots f_woken f_clauses f_writing f_openPairs f_blockedOn f_commits f_lastClause f_broken f_cellLimit f_goalLimit f_clauseLimit n (nI q) a_kind a_first a_second a_ref (gh_hkf q P ((1 : Int32) <<< (nI s &&& 31)) a_hooks) a_order a_goalPred a_goalArg a_goalState a_clausePred a_itemCount a_makeCount a_spawnCount a_itemOp a_itemA a_itemB a_itemC a_names := by
  subst hf
  intro d
  induction d with
  | zero =>
    intro q n hq hn
    obtain ⟨n, rfl⟩ : ∃ n', n = n' + 1 := ⟨n - 1, by omega⟩
    obtain rfl : q = nC := by omega
    exact br_t (nI_le (Nat.le_refl _) (by omega)) k
  | succ d ih =>
    intro q n hq hn
    obtain ⟨n, rfl⟩ : ∃ n', n = n' + 1 := ⟨n - 1, by omega⟩
    have vq : vp_in (nI q) 64 := vp_in_nI (by omega) (by omega)
    refine br_f (nI_ge (by omega) (by omega)) (br_c (fun h => nm_r (nI_1 q) ?_) (fun h => And.intro vq (And.intro vq ?_)))
    · rw [gh_lt0 (by omega)] at h
      have t := ih (q + 1) n (by omega) (by omega)
      rw [gh_hkf_n (fun z => by rw [← hw q (by omega), h] at z; exact absurd z (by decide))] at t
      exact t
    · rw [gh_lt0 (by omega)] at h
      have h1 : P q := (hw q (by omega)).mp (ts_nf h)
      rw [nI_clamp (by omega)]
      exact nm_r (gh_hkf_s h1) (nm_r (nI_1 q) (ih (q + 1) n (by omega) (by omega)))
theorem gh_hkX {w : Int64} {P : Nat → Prop} (hf : f_cells = nI nC) (h64 : nC ≤ 64) (hw : ∀ v, v < nC → (gh_lb w v = true ↔ P v)) {post : SX → Prop} (k : post (f_cells, f_goals, f_usedSlots, f_woken, f_clauses, f_writing, f_openPairs, f_blockedOn, f_commits, f_lastClause, f_broken, f_cellLimit, f_goalLimit, f_clauseLimit, a_kind, a_first, a_second, a_ref, (gh_hkf nC P ((1 : Int32) <<< (nI s &&& 31)) a_hooks), a_order, a_goalPred, a_goalArg, a_goalState, a_clausePred, a_itemCount, a_makeCount, a_spawnCount, a_itemOp, a_itemA, a_itemB, a_itemC, a_names)) : wpX_hook post (f_cells, f_goals, f_usedSlots, f_woken, f_clauses, f_writing, f_openPairs, f_blockedOn, f_commits, f_lastClause, f_broken, f_cellLimit, f_goalLimit, f_clauseLimit, a_kind, a_first, a_second, a_ref, a_hooks, a_order, a_goalPred, a_goalArg, a_goalState, a_clausePred, a_itemCount, a_makeCount, a_spawnCount, a_itemOp, a_itemA, a_itemB, a_itemC, a_names) (nI s) w := by
  have t := gh_hkx (s := s) hf h64 hw k nC 0 (nC + 1) (by omega) (by omega)
  rw [gh_hkf_0] at t
  exact Exists.intro (nC + 1) t
end
end
section
/-! the component: settle, wake, append, remove -/
/-- the places from j to N take what stands w further on -/
def gh_shf (j N w : Nat) (f : Nat → Int32) : Nat → Int32 := fun i => if j ≤ i ∧ i < N then f (i + w) else f i
theorem gh_shf_0 {j w : Nat} {f : Nat → Int32} : gh_shf j j w f = f := funext fun i => if_neg (fun z => by omega)
theorem gh_shf_s {j q w : Nat} {f : Nat → Int32} (hj : j ≤ q) : upd (gh_shf j q w f) q (gh_shf j q w f (q + w)) = gh_shf j (q + 1) w f := by
  funext i
  have e2 : gh_shf j q w f (q + w) = f (q + w) := if_neg (fun z => by omega)
  rw [e2]
  by_cases e : i = q
  · subst e
    rw [pk_us]
    exact (if_pos ⟨hj, by omega⟩).symm
  · rw [pk_un e]
    unfold gh_shf
    by_cases z : j ≤ i ∧ i < q
    · rw [if_pos z, if_pos ⟨z.1, by omega⟩]
    · rw [if_neg z, if_neg (fun y => z ⟨y.1, by omega⟩)]
theorem gh_shf_lo {j N w i : Nat} {f : Nat → Int32} (h : i < j) : gh_shf j N w f i = f i := if_neg (fun z => by omega)
theorem gh_shf_mi {j N w i : Nat} {f : Nat → Int32} (h : j ≤ i) (h2 : i < N) : gh_shf j N w f i = f (i + w) := if_pos ⟨h, h2⟩
theorem gh_shf_hi {j N w i : Nat} {f : Nat → Int32} (h : N ≤ i) : gh_shf j N w f i = f i := if_neg (fun z => by omega)
section
variable {kd fs : Nat → Int32} {h : Nat → Option Nat} {io ia ib ic cp : Nat → Int32} {gp : Int32}
theorem gh_gs_anti {c : Nat} : ∀ {n : Nat}, c ≤ n → gh_gs kd fs h io ia ib ic cp gp n ≤ gh_gs kd fs h io ia ib ic cp gp c := by
  intro n
  induction n with
  | zero => intro z; obtain rfl : c = 0 := by omega
            exact Nat.le_refl _
  | succ n ih =>
    intro z
    by_cases e : c = n + 1
    · rw [e]; exact Nat.le_refl _
    · have := ih (by omega)
      show (if cp n = gp then min _ _ else _) ≤ _
      split
      · omega
      · exact this
theorem gh_gs_y {c : Nat} (e : cp c = gp) : gh_gs kd fs h io ia ib ic cp gp (c + 1) = min (gh_gs kd fs h io ia ib ic cp gp c) (gh_cv kd fs h io ia ib ic c) := if_pos e
theorem gh_gs_n {c : Nat} (e : ¬ cp c = gp) : gh_gs kd fs h io ia ib ic cp gp (c + 1) = gh_gs kd fs h io ia ib ic cp gp c := if_neg e
theorem gh_wt_s {c z : Nat} : gh_wt kd fs h io ia ib ic cp gp (c + 1) z ↔ (gh_wt kd fs h io ia ib ic cp gp c z ∨ (cp c = gp ∧ gh_cv kd fs h io ia ib ic c = 1 ∧ gh_cb kd fs h io ia ib c (ic c).toNatClampNeg z)) := by
  constructor
  · rintro ⟨j, hj, k⟩
    by_cases e : j = c
    · rw [e] at k; exact Or.inr k
    · exact Or.inl ⟨j, by omega, k⟩
  · rintro (⟨j, hj, k⟩ | k)
    · exact ⟨j, by omega, k⟩
    · exact ⟨c, by omega, k⟩
end
section
variable {f_cells f_goals f_usedSlots f_woken f_clauses f_writing f_openPairs : Int32} {f_blockedOn : Int64} {f_commits f_lastClause f_broken f_cellLimit f_goalLimit f_clauseLimit : Int32} {a_kind a_first a_second a_ref a_hooks a_order a_goalPred a_goalArg a_goalState a_clausePred a_itemCount a_makeCount a_spawnCount a_itemOp a_itemA a_itemB a_itemC a_names : Nat → Int32}
variable {nC : Nat} {E : Nat → Nat} {s : Nat}
theorem gh_se1 {nK : Nat} {w B : Int64} (hf : f_cells = nI nC) (h64 : nC ≤ 64) (hs : s < 16) {post : SX → Prop}
    (k : ∀ B, post (f_cells, f_goals, f_usedSlots, f_woken, f_clauses, f_writing, f_openPairs, B, f_commits, f_lastClause, f_broken, f_cellLimit, f_goalLimit, f_clauseLimit, a_kind, a_first, a_second, a_ref, (gh_hkf nC (fun v => gh_gs a_kind a_first (gh_H a_kind a_first a_second E a_goalArg s) a_itemOp a_itemA a_itemB a_itemCount a_clausePred (a_goalPred s) nK = 1 ∧ gh_wt a_kind a_first (gh_H a_kind a_first a_second E a_goalArg s) a_itemOp a_itemA a_itemB a_itemCount a_clausePred (a_goalPred s) nK v) ((1 : Int32) <<< (nI s &&& 31)) a_hooks), a_order, a_goalPred, a_goalArg, (upd a_goalState s (nI (gh_gs a_kind a_first (gh_H a_kind a_first a_second E a_goalArg s) a_itemOp a_itemA a_itemB a_itemCount a_clausePred (a_goalPred s) nK))), a_clausePred, a_itemCount, a_makeCount, a_spawnCount, a_itemOp, a_itemA, a_itemB, a_itemC, a_names))
    (hw : gh_gs a_kind a_first (gh_H a_kind a_first a_second E a_goalArg s) a_itemOp a_itemA a_itemB a_itemCount a_clausePred (a_goalPred s) nK = 1 → ∀ z, z < 64 → (gh_lb w z = true ↔ gh_wt a_kind a_first (gh_H a_kind a_first a_second E a_goalArg s) a_itemOp a_itemA a_itemB a_itemCount a_clausePred (a_goalPred s) nK z)) : wX_settle_111 post (nI s) w (nI (gh_gs a_kind a_first (gh_H a_kind a_first a_second E a_goalArg s) a_itemOp a_itemA a_itemB a_itemCount a_clausePred (a_goalPred s) nK)) f_cells f_goals f_usedSlots f_woken f_clauses f_writing f_openPairs B f_commits f_lastClause f_broken f_cellLimit f_goalLimit f_clauseLimit a_kind a_first a_second a_ref a_hooks a_order a_goalPred a_goalArg a_goalState a_clausePred a_itemCount a_makeCount a_spawnCount a_itemOp a_itemA a_itemB a_itemC a_names := by
  have vs : vp_in (nI s) 16 := vp_in_nI hs (by omega)
  refine And.intro vs ?_
  rw [nI_clamp (by omega)]
  refine nm_e ?_
  have lg := gh_gs_le (kd := a_kind) (fs := a_first) (h := (gh_H a_kind a_first a_second E a_goalArg s)) (io := a_itemOp) (ia := a_itemA) (ib := a_itemB) (ic := a_itemCount) (cp := a_clausePred) (gp := a_goalPred s) (n := nK)
  refine pk_eq (gh_gs a_kind a_first (gh_H a_kind a_first a_second E a_goalArg s) a_itemOp a_itemA a_itemB a_itemCount a_clausePred (a_goalPred s) nK) 1 (fun h1 => ?_) (fun h1 => ?_)
  · exact gh_hkX (P := fun v => gh_gs a_kind a_first (gh_H a_kind a_first a_second E a_goalArg s) a_itemOp a_itemA a_itemB a_itemCount a_clausePred (a_goalPred s) nK = 1 ∧ gh_wt a_kind a_first (gh_H a_kind a_first a_second E a_goalArg s) a_itemOp a_itemA a_itemB a_itemCount a_clausePred (a_goalPred s) nK v) hf h64 (fun v hv => by rw [hw h1 v (by omega)]; exact ⟨fun z => ⟨h1, z⟩, fun z => z.2⟩) (k B)
  · have t := k B
    rw [gh_hkf_no (P := fun v => gh_gs a_kind a_first (gh_H a_kind a_first a_second E a_goalArg s) a_itemOp a_itemA a_itemB a_itemCount a_clausePred (a_goalPred s) nK = 1 ∧ gh_wt a_kind a_first (gh_H a_kind a_first a_second E a_goalArg s) a_itemOp a_itemA a_itemB a_itemCount a_clausePred (a_goalPred s) nK v) (fun v z => h1 z.1)] at t
    exact t
theorem gh_sex {nK : Nat} (hf : f_cells = nI nC) (hfk : f_clauses = nI nK) (hs : s < 16) (H : gh_HX nC a_kind a_ref a_first a_second E) (A : gh_Ar nC a_goalArg s) (W : gh_CW nK a_itemCount a_itemOp a_itemA a_itemB a_itemC) {post : SX → Prop}
    (k : ∀ B, post (f_cells, f_goals, f_usedSlots, f_woken, f_clauses, f_writing, f_openPairs, B, f_commits, f_lastClause, f_broken, f_cellLimit, f_goalLimit, f_clauseLimit, a_kind, a_first, a_second, a_ref, (gh_hkf nC (fun v => gh_gs a_kind a_first (gh_H a_kind a_first a_second E a_goalArg s) a_itemOp a_itemA a_itemB a_itemCount a_clausePred (a_goalPred s) nK = 1 ∧ gh_wt a_kind a_first (gh_H a_kind a_first a_second E a_goalArg s) a_itemOp a_itemA a_itemB a_itemCount a_clausePred (a_goalPred s) nK v) ((1 : Int32) <<< (nI s &&& 31)) a_hooks), a_order, a_goalPred, a_goalArg, (upd a_goalState s (nI (gh_gs a_kind a_first (gh_H a_kind a_first a_second E a_goalArg s) a_itemOp a_itemA a_itemB a_itemCount a_clausePred (a_goalPred s) nK))), a_clausePred, a_itemCount, a_makeCount, a_spawnCount, a_itemOp, a_itemA, a_itemB, a_itemC, a_names)) :
    ∀ d c n w B, c + d = nK → d < n → (∀ z, z < 64 → (gh_lb w z = true ↔ gh_wt a_kind a_first (gh_H a_kind a_first a_second E a_goalArg s) a_itemOp a_itemA a_itemB a_itemCount a_clausePred (a_goalPred s) c z)) → wX_settle_39 post (nI s) n w (nI (gh_gs a_kind a_first (gh_H a_kind a_first a_second E a_goalArg s) a_itemOp a_itemA a_itemB a_itemCount a_clausePred (a_goalPred s) c)) (nI c) f_cells f_goals f_usedSlots f_woken f_clauses f_writing f_openPairs B f_commits f_lastClause f_broken f_cellLimit f_goalLimit f_clauseLimit a_kind a_first a_second a_ref a_hooks a_order a_goalPred a_goalArg a_goalState a_clausePred a_itemCount a_makeCount a_spawnCount a_itemOp a_itemA a_itemB a_itemC a_names := by
  subst hfk
  have h64 := H.1.1
  have vs : vp_in (nI s) 16 := vp_in_nI hs (by omega)
  have cs : (nI s).toNatClampNeg = s := nI_clamp (by omega)
  have h16 : nK ≤ 16 := by
    rcases Nat.eq_zero_or_pos nK with z | z
    · omega
    · have := (W (nK - 1) (by omega)).1
      omega
  intro d
  induction d with
  | zero =>
    intro c n w B hc hn hw
    obtain ⟨n, rfl⟩ : ∃ n', n = n' + 1 := ⟨n - 1, by omega⟩
    obtain rfl : c = nK := by omega
    exact br_t (nI_le (Nat.le_refl _) (by omega)) (gh_se1 hf h64 hs k (fun _ => hw))
  | succ d ih =>
    intro c n w B hc hn hw
    obtain ⟨n, rfl⟩ : ∃ n', n = n' + 1 := ⟨n - 1, by omega⟩
    have cc : (nI c).toNatClampNeg = c := nI_clamp (by omega)
    obtain ⟨c16, m, hm, em, Wc⟩ := W c (by omega)
    have lg := gh_gs_le (kd := a_kind) (fs := a_first) (h := (gh_H a_kind a_first a_second E a_goalArg s)) (io := a_itemOp) (ia := a_itemA) (ib := a_itemB) (ic := a_itemCount) (cp := a_clausePred) (gp := a_goalPred s) (n := c)
    have lv := gh_cv_le (kd := a_kind) (fs := a_first) (h := (gh_H a_kind a_first a_second E a_goalArg s)) (io := a_itemOp) (ia := a_itemA) (ib := a_itemB) (ic := a_itemCount) (c := c)
    refine br_f (nI_ge (by omega) (by omega)) ?_
    refine pk_eq (gh_gs a_kind a_first (gh_H a_kind a_first a_second E a_goalArg s) a_itemOp a_itemA a_itemB a_itemCount a_clausePred (a_goalPred s) c) 0 (fun h0 => ?_) (fun h0 => ?_)
    · have an := gh_gs_anti (kd := a_kind) (fs := a_first) (h := (gh_H a_kind a_first a_second E a_goalArg s)) (io := a_itemOp) (ia := a_itemA) (ib := a_itemB) (ic := a_itemCount) (cp := a_clausePred) (gp := a_goalPred s) (c := c) (n := nK) (by omega)
      have e0 : gh_gs a_kind a_first (gh_H a_kind a_first a_second E a_goalArg s) a_itemOp a_itemA a_itemB a_itemCount a_clausePred (a_goalPred s) nK = gh_gs a_kind a_first (gh_H a_kind a_first a_second E a_goalArg s) a_itemOp a_itemA a_itemB a_itemCount a_clausePred (a_goalPred s) c := by omega
      have t := gh_se1 (B := B) (w := w) hf h64 hs k (fun z => by omega)
      rw [e0] at t
      exact t
    · refine And.intro (vp_in_nI c16 (by omega)) (And.intro vs ?_)
      rw [cc, cs]
      have emc : (a_itemCount c).toNatClampNeg = m := by rw [em, nI_clamp (by omega)]
      have ecv : gh_cv a_kind a_first (gh_H a_kind a_first a_second E a_goalArg s) a_itemOp a_itemA a_itemB a_itemCount c = gh_jv a_kind a_first (gh_H a_kind a_first a_second E a_goalArg s) a_itemOp a_itemA a_itemB c m := by
        show gh_jv a_kind a_first (gh_H a_kind a_first a_second E a_goalArg s) a_itemOp a_itemA a_itemB c (a_itemCount c).toNatClampNeg = _
        rw [emc]
      refine br_c (fun hp => ?_) (fun hp => nm_r (nI_1 c) ?_)
      · refine gh_jX H A hs c16 hm em Wc (fun B' hB' => ?_)
        rw [← ecv]
        have fin : ∀ w', (∀ z, z < 64 → (gh_lb w' z = true ↔ gh_wt a_kind a_first (gh_H a_kind a_first a_second E a_goalArg s) a_itemOp a_itemA a_itemB a_itemCount a_clausePred (a_goalPred s) (c + 1) z)) → wX_settle_94 post (wX_settle_39 post (nI s) n) (nI s) w' (nI (gh_gs a_kind a_first (gh_H a_kind a_first a_second E a_goalArg s) a_itemOp a_itemA a_itemB a_itemCount a_clausePred (a_goalPred s) c)) (nI c) (nI (gh_cv a_kind a_first (gh_H a_kind a_first a_second E a_goalArg s) a_itemOp a_itemA a_itemB a_itemCount c)) f_cells f_goals f_usedSlots f_woken (nI nK) f_writing f_openPairs B' f_commits f_lastClause f_broken f_cellLimit f_goalLimit f_clauseLimit a_kind a_first a_second a_ref a_hooks a_order a_goalPred a_goalArg a_goalState a_clausePred a_itemCount a_makeCount a_spawnCount a_itemOp a_itemA a_itemB a_itemC a_names := by
          intro w' hw'
          have t := ih (c + 1) n w' B' (by omega) (by omega) hw'
          rw [gh_gs_y hp] at t
          refine pk_le (gh_gs a_kind a_first (gh_H a_kind a_first a_second E a_goalArg s) a_itemOp a_itemA a_itemB a_itemCount a_clausePred (a_goalPred s) c) (gh_cv a_kind a_first (gh_H a_kind a_first a_second E a_goalArg s) a_itemOp a_itemA a_itemB a_itemCount c) (fun h => nm_r (nI_1 c) ?_) (fun h => nm_r (nI_1 c) ?_)
          · rw [Nat.min_eq_left h] at t; exact t
          · rw [Nat.min_eq_right (by omega)] at t; exact t
        refine pk_eq (gh_cv a_kind a_first (gh_H a_kind a_first a_second E a_goalArg s) a_itemOp a_itemA a_itemB a_itemCount c) 1 (fun h1 => nm_e (fin _ (fun z hz => ?_))) (fun h1 => fin _ (fun z hz => ?_))
        · rw [gh_lor, hw z hz, hB' (by omega) z hz, gh_wt_s, emc]
          constructor
          · rintro (a | a)
            · exact Or.inl a
            · exact Or.inr ⟨hp, h1, a⟩
          · rintro (a | ⟨_, _, a⟩)
            · exact Or.inl a
            · exact Or.inr a
        · rw [hw z hz, gh_wt_s]
          exact ⟨Or.inl, fun a => a.elim id (fun b => absurd b.2.1 h1)⟩
      · have t := ih (c + 1) n w B (by omega) (by omega) (fun z hz => by
          rw [hw z hz, gh_wt_s]
          exact ⟨Or.inl, fun a => a.elim id (fun b => absurd b.1 hp)⟩)
        rw [gh_gs_n hp] at t
        exact t
theorem gh_seX {nK : Nat} (hf : f_cells = nI nC) (hfk : f_clauses = nI nK) (hs : s < 16) (H : gh_HX nC a_kind a_ref a_first a_second E) (A : gh_Ar nC a_goalArg s) (W : gh_CW nK a_itemCount a_itemOp a_itemA a_itemB a_itemC) {post : SX → Prop}
    (k0 : bt f_woken s = false → post (f_cells, f_goals, f_usedSlots, f_woken, f_clauses, f_writing, f_openPairs, f_blockedOn, f_commits, f_lastClause, f_broken, f_cellLimit, f_goalLimit, f_clauseLimit, a_kind, a_first, a_second, a_ref, a_hooks, a_order, a_goalPred, a_goalArg, a_goalState, a_clausePred, a_itemCount, a_makeCount, a_spawnCount, a_itemOp, a_itemA, a_itemB, a_itemC, a_names))
    (k : bt f_woken s = true → ∀ B, post (f_cells, f_goals, f_usedSlots, (f_woken &&& (((1 : Int32) <<< (nI s &&& 31)) ^^^ (-1))), f_clauses, f_writing, f_openPairs, B, f_commits, f_lastClause, f_broken, f_cellLimit, f_goalLimit, f_clauseLimit, a_kind, a_first, a_second, a_ref, (gh_hkf nC (fun v => gh_gs a_kind a_first (gh_H a_kind a_first a_second E a_goalArg s) a_itemOp a_itemA a_itemB a_itemCount a_clausePred (a_goalPred s) nK = 1 ∧ gh_wt a_kind a_first (gh_H a_kind a_first a_second E a_goalArg s) a_itemOp a_itemA a_itemB a_itemCount a_clausePred (a_goalPred s) nK v) ((1 : Int32) <<< (nI s &&& 31)) (gh_uhf nC (((1 : Int32) <<< (nI s &&& 31)) ^^^ (-1)) a_hooks)), a_order, a_goalPred, a_goalArg, (upd a_goalState s (nI (gh_gs a_kind a_first (gh_H a_kind a_first a_second E a_goalArg s) a_itemOp a_itemA a_itemB a_itemCount a_clausePred (a_goalPred s) nK))), a_clausePred, a_itemCount, a_makeCount, a_spawnCount, a_itemOp, a_itemA, a_itemB, a_itemC, a_names)) : wpX_settle post (f_cells, f_goals, f_usedSlots, f_woken, f_clauses, f_writing, f_openPairs, f_blockedOn, f_commits, f_lastClause, f_broken, f_cellLimit, f_goalLimit, f_clauseLimit, a_kind, a_first, a_second, a_ref, a_hooks, a_order, a_goalPred, a_goalArg, a_goalState, a_clausePred, a_itemCount, a_makeCount, a_spawnCount, a_itemOp, a_itemA, a_itemB, a_itemC, a_names) (nI s) := by
  have h64 := H.1.1
  refine br_c (fun h => k0 ((gh_t0 (by omega)).mp h)) (fun h => nm_e ?_)
  have hw := (gh_t1 (by omega)).mp h
  refine gh_uhX hf h64 ?_
  refine Exists.intro (nK + 1) ?_
  exact gh_sex hf hfk hs H A W (k hw) nK 0 (nK + 1) 0 f_blockedOn (by omega) (by omega) (fun z hz => ⟨fun e => absurd e gh_l0, fun ⟨c, hc, _⟩ => absurd hc (Nat.not_lt_zero _)⟩)
/-! wake -/
theorem gh_wkx {nG : Nat} {p : Int32} (hf : f_goals = nI nG) (hG : nG ≤ 16) (ho : ∀ q, q < nG → ∃ i, i < 16 ∧ a_order q = nI i) {post : SX → Prop}
    (k : ∀ wk, (∀ i, i < 16 → (bt wk i = true ↔ (bt f_woken i = true ∨ ∃ q, q < nG ∧ a_order q = nI i ∧ a_goalPred i = p ∧ ¬ a_goalState i = 0))) → post (f_cells, f_goals, f_usedSlots, wk, f_clauses, f_writing, f_openPairs, f_blockedOn, f_commits, f_lastClause, f_broken, f_cellLimit, f_goalLimit, f_clauseLimit, a_kind, a_first, a_second, a_ref, a_hooks, a_order, a_goalPred, a_goalArg, a_goalState, a_clausePred, a_itemCount, a_makeCount, a_spawnCount, a_itemOp, a_itemA, a_itemB, a_itemC, a_names)) :
    ∀ d q n wk, q + d = nG → d < n → (∀ i, i < 16 → (bt wk i = true ↔ (bt f_woken i = true ∨ ∃ q', q' < q ∧ a_order q' = nI i ∧ a_goalPred i = p ∧ ¬ a_goalState i = 0))) → wX_wakePredicate_2 post p f_cells f_goals f_usedSlots f_clauses f_writing f_openPairs f_blockedOn f_commits f_lastClause f_broken f_cellLimit f_goalLimit f_clauseLimit a_kind a_first a_second a_ref a_hooks a_order a_goalPred a_goalArg a_goalState a_clausePred a_itemCount a_makeCount a_spawnCount a_itemOp a_itemA a_itemB a_itemC a_names n (nI q) wk := by
  subst hf
  intro d
  induction d with
  | zero =>
    intro q n wk hq hn hw
    obtain ⟨n, rfl⟩ : ∃ n', n = n' + 1 := ⟨n - 1, by omega⟩
    obtain rfl : q = nG := by omega
    exact br_t (nI_le (Nat.le_refl _) (by omega)) (k wk hw)
  | succ d ih =>
    intro q n wk hq hn hw
    obtain ⟨n, rfl⟩ : ∃ n', n = n' + 1 := ⟨n - 1, by omega⟩
    obtain ⟨i, hi, eo⟩ := ho q (by omega)
    have vi : vp_in (nI i) 16 := vp_in_nI hi (by omega)
    have ci : (nI i).toNatClampNeg = i := nI_clamp (by omega)
    refine br_f (nI_ge (by omega) (by omega)) (And.intro (vp_in_nI (by omega) (by omega)) ?_)
    rw [nI_clamp (n := q) (by omega), eo]
    refine nm_e (And.intro vi ?_)
    rw [ci]
    have same : ¬ (a_goalPred i = p ∧ ¬ a_goalState i = 0) → ∀ j, j < 16 → (bt wk j = true ↔ (bt f_woken j = true ∨ ∃ q', q' < q + 1 ∧ a_order q' = nI j ∧ a_goalPred j = p ∧ ¬ a_goalState j = 0)) := by
      intro hne j hj
      rw [hw j hj]
      constructor
      · rintro (a | ⟨q', a, b⟩)
        · exact Or.inl a
        · exact Or.inr ⟨q', by omega, b⟩
      · rintro (a | ⟨q', a, b, c⟩)
        · exact Or.inl a
        · by_cases e : q' = q
          · rw [e, eo] at b
            obtain rfl : i = j := (nI_eq (by omega) (by omega)).mp b
            exact absurd c hne
          · exact Or.inr ⟨q', by omega, b, c⟩
    refine br_c (fun hp => And.intro vi (br_c (fun h0 => nm_r (nI_1 q) ?_) (fun h0 => nm_e (nm_r (nI_1 q) ?_)))) (fun hp => nm_r (nI_1 q) ?_)
    · exact ih (q + 1) n wk (by omega) (by omega) (same (fun z => z.2 h0))
    · refine ih (q + 1) n _ (by omega) (by omega) (fun j hj => ?_)
      rw [gh_set (by omega) (by omega), hw j hj]
      constructor
      · rintro ((a | ⟨q', a, b⟩) | rfl)
        · exact Or.inl a
        · exact Or.inr ⟨q', by omega, b⟩
        · exact Or.inr ⟨q, by omega, eo, hp, h0⟩
      · rintro (a | ⟨q', a, b, c⟩)
        · exact Or.inl (Or.inl a)
        · by_cases e : q' = q
          · rw [e, eo] at b
            exact Or.inr ((nI_eq (by omega) (by omega)).mp b).symm
          · exact Or.inl (Or.inr ⟨q', by omega, b, c⟩)
    · exact ih (q + 1) n wk (by omega) (by omega) (same (fun z => hp z.1))
theorem gh_wkX {nG : Nat} {p : Int32} (hf : f_goals = nI nG) (hG : nG ≤ 16) (ho : ∀ q, q < nG → ∃ i, i < 16 ∧ a_order q = nI i) {post : SX → Prop}
    (k : ∀ wk, (∀ i, i < 16 → (bt wk i = true ↔ (bt f_woken i = true ∨ ∃ q, q < nG ∧ a_order q = nI i ∧ a_goalPred i = p ∧ ¬ a_goalState i = 0))) → post (f_cells, f_goals, f_usedSlots, wk, f_clauses, f_writing, f_openPairs, f_blockedOn, f_commits, f_lastClause, f_broken, f_cellLimit, f_goalLimit, f_clauseLimit, a_kind, a_first, a_second, a_ref, a_hooks, a_order, a_goalPred, a_goalArg, a_goalState, a_clausePred, a_itemCount, a_makeCount, a_spawnCount, a_itemOp, a_itemA, a_itemB, a_itemC, a_names)) : wpX_wakePredicate post (f_cells, f_goals, f_usedSlots, f_woken, f_clauses, f_writing, f_openPairs, f_blockedOn, f_commits, f_lastClause, f_broken, f_cellLimit, f_goalLimit, f_clauseLimit, a_kind, a_first, a_second, a_ref, a_hooks, a_order, a_goalPred, a_goalArg, a_goalState, a_clausePred, a_itemCount, a_makeCount, a_spawnCount, a_itemOp, a_itemA, a_itemB, a_itemC, a_names) p :=
  Exists.intro (nG + 1) (gh_wkx hf hG ho k nG 0 (nG + 1) f_woken (by omega) (by omega) (fun i hi => ⟨Or.inl, fun a => a.elim id (fun ⟨_, hc, _⟩ => absurd hc (Nat.not_lt_zero _))⟩))
/-! append -/
theorem gh_apx {p x y z : Int32} {t : Nat} (ht : t < 16) (hu : bt f_usedSlots t = false) (hb : ∀ i, i < t → bt f_usedSlots i = true) {post : SX → Prop} (k : wX_append_34 post p x y z (nI t) f_cells f_goals f_usedSlots f_woken f_clauses f_writing f_openPairs f_blockedOn f_commits f_lastClause f_broken f_cellLimit f_goalLimit f_clauseLimit a_kind a_first a_second a_ref a_hooks a_order a_goalPred a_goalArg a_goalState a_clausePred a_itemCount a_makeCount a_spawnCount a_itemOp a_itemA a_itemB a_itemC a_names) :
    ∀ d q n, q + d = t → d < n → wX_append_6 post p x y z f_cells f_goals f_usedSlots f_woken f_clauses f_writing f_openPairs f_blockedOn f_commits f_lastClause f_broken f_cellLimit f_goalLimit f_clauseLimit a_kind a_first a_second a_ref a_hooks a_order a_goalPred a_goalArg a_goalState a_clausePred a_itemCount a_makeCount a_spawnCount a_itemOp a_itemA a_itemB a_itemC a_names n (nI q) (nI q) := by
  intro d
  induction d with
  | zero =>
    intro q n hq hn
    obtain ⟨n, rfl⟩ : ∃ n', n = n' + 1 := ⟨n - 1, by omega⟩
    obtain rfl : q = t := by omega
    exact br_c (fun _ => k) (fun _ => br_t ((gh_t0 (by omega)).mpr hu) k)
  | succ d ih =>
    intro q n hq hn
    obtain ⟨n, rfl⟩ : ∃ n', n = n' + 1 := ⟨n - 1, by omega⟩
    refine br_f (nI_ge (b := 15) (by omega) (by decide)) (br_f ((gh_t1 (by omega)).mpr (hb q (by omega))) (nm_r (nI_1 q) (nm_r (nI_1 q) ?_)))
    exact ih (q + 1) n (by omega) (by omega)
theorem gh_apX {p x y z : Int32} {nG t : Nat} (hf : f_goals = nI nG) (hG : nG < 16) (ht : t < 16) (hu : bt f_usedSlots t = false) (hb : ∀ i, i < t → bt f_usedSlots i = true) {post : SX → Prop}
    (k : post (f_cells, (nI (nG + 1)), (f_usedSlots ||| ((1 : Int32) <<< (nI t &&& 31))), (f_woken ||| ((1 : Int32) <<< (nI t &&& 31))), f_clauses, f_writing, f_openPairs, f_blockedOn, f_commits, f_lastClause, f_broken, f_cellLimit, f_goalLimit, f_clauseLimit, a_kind, a_first, a_second, a_ref, a_hooks, (upd a_order nG (nI t)), (upd a_goalPred t p), (upd (upd (upd a_goalArg (t * 3) x) (t * 3 + 1) y) (t * 3 + 2) z), (upd a_goalState t 2), a_clausePred, a_itemCount, a_makeCount, a_spawnCount, a_itemOp, a_itemA, a_itemB, a_itemC, a_names)) : wpX_append post (f_cells, f_goals, f_usedSlots, f_woken, f_clauses, f_writing, f_openPairs, f_blockedOn, f_commits, f_lastClause, f_broken, f_cellLimit, f_goalLimit, f_clauseLimit, a_kind, a_first, a_second, a_ref, a_hooks, a_order, a_goalPred, a_goalArg, a_goalState, a_clausePred, a_itemCount, a_makeCount, a_spawnCount, a_itemOp, a_itemA, a_itemB, a_itemC, a_names) p x y z := by
  subst hf
  refine Exists.intro (t + 1) (gh_apx ht hu hb ?_ t 0 (t + 1) (by omega) (by omega))
  have vt : vp_in (nI t) 16 := vp_in_nI ht (by omega)
  have ct : (nI t).toNatClampNeg = t := nI_clamp (by omega)
  have e0 : nI t * 3 = nI (t * 3) := pk_mul t 3
  have e1 : nI (t * 3) + 1 = nI (t * 3 + 1) := nI_1 _
  have e2 : nI (t * 3) + 2 = nI (t * 3 + 2) := nI_add _ 2
  refine nm_e (nm_e (And.intro vt ?_))
  rw [ct]
  refine nm_e ?_
  rw [e0, e1, e2, nI_clamp (n := t * 3) (by omega), nI_clamp (n := t * 3 + 1) (by omega), nI_clamp (n := t * 3 + 2) (by omega)]
  refine And.intro (vp_in_nI (by omega) (by omega)) (nm_e (And.intro (vp_in_nI (by omega) (by omega)) (nm_e (And.intro (vp_in_nI (by omega) (by omega)) (nm_e (And.intro vt (nm_e (And.intro (vp_in_nI hG (by omega)) ?_))))))))
  rw [nI_clamp (n := nG) (by omega)]
  exact nm_e (nm_r (nI_1 nG) k)
/-! remove -/
theorem gh_rmx {nG j : Nat} (hf : f_goals = nI nG) (hG : nG ≤ 15) {post : SX → Prop}
    (k : post (f_cells, f_goals, f_usedSlots, f_woken, f_clauses, f_writing, f_openPairs, f_blockedOn, f_commits, f_lastClause, f_broken, f_cellLimit, f_goalLimit, f_clauseLimit, a_kind, a_first, a_second, a_ref, a_hooks, (gh_shf j nG 1 a_order), a_goalPred, a_goalArg, a_goalState, a_clausePred, a_itemCount, a_makeCount, a_spawnCount, a_itemOp, a_itemA, a_itemB, a_itemC, a_names)) :
    ∀ d q n, q + d = nG → d < n → j ≤ q → wX_removeAt_52 post f_cells f_goals f_usedSlots f_woken f_clauses f_writing f_openPairs f_blockedOn f_commits f_lastClause f_broken f_cellLimit f_goalLimit f_clauseLimit n (nI q) a_kind a_first a_second a_ref a_hooks (gh_shf j q 1 a_order) a_goalPred a_goalArg a_goalState a_clausePred a_itemCount a_makeCount a_spawnCount a_itemOp a_itemA a_itemB a_itemC a_names := by
  subst hf
  intro d
  induction d with
  | zero =>
    intro q n hq hn hj
    obtain ⟨n, rfl⟩ : ∃ n', n = n' + 1 := ⟨n - 1, by omega⟩
    obtain rfl : q = nG := by omega
    exact br_t (nI_le (Nat.le_refl _) (by omega)) k
  | succ d ih =>
    intro q n hq hn hj
    obtain ⟨n, rfl⟩ : ∃ n', n = n' + 1 := ⟨n - 1, by omega⟩
    refine br_f (nI_ge (by omega) (by omega)) ?_
    rw [nI_1 q]
    refine And.intro (vp_in_nI (by omega) (by omega)) (And.intro (vp_in_nI (by omega) (by omega)) ?_)
    rw [nI_clamp (n := q) (by omega), nI_clamp (n := q + 1) (by omega)]
    exact nm_r (gh_shf_s hj) (nm_e (ih (q + 1) n (by omega) (by omega) (by omega)))
theorem gh_rmX {nG j : Nat} (hc : f_cells = nI nC) (h64 : nC ≤ 64) (hf : f_goals = nI nG) (hG : nG ≤ 16) (hj : j < nG) (ho : a_order j = nI s) {post : SX → Prop}
    (k : post (f_cells, (nI (nG - 1)), (f_usedSlots &&& (((1 : Int32) <<< (nI s &&& 31)) ^^^ (-1))), (f_woken &&& (((1 : Int32) <<< (nI s &&& 31)) ^^^ (-1))), f_clauses, f_writing, f_openPairs, f_blockedOn, f_commits, f_lastClause, f_broken, f_cellLimit, f_goalLimit, f_clauseLimit, a_kind, a_first, a_second, a_ref, (gh_uhf nC (((1 : Int32) <<< (nI s &&& 31)) ^^^ (-1)) a_hooks), (gh_shf j (nG - 1) 1 a_order), a_goalPred, a_goalArg, a_goalState, a_clausePred, a_itemCount, a_makeCount, a_spawnCount, a_itemOp, a_itemA, a_itemB, a_itemC, a_names)) : wpX_removeAt post (f_cells, f_goals, f_usedSlots, f_woken, f_clauses, f_writing, f_openPairs, f_blockedOn, f_commits, f_lastClause, f_broken, f_cellLimit, f_goalLimit, f_clauseLimit, a_kind, a_first, a_second, a_ref, a_hooks, a_order, a_goalPred, a_goalArg, a_goalState, a_clausePred, a_itemCount, a_makeCount, a_spawnCount, a_itemOp, a_itemA, a_itemB, a_itemC, a_names) (nI j) := by
  subst hf
  refine And.intro (vp_in_nI (by omega) (by omega)) ?_
  rw [nI_clamp (by omega), ho]
  refine nm_e ?_
  refine gh_uhX hc h64 (nm_e (nm_e ?_))
  rw [show nI nG - 1 = nI (nG - 1) from pk_sub (b := 1) (by omega)]
  refine nm_e (Exists.intro nG ?_)
  have t := gh_rmx rfl (by omega) k (nG - 1 - j) j nG (by omega) (by omega) (Nat.le_refl _)
  rw [gh_shf_0] at t
  exact t
end
end
section
/-! the reference: find, verdict, clause state, first -/
def gh_HY (nC : Nat) (kd fs sc lf rt : Nat → Int32) (E : Nat → Nat) : Prop := ∀ i, i < nC → kd i = 2 → vp_in (lf i) nC ∧ vp_in (rt i) nC ∧ E (lf i).toNatClampNeg = E (fs i).toNatClampNeg ∧ E (rt i).toNatClampNeg = E (sc i).toNatClampNeg
def gh_VY (nC : Nat) (kd fs vl : Nat → Int32) : Prop := ∀ i, i < nC → (kd i = 1 → vl i = fs i) ∧ (¬ kd i = 1 → vl i = 0)
def gh_AY (nC : Nat) (E : Nat → Nat) (rc : Nat → Int32) (g : Nat) (G : Nat → Nat) : Prop := ∀ j, j < 3 → vp_in (rc (g * 4 + 1 + j)) nC ∧ E (rc (g * 4 + 1 + j)).toNatClampNeg = G j
def gh_CD (cd io ia ib ix : Nat → Int32) : Prop := ∀ q, q < 128 → cd (q * 4) = io q ∧ cd (q * 4 + 1) = ia q ∧ cd (q * 4 + 2) = ib q ∧ cd (q * 4 + 3) = ix q
def gh_yc : Nat → Int32
  | 0 => 1
  | 1 => 2
  | _ => 0
theorem gh_ix4 (g : Nat) : nI g * 4 + 1 = nI (g * 4 + 1) := by
  rw [show nI g * 4 = nI (g * 4) from pk_mul g 4, nI_1]
theorem gh_hdv {n : Nat} (h3 : 3 ≤ n) (hn : n ≤ 8) : (nI n - 3) / 2 = nI ((n - 3) / 2) := by
  rw [show nI n - 3 = nI (n - 3) from pk_sub (b := 3) h3]
  exact pk_div (d := 2) (by omega) (by omega) (by omega)
theorem gh_hrm {n : Nat} (h3 : 3 ≤ n) (hn : n ≤ 8) : (nI n - 3) - (nI n - 3) / 2 * 2 = nI ((n - 3) % 2) := by
  rw [show nI n - 3 = nI (n - 3) from pk_sub (b := 3) h3]
  exact pk_rem (d := 2) (by omega) (by omega) (by omega)
theorem gh_20 : ¬ (2 : Int32) = 0 := by decide
section
variable {f_cells f_goals f_usedSlots f_woken f_clauses f_writing f_openPairs : Int32} {f_blockedOn : Int64} {f_commits f_lastClause f_broken f_cellLimit f_goalLimit f_clauseLimit : Int32} {a_kind a_first a_second a_ref a_hooks a_order a_goalPred a_goalArg a_goalState a_clausePred a_itemCount a_makeCount a_spawnCount a_itemOp a_itemA a_itemB a_itemC a_names : Nat → Int32} {b_seenX b_seenY : Int32} {b_num b_value b_left b_right b_rec b_code : Nat → Int32}
variable {nC : Nat} {E G : Nat → Nat} {g : Nat}
theorem gh_fdY {n : Nat} {bs : Int32} (H : gh_HX nC a_kind a_ref a_first a_second E) (Hy : gh_HY nC a_kind a_first a_second b_left b_right E) (A : gh_AY nC E b_rec g G) (hg : g ≤ 16) (hn : n ≤ 8) {post : Int32 → Prop} (hp : post (gh_ot ((gh_hd a_kind a_first a_second E G) n))) : wpY_find post (b_seenX, b_seenY, b_num, a_kind, a_ref, b_value, b_left, b_right, b_rec, b_code, a_clausePred, a_itemCount) (nI g) (nI n) bs := by
  have h64 := H.1.1
  refine br_t (nI_lt (b := 9) (by omega) (by decide)) ?_
  by_cases h3 : n < 3
  · refine br_f (nI_ge (b := 3) h3 (by decide)) ?_
    rw [gh_ix4, nI_add]
    refine And.intro (vp_in_nI (by omega) (by omega)) ?_
    rw [nI_clamp (by omega)]
    obtain ⟨v, e⟩ := A n h3
    refine gh_fY H.1 v ?_
    rw [e]
    have e2 : (gh_hd a_kind a_first a_second E G) n = some (G n) := if_pos h3
    rw [e2] at hp
    exact hp
  · refine br_t (nI_le (a := 3) (by omega) (by omega)) (And.intro gh_20 ?_)
    rw [gh_hrm (by omega) hn, gh_hdv (by omega) hn, gh_ix4, nI_add]
    have hj : (n - 3) / 2 < 3 := by omega
    refine And.intro (vp_in_nI (by omega) (by omega)) ?_
    rw [nI_clamp (by omega)]
    obtain ⟨v, e⟩ := A _ hj
    refine gh_fY H.1 v ?_
    have hg : G ((n - 3) / 2) < nC := by rw [← e]; exact gh_Ht_e H.1 (gh_vn v)
    rw [e]
    generalize hgg : G ((n - 3) / 2) = p at hg
    have hv : vp_in (nI p) 64 := vp_in_nI (by omega) (by omega)
    refine And.intro hv ?_
    rw [nI_clamp (by omega)]
    by_cases w : a_kind p = 2
    · obtain ⟨v1, v2, e1, e2⟩ := Hy p hg w
      refine br_t w (And.intro gh_20 ?_)
      have e : (gh_hd a_kind a_first a_second E G) n = some (if n % 2 = 0 then E (a_second p).toNatClampNeg else E (a_first p).toNatClampNeg) := by
        unfold gh_hd
        rw [hgg, if_neg h3, if_pos ⟨by omega, w⟩]
      rw [e] at hp
      by_cases y : n % 2 = 0
      · rw [if_pos y, ← e2] at hp
        rw [show (n - 3) % 2 = 1 by omega]
        exact br_f (by decide) (And.intro hv (gh_fY H.1 v2 hp))
      · rw [if_neg y, ← e1] at hp
        rw [show (n - 3) % 2 = 0 by omega]
        exact br_t rfl (And.intro hv (gh_fY H.1 v1 hp))
    · refine br_f w ?_
      have e : (gh_hd a_kind a_first a_second E G) n = none := by
        unfold gh_hd
        rw [hgg, if_neg h3, if_neg (fun z => w z.2)]
      rw [e] at hp
      exact hp
theorem gh_fdY9 {q base : Nat} {gx : Int32} (H : gh_Ht nC a_kind a_ref E) (hq : base + q < nC) {post : Int32 → Prop} (hp : post (nI (E (base + q)))) : wpY_find post (b_seenX, b_seenY, b_num, a_kind, a_ref, b_value, b_left, b_right, b_rec, b_code, a_clausePred, a_itemCount) gx (nI (9 + q)) (nI base) := by
  have h64 := H.1
  refine br_f (nI_nlt (b := 9) (by omega) (by omega)) ?_
  rw [nI_add, show nI (base + (9 + q)) - 9 = nI (base + q) from (pk_sub (b := 9) (by omega)).trans (congrArg nI (by omega))]
  refine gh_fY H (vp_in_nI hq (by omega)) ?_
  rw [nI_clamp (by omega)]
  exact hp
/-! the end of a verdict: one name -/
theorem gh_v0 {q : Nat} {x : Option Nat} (hx : ∀ p, x = some p → p < 64) {post : Int32 → SY → Prop} (k : post (gh_yc (gh_kt a_kind 2 x)) ((gh_ot x), (gh_ot x), b_num, a_kind, a_ref, b_value, b_left, b_right, b_rec, b_code, a_clausePred, a_itemCount)) : wY_verdict_106 post (nI q) 0 (gh_ot x) (gh_ot x) b_seenY b_num a_kind a_ref b_value b_left b_right b_rec b_code a_clausePred a_itemCount := by
  cases x with
  | none => exact br_t gh_m1neg k
  | some p =>
    have hp := hx p rfl
    have hv : vp_in (nI p) 64 := vp_in_nI hp (by omega)
    refine br_f (nI_pos (n := p) (by omega)) (br_t (nI_pos' (n := p) (by omega)) (And.intro hv ?_))
    rw [show (gh_ot (some p)).toNatClampNeg = p from nI_clamp (by omega)]
    refine nm_e (And.intro hv (nm_e (And.intro hv (nm_e (And.intro hv (nm_e ?_))))))
    refine br_c (fun h0 => ?_) (fun h0 => br_f h0 ?_)
    · rw [show gh_kt a_kind 2 (some p) = 1 from if_pos h0] at k
      exact br_t rfl (br_t (by decide) (br_f (by decide) (br_f (by decide) k)))
    · refine br_t rfl (br_t (by decide) (br_f (by decide) (br_t rfl (br_f (by decide) (br_f (by decide) (br_t rfl ?_))))))
      refine br_c (fun h => ?_) (fun h => ?_)
      · rw [show gh_kt a_kind 2 (some p) = 0 from (if_neg h0).trans (if_pos h)] at k
        exact k
      · rw [show gh_kt a_kind 2 (some p) = 2 from (if_neg h0).trans (if_neg h)] at k
        exact k
theorem gh_v2 {q : Nat} {x : Option Nat} (hx : ∀ p, x = some p → p < 64) {post : Int32 → SY → Prop} (k : post (gh_yc (gh_kt a_kind 1 x)) ((gh_ot x), (gh_ot x), b_num, a_kind, a_ref, b_value, b_left, b_right, b_rec, b_code, a_clausePred, a_itemCount)) : wY_verdict_106 post (nI q) 2 (gh_ot x) (gh_ot x) b_seenY b_num a_kind a_ref b_value b_left b_right b_rec b_code a_clausePred a_itemCount := by
  cases x with
  | none => exact br_t gh_m1neg k
  | some p =>
    have hp := hx p rfl
    have hv : vp_in (nI p) 64 := vp_in_nI hp (by omega)
    refine br_f (nI_pos (n := p) (by omega)) (br_t (nI_pos' (n := p) (by omega)) (And.intro hv ?_))
    rw [show (gh_ot (some p)).toNatClampNeg = p from nI_clamp (by omega)]
    refine nm_e (And.intro hv (nm_e (And.intro hv (nm_e (And.intro hv (nm_e ?_))))))
    refine br_c (fun h0 => ?_) (fun h0 => br_f h0 ?_)
    · rw [show gh_kt a_kind 1 (some p) = 1 from if_pos h0] at k
      exact br_t rfl (br_t (by decide) (br_f (by decide) (br_f (by decide) k)))
    · refine br_t rfl (br_t (by decide) (br_f (by decide) (br_t rfl (br_f (by decide) (br_f (by decide) (br_f (by decide) ?_))))))
      refine br_c (fun h => ?_) (fun h => ?_)
      · rw [show gh_kt a_kind 1 (some p) = 0 from (if_neg h0).trans (if_pos h)] at k
        exact k
      · rw [show gh_kt a_kind 1 (some p) = 2 from (if_neg h0).trans (if_neg h)] at k
        exact k
theorem gh_v1 {q : Nat} {x : Option Nat} (V : gh_VY nC a_kind a_first b_value) (h64 : nC ≤ 64) (hx : ∀ p, x = some p → p < nC) (hq : q < 128) {post : Int32 → SY → Prop} (k : post (gh_yc (gh_it a_kind a_first (b_code (q * 4 + 2)) x)) ((gh_ot x), (gh_ot x), b_num, a_kind, a_ref, b_value, b_left, b_right, b_rec, b_code, a_clausePred, a_itemCount)) : wY_verdict_106 post (nI (q * 4)) 1 (gh_ot x) (gh_ot x) b_seenY b_num a_kind a_ref b_value b_left b_right b_rec b_code a_clausePred a_itemCount := by
  cases x with
  | none => exact br_t gh_m1neg k
  | some p =>
    have hp := hx p rfl
    have hv : vp_in (nI p) 64 := vp_in_nI (by omega) (by omega)
    refine br_f (nI_pos (n := p) (by omega)) (br_t (nI_pos' (n := p) (by omega)) (And.intro hv ?_))
    rw [show (gh_ot (some p)).toNatClampNeg = p from nI_clamp (by omega)]
    refine nm_e (And.intro hv (nm_e (And.intro hv (nm_e (And.intro hv (nm_e ?_))))))
    refine br_c (fun h0 => ?_) (fun h0 => br_f h0 ?_)
    · rw [show gh_it a_kind a_first (b_code (q * 4 + 2)) (some p) = 1 from if_pos h0] at k
      exact br_t rfl (br_t (by decide) (br_f (by decide) (br_f (by decide) k)))
    · refine br_t rfl (br_t (by decide) (br_f (by decide) (br_t rfl (br_f (by decide) (br_t rfl ?_)))))
      have e2 : nI (q * 4) + 2 = nI (q * 4 + 2) := nI_add _ 2
      refine br_c (fun h => ?_) (fun h => ?_)
      · rw [e2, nI_clamp (by omega), (V p hp).1 h]
        have e : gh_it a_kind a_first (b_code (q * 4 + 2)) (some p) = (if a_first p = b_code (q * 4 + 2) then 0 else 2) := (if_neg h0).trans (if_pos h)
        rw [e] at k
        refine And.intro (vp_in_nI (by omega) (by omega)) (br_c (fun h2 => ?_) (fun h2 => ?_))
        · rw [if_pos h2] at k; exact k
        · rw [if_neg h2] at k; exact k
      · rw [show gh_it a_kind a_first (b_code (q * 4 + 2)) (some p) = 2 from (if_neg h0).trans (if_neg h)] at k
        exact k
/-! two names -/
theorem gh_v3 {q : Nat} {x y : Option Nat} (H : gh_Ht nC a_kind a_ref E) (V : gh_VY nC a_kind a_first b_value) (hx : ∀ p, x = some p → p < nC) (hy : ∀ p, y = some p → p < nC) {post : Int32 → SY → Prop} (k : post (gh_yc (gh_two (gh_lt2 a_kind a_first) x y)) ((gh_ot x), (gh_ot y), b_num, a_kind, a_ref, b_value, b_left, b_right, b_rec, b_code, a_clausePred, a_itemCount)) : wY_verdict_106 post (nI q) 3 (gh_ot y) (gh_ot x) b_seenY b_num a_kind a_ref b_value b_left b_right b_rec b_code a_clausePred a_itemCount := by
  have h64 := H.1
  cases x with
  | none => exact br_t gh_m1neg k
  | some p =>
    have hp := hx p rfl
    have hv : vp_in (nI p) 64 := vp_in_nI (by omega) (by omega)
    refine br_f (nI_pos (n := p) (by omega)) ?_
    cases y with
    | none => exact br_f gh_m1nle k
    | some r =>
      have hr := hy r rfl
      have hw : vp_in (nI r) 64 := vp_in_nI (by omega) (by omega)
      replace k : post (gh_yc (gh_lt2 a_kind a_first p r)) ((gh_ot (some p)), (gh_ot (some r)), b_num, a_kind, a_ref, b_value, b_left, b_right, b_rec, b_code, a_clausePred, a_itemCount) := k
      refine br_t (nI_pos' (n := r) (by omega)) (And.intro hv ?_)
      rw [show (gh_ot (some p)).toNatClampNeg = p from nI_clamp (by omega), show (gh_ot (some r)).toNatClampNeg = r from nI_clamp (by omega)]
      refine nm_e (And.intro hw (nm_e (And.intro hv (nm_e (And.intro hw (nm_e ?_))))))
      have any : ∀ fr, wY_verdict_281 post (nI q) 3 (a_kind p) (b_value p) (b_value r) fr (gh_ot (some p)) (gh_ot (some r)) b_num a_kind a_ref b_value b_left b_right b_rec b_code a_clausePred a_itemCount ∨ (a_kind p = 2 ∨ a_kind r = 2) → wY_verdict_184 post (nI q) 3 (a_kind p) (a_kind r) (b_value p) (b_value r) fr (gh_ot (some p)) (gh_ot (some r)) b_num a_kind a_ref b_value b_left b_right b_rec b_code a_clausePred a_itemCount := by
        intro fr hh
        have c : ∀ z, wY_verdict_221 post (nI q) 3 (a_kind p) (a_kind r) (b_value p) (b_value r) fr z (gh_ot (some p)) (gh_ot (some r)) b_num a_kind a_ref b_value b_left b_right b_rec b_code a_clausePred a_itemCount := by
          intro z
          refine br_t (by decide) (br_t rfl (br_c (fun h => ?_) (fun h1 => br_c (fun h => ?_) (fun h2 => ?_))))
          · rw [show gh_lt2 a_kind a_first p r = 2 from if_pos h] at k; exact k
          · rw [show gh_lt2 a_kind a_first p r = 2 from (if_neg h1).trans (if_pos h)] at k; exact k
          · exact hh.elim id (fun z => z.elim (fun z => absurd z h1) (fun z => absurd z h2))
        exact br_c (fun _ => c 1) (fun _ => br_c (fun _ => br_c (fun _ => br_c (fun _ => c 1) (fun _ => c 0)) (fun _ => c 0)) (fun _ => c 0))
      by_cases d2 : a_kind p = 2 ∨ a_kind r = 2
      · exact br_c (fun _ => any 1 (Or.inr d2)) (fun _ => br_c (fun _ => any 1 (Or.inr d2)) (fun _ => any 0 (Or.inr d2)))
      · have h1 : ¬ a_kind p = 2 := fun z => d2 (Or.inl z)
        have h2 : ¬ a_kind r = 2 := fun z => d2 (Or.inr z)
        refine br_c (fun h => ?_) (fun h3 => br_c (fun h => ?_) (fun h4 => ?_))
        · rw [show gh_lt2 a_kind a_first p r = 1 from (if_neg h1).trans ((if_neg h2).trans (if_pos h))] at k
          exact any 1 (Or.inl (br_f (by decide) k))
        · rw [show gh_lt2 a_kind a_first p r = 1 from (if_neg h1).trans ((if_neg h2).trans ((if_neg h3).trans (if_pos h)))] at k
          exact any 1 (Or.inl (br_f (by decide) k))
        · have e : gh_lt2 a_kind a_first p r = (if a_first r ≤ a_first p then 2 else 0) := (if_neg h1).trans ((if_neg h2).trans ((if_neg h3).trans (if_neg h4)))
          have p1 : a_kind p = 1 := by
            rcases gh_Ht_3 H hp with z | z | z
            · exact absurd z h3
            · exact z
            · exact absurd z h1
          have r1 : a_kind r = 1 := by
            rcases gh_Ht_3 H hr with z | z | z
            · exact absurd z h4
            · exact z
            · exact absurd z h2
          have ep := (V p hp).1 p1
          have er := (V r hr).1 r1
          refine any 0 (Or.inl (br_t rfl (br_t rfl (br_c (fun h => ?_) (fun h => ?_)))))
          · rw [ep, er] at h
            rw [e, if_pos h] at k; exact k
          · rw [ep, er] at h
            rw [e, if_neg h] at k; exact k
theorem gh_v45 {q : Nat} {o : Int32} (ho : o = 4 ∨ o = 5) {x y : Option Nat} (H : gh_Ht nC a_kind a_ref E) (V : gh_VY nC a_kind a_first b_value) (hx : ∀ p, x = some p → p < nC) (hy : ∀ p, y = some p → p < nC) {post : Int32 → SY → Prop} (k : post (gh_yc (if o = 4 then gh_two (gh_st2 a_kind a_first) x y else 2 - gh_two (gh_st2 a_kind a_first) x y)) ((gh_ot x), (gh_ot y), b_num, a_kind, a_ref, b_value, b_left, b_right, b_rec, b_code, a_clausePred, a_itemCount)) : wY_verdict_106 post (nI q) o (gh_ot y) (gh_ot x) b_seenY b_num a_kind a_ref b_value b_left b_right b_rec b_code a_clausePred a_itemCount := by
  have h64 := H.1
  have k1 : gh_two (gh_st2 a_kind a_first) x y = 1 → post 2 ((gh_ot x), (gh_ot y), b_num, a_kind, a_ref, b_value, b_left, b_right, b_rec, b_code, a_clausePred, a_itemCount) := fun e => by
    rw [e] at k
    rcases ho with rfl | rfl <;> exact k
  cases x with
  | none => exact br_t gh_m1neg (k1 rfl)
  | some p =>
    have hp := hx p rfl
    have hv : vp_in (nI p) 64 := vp_in_nI (by omega) (by omega)
    refine br_f (nI_pos (n := p) (by omega)) ?_
    cases y with
    | none => exact br_f gh_m1nle (k1 rfl)
    | some r =>
      have hr := hy r rfl
      have hw : vp_in (nI r) 64 := vp_in_nI (by omega) (by omega)
      refine br_t (nI_pos' (n := r) (by omega)) (And.intro hv ?_)
      rw [show (gh_ot (some p)).toNatClampNeg = p from nI_clamp (by omega), show (gh_ot (some r)).toNatClampNeg = r from nI_clamp (by omega)]
      refine nm_e (And.intro hw (nm_e (And.intro hv (nm_e (And.intro hw (nm_e ?_))))))
      have n4 : ¬ o < 4 := by rcases ho with rfl | rfl <;> decide
      have n3 : ¬ o = 3 := by rcases ho with rfl | rfl <;> decide
      replace k : post (gh_yc (if o = 4 then gh_st2 a_kind a_first p r else 2 - gh_st2 a_kind a_first p r)) ((gh_ot (some p)), (gh_ot (some r)), b_num, a_kind, a_ref, b_value, b_left, b_right, b_rec, b_code, a_clausePred, a_itemCount) := k
      replace k1 : gh_st2 a_kind a_first p r = 1 → post 2 ((gh_ot (some p)), (gh_ot (some r)), b_num, a_kind, a_ref, b_value, b_left, b_right, b_rec, b_code, a_clausePred, a_itemCount) := k1
      -- equal
      have eq1 : gh_st2 a_kind a_first p r = 0 → ∀ fr, wY_verdict_221 post (nI q) o (a_kind p) (a_kind r) (b_value p) (b_value r) fr 1 (gh_ot (some p)) (gh_ot (some r)) b_num a_kind a_ref b_value b_left b_right b_rec b_code a_clausePred a_itemCount := by
        intro e fr
        rw [e] at k
        rcases ho with rfl | rfl
        · exact br_f (by decide) (br_f (by decide) (br_t rfl (br_t rfl k)))
        · exact br_f (by decide) (br_f (by decide) (br_f (by decide) (br_f (by decide) k)))
      have ne0 : gh_st2 a_kind a_first p r = 2 → wY_verdict_221 post (nI q) o (a_kind p) (a_kind r) (b_value p) (b_value r) 0 0 (gh_ot (some p)) (gh_ot (some r)) b_num a_kind a_ref b_value b_left b_right b_rec b_code a_clausePred a_itemCount := by
        intro e
        rw [e] at k
        rcases ho with rfl | rfl
        · exact br_f (by decide) (br_t rfl (br_t rfl (br_t rfl (br_f (by decide) k))))
        · exact br_f (by decide) (br_t rfl (br_t rfl (br_f (by decide) (br_t rfl k))))
      have ne1 : gh_st2 a_kind a_first p r = 1 → wY_verdict_221 post (nI q) o (a_kind p) (a_kind r) (b_value p) (b_value r) 1 0 (gh_ot (some p)) (gh_ot (some r)) b_num a_kind a_ref b_value b_left b_right b_rec b_code a_clausePred a_itemCount := by
        intro e
        exact br_f n4 (br_t rfl (br_f (by decide) (br_f n3 (br_f (by decide) (k1 e)))))
      have same : gh_ot (some p) = gh_ot (some r) → p = r := fun e => (nI_eq (a := p) (b := r) (by omega) (by omega)).mp e
      by_cases e : p = r
      · have e0 : gh_st2 a_kind a_first p r = 0 := if_pos e
        have ee : gh_ot (some p) = gh_ot (some r) := by rw [e]
        exact br_c (fun _ => br_t ee (eq1 e0 1)) (fun _ => br_c (fun _ => br_t ee (eq1 e0 1)) (fun _ => br_t ee (eq1 e0 0)))
      · have ne : ¬ gh_ot (some p) = gh_ot (some r) := fun z => e (same z)
        refine br_c (fun h => ?_) (fun h3 => br_c (fun h => ?_) (fun h4 => ?_))
        · have e1 : gh_st2 a_kind a_first p r = 1 := (if_neg e).trans (if_pos h)
          exact br_f ne (br_f (by rw [h]; decide) (ne1 e1))
        · have e1 : gh_st2 a_kind a_first p r = 1 := (if_neg e).trans ((if_neg h3).trans (if_pos h))
          refine br_f ne (br_c (fun _ => ?_) (fun _ => ne1 e1))
          exact br_f (by rw [h]; decide) (ne1 e1)
        · have e3 : gh_st2 a_kind a_first p r = (if a_kind p = 1 then (if a_kind r = 1 then (if a_first p = a_first r then 0 else 2) else 2) else 2) := (if_neg e).trans ((if_neg h3).trans (if_neg h4))
          refine br_f ne (br_c (fun h5 => br_c (fun h6 => br_c (fun h7 => ?_) (fun h7 => ?_)) (fun h6 => ?_)) (fun h5 => ?_))
          · rw [(V p hp).1 h5, (V r hr).1 h6] at h7
            exact eq1 (e3.trans ((if_pos h5).trans ((if_pos h6).trans (if_pos h7)))) 0
          · rw [(V p hp).1 h5, (V r hr).1 h6] at h7
            exact ne0 (e3.trans ((if_pos h5).trans ((if_pos h6).trans (if_neg h7))))
          · exact ne0 (e3.trans ((if_pos h5).trans (if_neg h6)))
          · exact ne0 (e3.trans (if_neg h5))
end
end
section
/-! the reference: verdict, clause state, first -/
def gh_hv (kd fs : Nat → Int32) (h : Nat → Option Nat) (op a b : Int32) (t : Nat) : Nat :=
  if op = 10 then (if t = 0 then gh_kt kd 1 (h a.toNatClampNeg) else gh_kt kd 1 (h b.toNatClampNeg)) else (if t = 0 then gh_tv kd fs h op a b else 0)
def gh_hb (kd fs : Nat → Int32) (h : Nat → Option Nat) (op a b : Int32) (t v : Nat) : Prop :=
  (op = 10 ∧ ((t = 0 ∧ gh_k1 kd (h a.toNatClampNeg) v) ∨ (t ≠ 0 ∧ gh_k1 kd (h b.toNatClampNeg) v))) ∨ (op ≠ 10 ∧ t = 0 ∧ gh_bl kd fs h op a b v)
def gh_sn (sx sy : Int32) (v : Nat) : Prop := ¬ sx < 0 ∧ ¬ sy < 0 ∧ (sx = nI v ∨ sy = nI v)
section
variable {kd fs : Nat → Int32} {h : Nat → Option Nat} {op a b : Int32}
theorem gh_hv_max : max (gh_hv kd fs h op a b 0) (gh_hv kd fs h op a b 1) = gh_tv kd fs h op a b := by
  by_cases e : op = 10
  · subst e; rfl
  · have e0 : gh_hv kd fs h op a b 0 = gh_tv kd fs h op a b := if_neg e
    have e1 : gh_hv kd fs h op a b 1 = 0 := if_neg e
    rw [e0, e1]
    omega
theorem gh_hv_le {t : Nat} (ht : t < 2) : gh_hv kd fs h op a b t ≤ 2 := by
  have h1 := gh_hv_max (kd := kd) (fs := fs) (h := h) (op := op) (a := a) (b := b)
  have h2 := gh_tv_le (kd := kd) (fs := fs) (h := h) (op := op) (a := a) (b := b)
  have : t = 0 ∨ t = 1 := by omega
  rcases this with rfl | rfl <;> omega
theorem gh_hb_or {v : Nat} : gh_bl kd fs h op a b v ↔ (gh_hb kd fs h op a b 0 v ∨ gh_hb kd fs h op a b 1 v) := by
  by_cases e : op = 10
  · subst e
    rw [gh_bl_10]
    constructor
    · rintro (k | k)
      · exact Or.inl (Or.inl ⟨rfl, Or.inl ⟨rfl, k⟩⟩)
      · exact Or.inr (Or.inl ⟨rfl, Or.inr ⟨by decide, k⟩⟩)
    · rintro ((⟨_, ⟨_, k⟩ | ⟨z, _⟩⟩ | ⟨z, _⟩) | (⟨_, ⟨z, _⟩ | ⟨_, k⟩⟩ | ⟨z, _⟩))
      · exact Or.inl k
      · exact absurd rfl z
      · exact absurd rfl z
      · exact absurd z (by decide)
      · exact Or.inr k
      · exact absurd rfl z
  · constructor
    · intro k; exact Or.inl (Or.inr ⟨e, rfl, k⟩)
    · rintro ((⟨z, _⟩ | ⟨_, _, k⟩) | (⟨z, _⟩ | ⟨_, z, _⟩))
      · exact absurd z e
      · exact k
      · exact absurd z e
      · exact absurd z (by decide)
theorem gh_sn_1 {x : Option Nat} (hx : ∀ p, x = some p → p < 64) {v : Nat} (hv : v < 64) : gh_sn (gh_ot x) (gh_ot x) v ↔ x = some v := by
  cases x with
  | none => exact ⟨fun z => absurd gh_m1neg z.1, fun z => absurd z (by simp)⟩
  | some p =>
    have hp := hx p rfl
    constructor
    · rintro ⟨_, _, z⟩
      have e : nI p = nI v := z.elim id id
      rw [(nI_eq (by omega) (by omega)).mp e]
    · intro e
      obtain rfl := Option.some.inj e
      exact ⟨nI_pos (by omega), nI_pos (by omega), Or.inl rfl⟩
theorem gh_sn_2 {x y : Option Nat} (hx : ∀ p, x = some p → p < 64) (hy : ∀ p, y = some p → p < 64) {v : Nat} (hv : v < 64) : gh_sn (gh_ot x) (gh_ot y) v ↔ ∃ p q, x = some p ∧ y = some q ∧ (v = p ∨ v = q) := by
  cases x with
  | none => exact ⟨fun z => absurd gh_m1neg z.1, fun ⟨_, _, z, _⟩ => absurd z (by simp)⟩
  | some p =>
    have hp := hx p rfl
    cases y with
    | none => exact ⟨fun z => absurd gh_m1neg z.2.1, fun ⟨_, _, _, z, _⟩ => absurd z (by simp)⟩
    | some q =>
      have hq := hy q rfl
      constructor
      · rintro ⟨_, _, z | z⟩
        · exact ⟨p, q, rfl, rfl, Or.inl ((nI_eq (a := p) (by omega) (by omega)).mp z).symm⟩
        · exact ⟨p, q, rfl, rfl, Or.inr ((nI_eq (a := q) (by omega) (by omega)).mp z).symm⟩
      · rintro ⟨p', q', e1, e2, z⟩
        rw [← Option.some.inj e1, ← Option.some.inj e2] at z
        refine ⟨nI_pos (n := p) (by omega), nI_pos (n := q) (by omega), ?_⟩
        rcases z with rfl | rfl
        · exact Or.inl rfl
        · exact Or.inr rfl
theorem gh_hd_lt {nC : Nat} {kd rf fs sc : Nat → Int32} {E G : Nat → Nat} (H : gh_HX nC kd rf fs sc E) (hG : ∀ j, j < 3 → G j < nC) {n p : Nat} (h : gh_hd kd fs sc E G n = some p) : p < nC := by
  unfold gh_hd at h
  by_cases z : n < 3
  · rw [if_pos z] at h
    obtain rfl := Option.some.inj h
    exact hG n z
  · rw [if_neg z] at h
    by_cases w : n < 9 ∧ kd (G ((n - 3) / 2)) = 2
    · rw [if_pos w] at h
      obtain ⟨h1, h2⟩ := H.2 _ (hG ((n - 3) / 2) (by omega)) w.2
      obtain rfl := Option.some.inj h
      by_cases y : n % 2 = 0
      · rw [if_pos y]; exact gh_Ht_e H.1 (gh_vn h2)
      · rw [if_neg y]; exact gh_Ht_e H.1 (gh_vn h1)
    · rw [if_neg w] at h
      exact absurd h (by simp)
end
section
variable {f_cells f_goals f_usedSlots f_woken f_clauses f_writing f_openPairs : Int32} {f_blockedOn : Int64} {f_commits f_lastClause f_broken f_cellLimit f_goalLimit f_clauseLimit : Int32} {a_kind a_first a_second a_ref a_hooks a_order a_goalPred a_goalArg a_goalState a_clausePred a_itemCount a_makeCount a_spawnCount a_itemOp a_itemA a_itemB a_itemC a_names : Nat → Int32} {b_seenX b_seenY : Int32} {b_num b_value b_left b_right b_rec b_code : Nat → Int32}
variable {nC : Nat} {E G : Nat → Nat} {g : Nat}
theorem gh_v58a {q t n : Nat} {o : Int32} (H : gh_HX nC a_kind a_ref a_first a_second E) (Hy : gh_HY nC a_kind a_first a_second b_left b_right E) (A : gh_AY nC E b_rec g G) (hg : g ≤ 16) (hq : q < 128) (ht : t < 2) (hn : n ≤ 8) (ho : o < 3) (e : b_code (q * 4 + 1 + t) = nI n) {post : Int32 → SY → Prop}
    (k : wY_verdict_106 post (nI (q * 4)) o (gh_ot ((gh_hd a_kind a_first a_second E G) n)) (gh_ot ((gh_hd a_kind a_first a_second E G) n)) b_seenY b_num a_kind a_ref b_value b_left b_right b_rec b_code a_clausePred a_itemCount) : wY_verdict_58 post (nI g) (nI (q * 4)) (nI t) o b_seenX b_seenY b_num a_kind a_ref b_value b_left b_right b_rec b_code a_clausePred a_itemCount := by
  unfold wY_verdict_58
  rw [nI_1, nI_add]
  refine And.intro (vp_in_nI (by omega) (by omega)) ?_
  rw [nI_clamp (by omega), e]
  exact gh_fdY H Hy A hg hn (br_t ho k)
theorem gh_v58b {q n m : Nat} {o : Int32} (H : gh_HX nC a_kind a_ref a_first a_second E) (Hy : gh_HY nC a_kind a_first a_second b_left b_right E) (A : gh_AY nC E b_rec g G) (hg : g ≤ 16) (hq : q < 128) (hn : n ≤ 8) (hm : m ≤ 8) (ho : ¬ o < 3) (e : b_code (q * 4 + 1) = nI n) (e2 : b_code (q * 4 + 2) = nI m) {post : Int32 → SY → Prop}
    (k : wY_verdict_106 post (nI (q * 4)) o (gh_ot ((gh_hd a_kind a_first a_second E G) m)) (gh_ot ((gh_hd a_kind a_first a_second E G) n)) b_seenY b_num a_kind a_ref b_value b_left b_right b_rec b_code a_clausePred a_itemCount) : wY_verdict_58 post (nI g) (nI (q * 4)) (nI 0) o b_seenX b_seenY b_num a_kind a_ref b_value b_left b_right b_rec b_code a_clausePred a_itemCount := by
  unfold wY_verdict_58
  rw [show nI (q * 4) + 2 = nI (q * 4 + 2) from nI_add _ 2, nI_1, nI_add, Nat.add_zero]
  refine And.intro (vp_in_nI (by omega) (by omega)) ?_
  rw [nI_clamp (n := q * 4 + 1) (by omega), e]
  refine gh_fdY H Hy A hg hn (br_f ho (And.intro (vp_in_nI (by omega) (by omega)) ?_))
  rw [nI_clamp (n := q * 4 + 2) (by omega), e2]
  exact gh_fdY H Hy A hg hm k
theorem gh_vdY {q t : Nat} (H : gh_HX nC a_kind a_ref a_first a_second E) (Hy : gh_HY nC a_kind a_first a_second b_left b_right E) (V : gh_VY nC a_kind a_first b_value) (A : gh_AY nC E b_rec g G) (hg : g ≤ 16) (hq : q < 128) (ht : t < 2) (D : gh_CD b_code a_itemOp a_itemA a_itemB a_itemC) (h9 : gh_nine (a_itemOp q)) (hn : ∀ x, gh_us (a_itemOp q) (a_itemA q) (a_itemB q) x → ∃ n, n ≤ 8 ∧ x = nI n) {post : Int32 → SY → Prop}
    (k : ∀ sx sy, (gh_hv a_kind a_first (gh_hd a_kind a_first a_second E G) (a_itemOp q) (a_itemA q) (a_itemB q) t = 1 → ∀ v, v < 64 → a_kind v = 0 → (gh_sn sx sy v ↔ gh_hb a_kind a_first (gh_hd a_kind a_first a_second E G) (a_itemOp q) (a_itemA q) (a_itemB q) t v)) → post (gh_yc (gh_hv a_kind a_first (gh_hd a_kind a_first a_second E G) (a_itemOp q) (a_itemA q) (a_itemB q) t)) (sx, sy, b_num, a_kind, a_ref, b_value, b_left, b_right, b_rec, b_code, a_clausePred, a_itemCount)) : wpY_verdict post (b_seenX, b_seenY, b_num, a_kind, a_ref, b_value, b_left, b_right, b_rec, b_code, a_clausePred, a_itemCount) (nI g) (nI (q * 4)) (nI t) := by
  have h64 := H.1.1
  have v5 : vp_in (nI (q * 4)) 512 := vp_in_nI (by omega) (by omega)
  have cq : (nI (q * 4)).toNatClampNeg = q * 4 := nI_clamp (by omega)
  obtain ⟨c0, c1, c2, c3⟩ := D q hq
  have hG : ∀ j, j < 3 → G j < nC := fun j hj => by
    obtain ⟨v, e⟩ := A j hj
    rw [← e]
    exact gh_Ht_e H.1 (gh_vn v)
  have bd : ∀ n p, (gh_hd a_kind a_first a_second E G) n = some p → p < nC := fun n p e => gh_hd_lt H hG e
  have bd6 : ∀ n p, (gh_hd a_kind a_first a_second E G) n = some p → p < 64 := fun n p e => by have := bd n p e; omega
  have yes1 : t = 1 → a_itemOp q ≠ 10 → ∀ z0, ¬ 5 < z0 → wY_verdict_32 post (nI g) (nI (q * 4)) (nI t) z0 b_seenX b_seenY b_num a_kind a_ref b_value b_left b_right b_rec b_code a_clausePred a_itemCount := by
    intro et h10 z0 hz
    have e0 : gh_hv a_kind a_first (gh_hd a_kind a_first a_second E G) (a_itemOp q) (a_itemA q) (a_itemB q) t = 0 := (if_neg h10).trans (if_neg (by omega))
    have kk := k b_seenX b_seenY (fun z => by rw [e0] at z; exact absurd z (by decide))
    rw [e0] at kk
    subst et
    refine br_f hz (br_t rfl (And.intro v5 ?_))
    rw [cq, c0]
    exact br_f h10 kk
  have hvt : t = 0 → a_itemOp q ≠ 10 → gh_hv a_kind a_first (gh_hd a_kind a_first a_second E G) (a_itemOp q) (a_itemA q) (a_itemB q) t = gh_tv a_kind a_first (gh_hd a_kind a_first a_second E G) (a_itemOp q) (a_itemA q) (a_itemB q) := fun et h10 => (if_neg h10).trans (if_pos et)
  have hbt : t = 0 → a_itemOp q ≠ 10 → ∀ v, gh_hb a_kind a_first (gh_hd a_kind a_first a_second E G) (a_itemOp q) (a_itemA q) (a_itemB q) t v ↔ gh_bl a_kind a_first (gh_hd a_kind a_first a_second E G) (a_itemOp q) (a_itemA q) (a_itemB q) v := fun et h10 v => ⟨fun z => z.elim (fun z => absurd z.1 h10) (fun z => z.2.2), fun z => Or.inr ⟨h10, et, z⟩⟩
  have t01 : t = 0 ∨ t = 1 := by omega
  refine And.intro v5 ?_
  rw [cq, c0]
  rcases h9 with e | e | e | e | e | e | e | e | ⟨o, ho, h5, hn9, hn10, e⟩
  · obtain ⟨n, n8, ea⟩ := hn (a_itemA q) (Or.inl ⟨Or.inl e, rfl⟩)
    have h10 : a_itemOp q ≠ 10 := by rw [e]; decide
    rw [e] at yes1 ⊢
    refine br_f (by decide) (And.intro v5 (br_f (by decide) (And.intro v5 ?_)))
    rcases t01 with et | et
    · have hv := hvt et h10
      have hb := hbt et h10
      subst et
      rw [hv] at k
      refine br_f (by decide) (br_f (by decide) (gh_v58a H Hy A hg hq (by omega) n8 (by decide) (c1.trans ea) (gh_v0 (bd6 n) ?_)))
      have kk := k (gh_ot ((gh_hd a_kind a_first a_second E G) n)) (gh_ot ((gh_hd a_kind a_first a_second E G) n)) (fun _ v hv hk => by
        rw [gh_sn_1 (bd6 n) hv, hb v, e, gh_bl_1 (Or.inl rfl), ea, nI_clamp (n := n) (by omega)]
        exact ⟨fun z => ⟨hk, z⟩, fun z => z.2⟩)
      rw [e, gh_tv_0, ea, nI_clamp (n := n) (by omega)] at kk
      exact kk
    · exact yes1 et (by decide) 0 (by decide)
  · obtain ⟨n, n8, ea⟩ := hn (a_itemA q) (Or.inl ⟨Or.inr (Or.inl e), rfl⟩)
    have h10 : a_itemOp q ≠ 10 := by rw [e]; decide
    rw [e] at yes1 ⊢
    refine br_f (by decide) (And.intro v5 (br_f (by decide) (And.intro v5 ?_)))
    rcases t01 with et | et
    · have hv := hvt et h10
      have hb := hbt et h10
      subst et
      rw [hv] at k
      refine br_f (by decide) (br_f (by decide) (gh_v58a H Hy A hg hq (by omega) n8 (by decide) (c1.trans ea) (gh_v1 V h64 (bd n) hq ?_)))
      have kk := k (gh_ot ((gh_hd a_kind a_first a_second E G) n)) (gh_ot ((gh_hd a_kind a_first a_second E G) n)) (fun _ v hv hk => by
        rw [gh_sn_1 (bd6 n) hv, hb v, e, gh_bl_1 (Or.inr (Or.inl rfl)), ea, nI_clamp (n := n) (by omega)]
        exact ⟨fun z => ⟨hk, z⟩, fun z => z.2⟩)
      rw [e, gh_tv_1, ea, nI_clamp (n := n) (by omega), ← c2] at kk
      exact kk
    · exact yes1 et (by decide) 1 (by decide)
  · obtain ⟨n, n8, ea⟩ := hn (a_itemA q) (Or.inl ⟨Or.inr (Or.inr (Or.inl e)), rfl⟩)
    have h10 : a_itemOp q ≠ 10 := by rw [e]; decide
    rw [e] at yes1 ⊢
    refine br_f (by decide) (And.intro v5 (br_f (by decide) (And.intro v5 ?_)))
    rcases t01 with et | et
    · have hv := hvt et h10
      have hb := hbt et h10
      subst et
      rw [hv] at k
      refine br_f (by decide) (br_f (by decide) (gh_v58a H Hy A hg hq (by omega) n8 (by decide) (c1.trans ea) (gh_v2 (bd6 n) ?_)))
      have kk := k (gh_ot ((gh_hd a_kind a_first a_second E G) n)) (gh_ot ((gh_hd a_kind a_first a_second E G) n)) (fun _ v hv hk => by
        rw [gh_sn_1 (bd6 n) hv, hb v, e, gh_bl_1 (Or.inr (Or.inr (Or.inl rfl))), ea, nI_clamp (n := n) (by omega)]
        exact ⟨fun z => ⟨hk, z⟩, fun z => z.2⟩)
      rw [e, gh_tv_2, ea, nI_clamp (n := n) (by omega)] at kk
      exact kk
    · exact yes1 et (by decide) 2 (by decide)
  · obtain ⟨n, n8, ea⟩ := hn (a_itemA q) (Or.inl ⟨Or.inr (Or.inr (Or.inr (Or.inl e))), rfl⟩)
    have h10 : a_itemOp q ≠ 10 := by rw [e]; decide
    rw [e] at yes1 ⊢
    refine br_t rfl ?_
    rcases t01 with et | et
    · have hv := hvt et h10
      have hb := hbt et h10
      subst et
      rw [hv] at k
      refine br_f (by decide) (br_f (by decide) (gh_v58a H Hy A hg hq (by omega) n8 (by decide) (c1.trans ea) (gh_v2 (bd6 n) ?_)))
      have kk := k (gh_ot ((gh_hd a_kind a_first a_second E G) n)) (gh_ot ((gh_hd a_kind a_first a_second E G) n)) (fun _ v hv hk => by
        rw [gh_sn_1 (bd6 n) hv, hb v, e, gh_bl_1 (Or.inr (Or.inr (Or.inr rfl))), ea, nI_clamp (n := n) (by omega)]
        exact ⟨fun z => ⟨hk, z⟩, fun z => z.2⟩)
      rw [e, gh_tv_9, ea, nI_clamp (n := n) (by omega)] at kk
      exact kk
    · exact yes1 et (by decide) 2 (by decide)
  · obtain ⟨n, n8, ea⟩ := hn (a_itemA q) (Or.inl ⟨Or.inr (Or.inr (Or.inr (Or.inr (Or.inr (Or.inr (Or.inr e)))))), rfl⟩)
    obtain ⟨m, m8, eb⟩ := hn (a_itemB q) (Or.inr ⟨Or.inr (Or.inr (Or.inr e)), rfl⟩)
    have cn : (nI n).toNatClampNeg = n := nI_clamp (by omega)
    have cm : (nI m).toNatClampNeg = m := nI_clamp (by omega)
    have e' := e
    rw [e] at k ⊢
    rw [e] at c0
    refine br_f (by decide) (And.intro v5 (br_t rfl ?_))
    rcases t01 with et | et
    · subst et
      refine br_f (by decide) (br_f (by decide) (gh_v58a H Hy A hg hq (by omega) n8 (by decide) (c1.trans ea) (gh_v2 (bd6 n) ?_)))
      have ev : gh_hv a_kind a_first (gh_hd a_kind a_first a_second E G) 10 (a_itemA q) (a_itemB q) 0 = gh_kt a_kind 1 ((gh_hd a_kind a_first a_second E G) n) := by
        rw [show gh_hv a_kind a_first (gh_hd a_kind a_first a_second E G) 10 (a_itemA q) (a_itemB q) 0 = gh_kt a_kind 1 ((gh_hd a_kind a_first a_second E G) (a_itemA q).toNatClampNeg) from rfl, ea, cn]
      have kk := k (gh_ot ((gh_hd a_kind a_first a_second E G) n)) (gh_ot ((gh_hd a_kind a_first a_second E G) n)) (fun _ v hv hk => by
        rw [gh_sn_1 (bd6 n) hv]
        constructor
        · intro z
          refine Or.inl ⟨rfl, Or.inl ⟨rfl, hk, ?_⟩⟩
          rw [ea, cn]; exact z
        · rintro (⟨_, ⟨_, _, z⟩ | ⟨z, _⟩⟩ | ⟨z, _⟩)
          · rw [ea, cn] at z; exact z
          · exact absurd rfl z
          · exact absurd rfl z)
      rw [ev] at kk
      exact kk
    · subst et
      refine br_f (by decide) (br_t rfl (And.intro v5 ?_))
      rw [cq, c0]
      refine br_t rfl (gh_v58a H Hy A hg hq (by omega) m8 (by decide) (c2.trans eb) (gh_v2 (bd6 m) ?_))
      have ev : gh_hv a_kind a_first (gh_hd a_kind a_first a_second E G) 10 (a_itemA q) (a_itemB q) 1 = gh_kt a_kind 1 ((gh_hd a_kind a_first a_second E G) m) := by
        rw [show gh_hv a_kind a_first (gh_hd a_kind a_first a_second E G) 10 (a_itemA q) (a_itemB q) 1 = gh_kt a_kind 1 ((gh_hd a_kind a_first a_second E G) (a_itemB q).toNatClampNeg) from rfl, eb, cm]
      have kk := k (gh_ot ((gh_hd a_kind a_first a_second E G) m)) (gh_ot ((gh_hd a_kind a_first a_second E G) m)) (fun _ v hv hk => by
        rw [gh_sn_1 (bd6 m) hv]
        constructor
        · intro z
          refine Or.inl ⟨rfl, Or.inr ⟨by decide, hk, ?_⟩⟩
          rw [eb, cm]; exact z
        · rintro (⟨_, ⟨z, _⟩ | ⟨_, _, z⟩⟩ | ⟨z, _⟩)
          · exact absurd z (by decide)
          · rw [eb, cm] at z; exact z
          · exact absurd rfl z)
      rw [ev] at kk
      exact kk
  · obtain ⟨n, n8, ea⟩ := hn (a_itemA q) (Or.inl ⟨Or.inr (Or.inr (Or.inr (Or.inr (Or.inl e)))), rfl⟩)
    obtain ⟨m, m8, eb⟩ := hn (a_itemB q) (Or.inr ⟨Or.inl e, rfl⟩)
    have h10 : a_itemOp q ≠ 10 := by rw [e]; decide
    rw [e] at yes1 ⊢
    refine br_f (by decide) (And.intro v5 (br_f (by decide) (And.intro v5 ?_)))
    rcases t01 with et | et
    · have hv := hvt et h10
      have hb := hbt et h10
      subst et
      rw [hv] at k
      refine br_f (by decide) (br_f (by decide) (gh_v58b H Hy A hg hq n8 m8 (by decide) (c1.trans ea) (c2.trans eb) (gh_v3 H.1 V (bd n) (bd m) ?_)))
      have kk := k (gh_ot ((gh_hd a_kind a_first a_second E G) n)) (gh_ot ((gh_hd a_kind a_first a_second E G) m)) (fun h1 v hv hk => by
        rw [gh_sn_2 (bd6 n) (bd6 m) hv, hb v]
        rw [e] at h1 ⊢
        rw [gh_bl_2 (Or.inl rfl), h1, ea, eb, nI_clamp (n := n) (by omega), nI_clamp (n := m) (by omega)]
        exact ⟨fun z => ⟨rfl, hk, z⟩, fun z => z.2.2⟩)
      rw [e, gh_tv_3, ea, eb, nI_clamp (n := n) (by omega), nI_clamp (n := m) (by omega)] at kk
      exact kk
    · exact yes1 et (by decide) 3 (by decide)
  · obtain ⟨n, n8, ea⟩ := hn (a_itemA q) (Or.inl ⟨Or.inr (Or.inr (Or.inr (Or.inr (Or.inr (Or.inl e))))), rfl⟩)
    obtain ⟨m, m8, eb⟩ := hn (a_itemB q) (Or.inr ⟨Or.inr (Or.inl e), rfl⟩)
    have h10 : a_itemOp q ≠ 10 := by rw [e]; decide
    rw [e] at yes1 ⊢
    refine br_f (by decide) (And.intro v5 (br_f (by decide) (And.intro v5 ?_)))
    rcases t01 with et | et
    · have hv := hvt et h10
      have hb := hbt et h10
      subst et
      rw [hv] at k
      refine br_f (by decide) (br_f (by decide) (gh_v58b H Hy A hg hq n8 m8 (by decide) (c1.trans ea) (c2.trans eb) (gh_v45 (Or.inl rfl) H.1 V (bd n) (bd m) ?_)))
      have kk := k (gh_ot ((gh_hd a_kind a_first a_second E G) n)) (gh_ot ((gh_hd a_kind a_first a_second E G) m)) (fun h1 v hv hk => by
        rw [gh_sn_2 (bd6 n) (bd6 m) hv, hb v]
        rw [e] at h1 ⊢
        rw [gh_bl_2 (Or.inr (Or.inl rfl)), h1, ea, eb, nI_clamp (n := n) (by omega), nI_clamp (n := m) (by omega)]
        exact ⟨fun z => ⟨rfl, hk, z⟩, fun z => z.2.2⟩)
      rw [e, gh_tv_4, ea, eb, nI_clamp (n := n) (by omega), nI_clamp (n := m) (by omega)] at kk
      exact kk
    · exact yes1 et (by decide) 4 (by decide)
  · obtain ⟨n, n8, ea⟩ := hn (a_itemA q) (Or.inl ⟨Or.inr (Or.inr (Or.inr (Or.inr (Or.inr (Or.inr (Or.inl e)))))), rfl⟩)
    obtain ⟨m, m8, eb⟩ := hn (a_itemB q) (Or.inr ⟨Or.inr (Or.inr (Or.inl e)), rfl⟩)
    have h10 : a_itemOp q ≠ 10 := by rw [e]; decide
    rw [e] at yes1 ⊢
    refine br_f (by decide) (And.intro v5 (br_f (by decide) (And.intro v5 ?_)))
    rcases t01 with et | et
    · have hv := hvt et h10
      have hb := hbt et h10
      subst et
      rw [hv] at k
      refine br_f (by decide) (br_f (by decide) (gh_v58b H Hy A hg hq n8 m8 (by decide) (c1.trans ea) (c2.trans eb) (gh_v45 (Or.inr rfl) H.1 V (bd n) (bd m) ?_)))
      have kk := k (gh_ot ((gh_hd a_kind a_first a_second E G) n)) (gh_ot ((gh_hd a_kind a_first a_second E G) m)) (fun h1 v hv hk => by
        rw [gh_sn_2 (bd6 n) (bd6 m) hv, hb v]
        rw [e] at h1 ⊢
        rw [gh_bl_2 (Or.inr (Or.inr rfl)), h1, ea, eb, nI_clamp (n := n) (by omega), nI_clamp (n := m) (by omega)]
        exact ⟨fun z => ⟨rfl, hk, z⟩, fun z => z.2.2⟩)
      rw [e, gh_tv_5, ea, eb, nI_clamp (n := n) (by omega), nI_clamp (n := m) (by omega)] at kk
      exact kk
    · exact yes1 et (by decide) 5 (by decide)
  · have h10 : a_itemOp q ≠ 10 := by rw [e]; exact gh_op (k := 10) ho (by omega) hn10
    have e0 : gh_hv a_kind a_first (gh_hd a_kind a_first a_second E G) (a_itemOp q) (a_itemA q) (a_itemB q) t = 0 := by
      rcases t01 with et | et
      · rw [hvt et h10, e, gh_tv_n ho h5 hn9 hn10]
      · exact (if_neg h10).trans (if_neg (by omega))
    have kk := k b_seenX b_seenY (fun z => by rw [e0] at z; exact absurd z (by decide))
    rw [e0] at kk
    rw [e]
    refine br_f (gh_op (k := 9) ho (by omega) hn9) (And.intro v5 (br_f (gh_op (k := 10) ho (by omega) hn10) (And.intro v5 (br_t (nI_lt (a := 5) h5 (by omega)) kk))))
/-! the loop over the halves of a clause's items -/
def gh_jh (kd fs : Nat → Int32) (h : Nat → Option Nat) (io ia ib : Nat → Int32) (c : Nat) : Nat → Nat
  | 0 => 0
  | t + 1 => max (gh_jh kd fs h io ia ib c t) (gh_hv kd fs h (io (c * 8 + t / 2)) (ia (c * 8 + t / 2)) (ib (c * 8 + t / 2)) (t % 2))
theorem gh_jh_jv {kd fs : Nat → Int32} {h : Nat → Option Nat} {io ia ib : Nat → Int32} {c : Nat} : ∀ m, gh_jh kd fs h io ia ib c (m * 2) = gh_jv kd fs h io ia ib c m := by
  intro m
  induction m with
  | zero => rfl
  | succ m ih =>
    have e : (m + 1) * 2 = m * 2 + 1 + 1 := by omega
    rw [e]
    show max (max (gh_jh kd fs h io ia ib c (m * 2)) (gh_hv kd fs h (io (c * 8 + m * 2 / 2)) (ia (c * 8 + m * 2 / 2)) (ib (c * 8 + m * 2 / 2)) (m * 2 % 2))) (gh_hv kd fs h (io (c * 8 + (m * 2 + 1) / 2)) (ia (c * 8 + (m * 2 + 1) / 2)) (ib (c * 8 + (m * 2 + 1) / 2)) ((m * 2 + 1) % 2)) = max (gh_jv kd fs h io ia ib c m) (gh_tv kd fs h (io (c * 8 + m)) (ia (c * 8 + m)) (ib (c * 8 + m)))
    rw [show m * 2 / 2 = m by omega, show m * 2 % 2 = 0 by omega, show (m * 2 + 1) / 2 = m by omega, show (m * 2 + 1) % 2 = 1 by omega, ih, ← gh_hv_max]
    omega
theorem gh_jh_mono {kd fs : Nat → Int32} {h : Nat → Option Nat} {io ia ib : Nat → Int32} {c i : Nat} : ∀ {n : Nat}, i ≤ n → gh_jh kd fs h io ia ib c i ≤ gh_jh kd fs h io ia ib c n := by
  intro n
  induction n with
  | zero => intro z; obtain rfl : i = 0 := by omega
            exact Nat.le_refl _
  | succ n ih =>
    intro z
    by_cases e : i = n + 1
    · rw [e]; exact Nat.le_refl _
    · exact Nat.le_trans (ih (by omega)) (Nat.le_max_left _ _)
theorem gh_yc_in {m : Nat} (hm : m ≤ 2) : (m = 0 ∧ gh_yc m = 1) ∨ (m = 1 ∧ gh_yc m = 2) ∨ (m = 2 ∧ gh_yc m = 0) := by
  have : m = 0 ∨ m = 1 ∨ m = 2 := by omega
  rcases this with rfl | rfl | rfl
  · exact Or.inl ⟨rfl, rfl⟩
  · exact Or.inr (Or.inl ⟨rfl, rfl⟩)
  · exact Or.inr (Or.inr ⟨rfl, rfl⟩)
theorem gh_it2 {c t : Nat} : (nI c * 8 + nI t / 2) * 4 = nI ((c * 8 + t / 2) * 4) ∨ 2 ^ 31 ≤ t := by
  by_cases h : t < 2 ^ 31
  · left
    rw [show nI t / 2 = nI (t / 2) from pk_div (d := 2) h (by omega) (by omega), gh_ix8]
    exact pk_mul _ 4
  · right; omega
theorem gh_it2' {c t : Nat} (h : t < 100) : (nI c * 8 + nI t / 2) * 4 = nI ((c * 8 + t / 2) * 4) := gh_it2.resolve_right (by omega)
theorem gh_itr {t : Nat} (h : t < 100) : nI t - nI t / 2 * 2 = nI (t % 2) := pk_rem (d := 2) (by omega) (by omega) (by omega)
theorem gh_csx {c m : Nat} (H : gh_HX nC a_kind a_ref a_first a_second E) (Hy : gh_HY nC a_kind a_first a_second b_left b_right E) (V : gh_VY nC a_kind a_first b_value) (A : gh_AY nC E b_rec g G) (hg : g ≤ 16) (D : gh_CD b_code a_itemOp a_itemA a_itemB a_itemC) (hc : c < 16) (hm : m ≤ 8) (ec : a_itemCount c = nI m) (W : ∀ i, i < m → gh_WI a_itemOp a_itemA a_itemB a_itemC c i) {post : Int32 → SY → Prop}
    (k : ∀ sx sy, post (gh_yc (gh_jh a_kind a_first (gh_hd a_kind a_first a_second E G) a_itemOp a_itemA a_itemB c (m * 2))) (sx, sy, b_num, a_kind, a_ref, b_value, b_left, b_right, b_rec, b_code, a_clausePred, a_itemCount)) :
    ∀ d t n sx sy, t + d = m * 2 → d < n → gh_jh a_kind a_first (gh_hd a_kind a_first a_second E G) a_itemOp a_itemA a_itemB c t ≤ 2 → wY_clauseState_26 post (nI g) (nI c) n (gh_yc (gh_jh a_kind a_first (gh_hd a_kind a_first a_second E G) a_itemOp a_itemA a_itemB c t)) (nI t) sx sy b_num a_kind a_ref b_value b_left b_right b_rec b_code a_clausePred a_itemCount := by
  have hv : vp_in (nI c) 16 := vp_in_nI hc (by omega)
  have cc : (nI c).toNatClampNeg = c := nI_clamp (by omega)
  have l2 : gh_jh a_kind a_first (gh_hd a_kind a_first a_second E G) a_itemOp a_itemA a_itemB c (m * 2) ≤ 2 := by rw [gh_jh_jv]; exact gh_jv_le
  intro d
  induction d with
  | zero =>
    intro t n sx sy ht hn hj
    obtain ⟨n, rfl⟩ : ∃ n', n = n' + 1 := ⟨n - 1, by omega⟩
    obtain rfl : t = m * 2 := by omega
    refine And.intro hv ?_
    rw [cc, ec, show nI m * 2 = nI (m * 2) from pk_mul m 2]
    exact br_t (nI_le (Nat.le_refl _) (by omega)) (k sx sy)
  | succ d ih =>
    intro t n sx sy ht hn hj
    obtain ⟨n, rfl⟩ : ∃ n', n = n' + 1 := ⟨n - 1, by omega⟩
    refine And.intro hv ?_
    rw [cc, ec, show nI m * 2 = nI (m * 2) from pk_mul m 2]
    refine br_f (nI_ge (by omega) (by omega)) ?_
    have es : gh_jh a_kind a_first (gh_hd a_kind a_first a_second E G) a_itemOp a_itemA a_itemB c (t + 1) = max (gh_jh a_kind a_first (gh_hd a_kind a_first a_second E G) a_itemOp a_itemA a_itemB c t) (gh_hv a_kind a_first (gh_hd a_kind a_first a_second E G) (a_itemOp (c * 8 + t / 2)) (a_itemA (c * 8 + t / 2)) (a_itemB (c * 8 + t / 2)) (t % 2)) := rfl
    have lm := gh_jh_mono (kd := a_kind) (fs := a_first) (h := (gh_hd a_kind a_first a_second E G)) (io := a_itemOp) (ia := a_itemA) (ib := a_itemB) (c := c) (i := t) (n := m * 2) (by omega)
    have main : ¬ gh_jh a_kind a_first (gh_hd a_kind a_first a_second E G) a_itemOp a_itemA a_itemB c t = 2 → wpY_verdict (fun r_9 u => match u with | (s0, s1, s2, s3, s4, s5, s6, s7, s8, s9, s10, s11) => ((r_9 = 1 → ∀ y : Int32, y = nI t + 1 → wY_clauseState_26 post (nI g) (nI c) n (gh_yc (gh_jh a_kind a_first (gh_hd a_kind a_first a_second E G) a_itemOp a_itemA a_itemB c t)) y s0 s1 s2 s3 s4 s5 s6 s7 s8 s9 s10 s11) ∧ (¬ r_9 = 1 → ∀ y : Int32, y = nI t + 1 → wY_clauseState_26 post (nI g) (nI c) n r_9 y s0 s1 s2 s3 s4 s5 s6 s7 s8 s9 s10 s11))) (sx, sy, b_num, a_kind, a_ref, b_value, b_left, b_right, b_rec, b_code, a_clausePred, a_itemCount) (nI g) ((nI c * 8 + nI t / 2) * 4) (nI t - nI t / 2 * 2) := by
      intro hne
      rw [gh_it2' (by omega), gh_itr (by omega)]
      have hi : t / 2 < m := by omega
      have Wi := W (t / 2) hi
      refine gh_vdY H Hy V A hg (by omega) (by omega) D (gh_WI_9 Wi) (fun x hx => ?_) (fun sx' sy' _ => ?_)
      · obtain ⟨n, h1, h2, _⟩ := gh_WI_us Wi hx
        exact ⟨n, h1, h2⟩
      · have lh := gh_hv_le (kd := a_kind) (fs := a_first) (h := (gh_hd a_kind a_first a_second E G)) (op := a_itemOp (c * 8 + t / 2)) (a := a_itemA (c * 8 + t / 2)) (b := a_itemB (c * 8 + t / 2)) (t := t % 2) (by omega)
        have tt := ih (t + 1) n sx' sy' (by omega) (by omega) (by omega)
        rw [es] at tt
        generalize gh_hv a_kind a_first (gh_hd a_kind a_first a_second E G) (a_itemOp (c * 8 + t / 2)) (a_itemA (c * 8 + t / 2)) (a_itemB (c * 8 + t / 2)) (t % 2) = w at lh tt
        rcases gh_yc_in lh with ⟨rfl, e⟩ | ⟨rfl, e⟩ | ⟨rfl, e⟩
        · rw [Nat.max_eq_left (by omega)] at tt
          exact br_t rfl (nm_r (nI_1 t) tt)
        · rw [Nat.max_eq_right (by omega)] at tt
          exact br_f (by decide) (nm_r (nI_1 t) tt)
        · rw [Nat.max_eq_right (by omega)] at tt
          exact br_f (by decide) (nm_r (nI_1 t) tt)
    by_cases z : gh_jh a_kind a_first (gh_hd a_kind a_first a_second E G) a_itemOp a_itemA a_itemB c t = 2
    · have kk := k sx sy
      rw [show gh_jh a_kind a_first (gh_hd a_kind a_first a_second E G) a_itemOp a_itemA a_itemB c (m * 2) = 2 by omega] at kk
      rw [z]
      exact br_t rfl kk
    · refine br_f ?_ (And.intro gh_20 (And.intro gh_20 (main z)))
      rcases gh_yc_in hj with ⟨e0, e⟩ | ⟨e0, e⟩ | ⟨e0, e⟩
      · rw [e]; decide
      · rw [e]; decide
      · exact absurd e0 z
def gh_cs (kd fs : Nat → Int32) (h : Nat → Option Nat) (io ia ib ic cp : Nat → Int32) (gp : Int32) (c : Nat) : Nat := if cp c = gp then gh_cv kd fs h io ia ib ic c else 2
theorem gh_csY {c m : Nat} (H : gh_HX nC a_kind a_ref a_first a_second E) (Hy : gh_HY nC a_kind a_first a_second b_left b_right E) (V : gh_VY nC a_kind a_first b_value) (A : gh_AY nC E b_rec g G) (hg : g ≤ 16) (D : gh_CD b_code a_itemOp a_itemA a_itemB a_itemC) (hc : c < 16) (hm : m ≤ 8) (ec : a_itemCount c = nI m) (W : ∀ i, i < m → gh_WI a_itemOp a_itemA a_itemB a_itemC c i) {post : Int32 → SY → Prop}
    (k : ∀ sx sy, post (gh_yc (gh_cs a_kind a_first (gh_hd a_kind a_first a_second E G) a_itemOp a_itemA a_itemB a_itemCount a_clausePred (b_rec (g * 4)) c)) (sx, sy, b_num, a_kind, a_ref, b_value, b_left, b_right, b_rec, b_code, a_clausePred, a_itemCount)) : wpY_clauseState post (b_seenX, b_seenY, b_num, a_kind, a_ref, b_value, b_left, b_right, b_rec, b_code, a_clausePred, a_itemCount) (nI g) (nI c) := by
  have hv : vp_in (nI c) 16 := vp_in_nI hc (by omega)
  have cc : (nI c).toNatClampNeg = c := nI_clamp (by omega)
  have e4 : nI g * 4 = nI (g * 4) := pk_mul g 4
  refine And.intro hv (And.intro (by rw [e4]; exact vp_in_nI (by omega) (by omega)) ?_)
  rw [cc, e4, nI_clamp (n := g * 4) (by omega)]
  refine br_c (fun hp => ?_) (fun hp => ?_)
  · have ecv : gh_cs a_kind a_first (gh_hd a_kind a_first a_second E G) a_itemOp a_itemA a_itemB a_itemCount a_clausePred (b_rec (g * 4)) c = gh_jh a_kind a_first (gh_hd a_kind a_first a_second E G) a_itemOp a_itemA a_itemB c (m * 2) := by
      rw [gh_jh_jv]
      refine (if_pos hp).trans ?_
      show gh_jv a_kind a_first (gh_hd a_kind a_first a_second E G) a_itemOp a_itemA a_itemB c (a_itemCount c).toNatClampNeg = _
      rw [ec, nI_clamp (by omega)]
    rw [ecv] at k
    exact Exists.intro (m * 2 + 1) (gh_csx H Hy V A hg D hc hm ec W k (m * 2) 0 (m * 2 + 1) b_seenX b_seenY (by omega) (by omega) (Nat.zero_le _))
  · have e2 : gh_cs a_kind a_first (gh_hd a_kind a_first a_second E G) a_itemOp a_itemA a_itemB a_itemCount a_clausePred (b_rec (g * 4)) c = 2 := if_neg hp
    rw [e2] at k
    refine Exists.intro 1 (And.intro hv ?_)
    exact br_c (fun _ => k _ _) (fun _ => br_t rfl (k _ _))
theorem gh_fsx {nK w : Nat} (hw : w ≤ 1) (hK : b_num 2 = nI nK) (H : gh_HX nC a_kind a_ref a_first a_second E) (Hy : gh_HY nC a_kind a_first a_second b_left b_right E) (V : gh_VY nC a_kind a_first b_value) (A : gh_AY nC E b_rec g G) (hg : g ≤ 16) (D : gh_CD b_code a_itemOp a_itemA a_itemB a_itemC) (W : gh_CW nK a_itemCount a_itemOp a_itemA a_itemB a_itemC) {post : Int32 → SY → Prop}
    (k : ∀ sx sy, post (gh_ot (gh_fi (fun c => gh_cs a_kind a_first (gh_hd a_kind a_first a_second E G) a_itemOp a_itemA a_itemB a_itemCount a_clausePred (b_rec (g * 4)) c = w) nK)) (sx, sy, b_num, a_kind, a_ref, b_value, b_left, b_right, b_rec, b_code, a_clausePred, a_itemCount)) :
    ∀ d c n sx sy, c + d = nK → d < n → (∀ c', c' < c → ¬ gh_cs a_kind a_first (gh_hd a_kind a_first a_second E G) a_itemOp a_itemA a_itemB a_itemCount a_clausePred (b_rec (g * 4)) c' = w) → wY_first_2 post (nI g) (gh_yc w) n (nI c) sx sy b_num a_kind a_ref b_value b_left b_right b_rec b_code a_clausePred a_itemCount := by
  have h16 : nK ≤ 16 := by
    rcases Nat.eq_zero_or_pos nK with z | z
    · omega
    · have := (W (nK - 1) (by omega)).1
      omega
  intro d
  induction d with
  | zero =>
    intro c n sx sy hc hn hP
    obtain ⟨n, rfl⟩ : ∃ n', n = n' + 1 := ⟨n - 1, by omega⟩
    obtain rfl : c = nK := by omega
    have t := k sx sy
    rw [gh_fi_n _ hP] at t
    exact br_t (by rw [hK]; exact nI_le (Nat.le_refl _) (by omega)) t
  | succ d ih =>
    intro c n sx sy hc hn hP
    obtain ⟨n, rfl⟩ : ∃ n', n = n' + 1 := ⟨n - 1, by omega⟩
    obtain ⟨c16, m, hm, em, Wc⟩ := W c (by omega)
    refine br_f (by rw [hK]; exact nI_ge (by omega) (by omega)) ?_
    refine gh_csY H Hy V A hg D c16 hm em Wc (fun sx' sy' => ?_)
    have lc : gh_cs a_kind a_first (gh_hd a_kind a_first a_second E G) a_itemOp a_itemA a_itemB a_itemCount a_clausePred (b_rec (g * 4)) c ≤ 2 := by
      unfold gh_cs
      split
      · exact gh_cv_le
      · omega
    by_cases z : gh_cs a_kind a_first (gh_hd a_kind a_first a_second E G) a_itemOp a_itemA a_itemB a_itemCount a_clausePred (b_rec (g * 4)) c = w
    · have t := k sx' sy'
      rw [gh_fi_s (P := fun c => gh_cs a_kind a_first (gh_hd a_kind a_first a_second E G) a_itemOp a_itemA a_itemB a_itemCount a_clausePred (b_rec (g * 4)) c = w) (x := c) z hP nK (by omega)] at t
      exact br_t (by rw [z]) t
    · refine br_f ?_ (nm_r (nI_1 c) ?_)
      · rcases gh_yc_in lc with ⟨e0, e⟩ | ⟨e0, e⟩ | ⟨e0, e⟩ <;> rw [e] <;> (have : w = 0 ∨ w = 1 := by omega) <;> rcases this with rfl | rfl <;> first | exact absurd e0 z | decide
      · exact ih (c + 1) n sx' sy' (by omega) (by omega) (fun c' hc' => by
          by_cases e : c' = c
          · rw [e]; exact z
          · exact hP c' (by omega))
theorem gh_fsY {nK w : Nat} {wd : Int32} (hwd : wd = gh_yc w) (hw : w ≤ 1) (hK : b_num 2 = nI nK) (H : gh_HX nC a_kind a_ref a_first a_second E) (Hy : gh_HY nC a_kind a_first a_second b_left b_right E) (V : gh_VY nC a_kind a_first b_value) (A : gh_AY nC E b_rec g G) (hg : g ≤ 16) (D : gh_CD b_code a_itemOp a_itemA a_itemB a_itemC) (W : gh_CW nK a_itemCount a_itemOp a_itemA a_itemB a_itemC) {post : Int32 → SY → Prop}
    (k : ∀ sx sy, post (gh_ot (gh_fi (fun c => gh_cs a_kind a_first (gh_hd a_kind a_first a_second E G) a_itemOp a_itemA a_itemB a_itemCount a_clausePred (b_rec (g * 4)) c = w) nK)) (sx, sy, b_num, a_kind, a_ref, b_value, b_left, b_right, b_rec, b_code, a_clausePred, a_itemCount)) : wpY_first post (b_seenX, b_seenY, b_num, a_kind, a_ref, b_value, b_left, b_right, b_rec, b_code, a_clausePred, a_itemCount) (nI g) wd := by
  subst hwd
  exact Exists.intro (nK + 1) (gh_fsx hw hK H Hy V A hg D W k nK 0 (nK + 1) b_seenX b_seenY (by omega) (by omega) (fun c hc => absurd hc (Nat.not_lt_zero _)))
end
end
section
/-! the relation's parts, and what keeps them -/
def gh_RN (nC nG nK lc lg lk : Nat) (f_cells f_goals f_clauses f_writing f_commits f_lastClause f_broken f_cellLimit f_goalLimit f_clauseLimit : Int32) (num : Nat → Int32) : Prop :=
  (f_cells = nI nC ∧ f_goals = nI nG ∧ f_clauses = nI nK ∧ (f_writing = 0 ∨ f_writing = 1) ∧ (f_broken = 0 ∨ f_broken = 1)) ∧
  (f_cellLimit = nI lc ∧ f_goalLimit = nI lg ∧ f_clauseLimit = nI lk) ∧
  (nC ≤ lc ∧ lc ≤ 64 ∧ nG ≤ lg ∧ lg ≤ 16 ∧ nK ≤ lk ∧ lk ≤ 16 ∧ (f_writing = 1 → nK < lk)) ∧
  (num 0 = f_cells ∧ num 1 = f_goals ∧ num 2 = f_clauses ∧ num 3 = f_writing ∧ num 4 = f_commits ∧ num 5 = f_lastClause ∧ num 6 = f_broken ∧ num 7 = f_cellLimit ∧ num 8 = f_goalLimit ∧ num 9 = f_clauseLimit)
def gh_C1 (io ia ib ix ic mk sp : Nat → Int32) (c : Nat) : Prop :=
  c < 16 ∧ ∃ m, m ≤ 8 ∧ ic c = nI m ∧ (∀ i, i < m → gh_WI io ia ib ix c i) ∧ mk c = nI (gh_cnt io 6 10 c m) ∧ sp c = nI (gh_cnt io 12 19 c m)
def gh_RK (nK : Nat) (f_writing f_openPairs : Int32) (io ia ib ix ic mk sp cd : Nat → Int32) : Prop :=
  (∀ c, c < nK → gh_C1 io ia ib ix ic mk sp c) ∧
  (f_writing = 1 → gh_C1 io ia ib ix ic mk sp nK ∧ ∀ j, j < 3 → (bt f_openPairs j = true ↔ ∃ i, i < (ic nK).toNatClampNeg ∧ io (nK * 8 + i) = 0 ∧ ia (nK * 8 + i) = nI j)) ∧
  gh_CD cd io ia ib ix
def gh_RH (nC : Nat) (E : Nat → Nat) (kd rf fs sc vl lf rt : Nat → Int32) : Prop := gh_HX nC kd rf fs sc E ∧ gh_HY nC kd fs sc lf rt E ∧ gh_VY nC kd fs vl
def gh_RG (nC nG : Nat) (E : Nat → Nat) (us : Int32) (od gp ga rc : Nat → Int32) : Prop :=
  (∀ k, k < nG → ∃ s, s < 16 ∧ od k = nI s ∧ bt us s = true ∧ gp s = rc (k * 4) ∧ gh_AY nC E rc k (gh_G E ga s)) ∧
  (∀ k k', k < nG → k' < nG → od k = od k' → k = k') ∧
  (∀ s, s < 16 → bt us s = true → gh_Ar nC ga s ∧ ∃ k, k < nG ∧ od k = nI s)
def gh_RS (nC nK : Nat) (E : Nat → Nat) (us wk : Int32) (gst hk kd fs sc ga gp io ia ib ic cp : Nat → Int32) : Prop :=
  ∀ s, s < 16 → bt us s = true → bt wk s = false → gst s = nI (gh_gs kd fs (gh_H kd fs sc E ga s) io ia ib ic cp (gp s) nK) ∧
    ∀ v, v < nC → (bt (hk v) s = true ↔ (gh_gs kd fs (gh_H kd fs sc E ga s) io ia ib ic cp (gp s) nK = 1 ∧ gh_wt kd fs (gh_H kd fs sc E ga s) io ia ib ic cp (gp s) nK v))
theorem gh_C1_CW {io ia ib ix ic mk sp : Nat → Int32} {n : Nat} (h : ∀ c, c < n → gh_C1 io ia ib ix ic mk sp c) : gh_CW n ic io ia ib ix := fun c hc => by
  obtain ⟨h1, m, h2, h3, h4, _⟩ := h c hc
  exact ⟨h1, m, h2, h3, h4⟩
theorem gh_CW_W {io ia ib ix ic : Nat → Int32} {n : Nat} (h : gh_CW n ic io ia ib ix) : ∀ c, c < n → ∀ i, i < (ic c).toNatClampNeg → gh_WI io ia ib ix c i := fun c hc i hi => by
  obtain ⟨h1, m, h2, h3, h4⟩ := h c hc
  rw [h3, nI_clamp (by omega)] at hi
  exact h4 i hi
theorem gh_nt {x : Bool} : x = false ↔ ¬ x = true := by cases x <;> simp
/-! bind -/
section
variable {nC nG nK v t : Nat} {E : Nat → Nat} {us wk : Int32} {kd rf fs sc vl lf rt od gp ga rc gst hk io ia ib ic ix cp : Nat → Int32}
theorem gh_RH_bind (R : gh_RH nC E kd rf fs sc vl lf rt) (hv : v < nC) (kv : kd v = 0) (rv : rf v < 0) (ht : t < nC) (rt' : rf t < 0) (ne : t ≠ v) (lt : kd t = 0 → t < v) : gh_RH nC (fun i => gh_sg v t (E i)) kd (upd rf v (nI t)) fs sc vl lf rt := by
  obtain ⟨⟨H, P⟩, Y, V⟩ := R
  have ev : E v = v := gh_Ht_f H hv rv
  have et : E t = t := gh_Ht_f H ht rt'
  refine ⟨⟨⟨H.1, fun i hi => ⟨(H.2 i hi).1, ?_, ?_, ?_⟩⟩, P⟩, fun i hi h2 => ?_, V⟩
  · show gh_sg v t (E i) < nC
    by_cases e : E i = v
    · rw [e, gh_sg_v]; exact ht
    · rw [gh_sg_n e]; exact gh_Ht_e H hi
  · show upd rf v (nI t) (gh_sg v t (E i)) < 0
    by_cases e : E i = v
    · rw [e, gh_sg_v, pk_un ne]; exact rt'
    · rw [gh_sg_n e, pk_un e]; exact gh_Ht_r H hi
  · by_cases e : i = v
    · subst e
      right
      refine ⟨kv, t, ht, pk_us, ?_, lt⟩
      show gh_sg i t (E i) = gh_sg i t (E t)
      rw [ev, et, gh_sg_v, gh_sg_n ne]
    · rcases (H.2 i hi).2.2.2 with ⟨h, h2⟩ | ⟨h, j, hj, ej, eE, hk⟩
      · left
        refine ⟨by rw [pk_un e]; exact h, ?_⟩
        show gh_sg v t (E i) = i
        rw [h2, gh_sg_n e]
      · right
        refine ⟨h, j, hj, by rw [pk_un e]; exact ej, ?_, hk⟩
        show gh_sg v t (E i) = gh_sg v t (E j)
        rw [eE]
  · obtain ⟨a, b, c, d⟩ := Y i hi h2
    exact ⟨a, b, congrArg (gh_sg v t) c, congrArg (gh_sg v t) d⟩
theorem gh_RG_bind (R : gh_RG nC nG E us od gp ga rc) : gh_RG nC nG (fun i => gh_sg v t (E i)) us od gp ga rc := by
  obtain ⟨R1, R2, R3⟩ := R
  refine ⟨fun k hk => ?_, R2, R3⟩
  obtain ⟨s, a, b, c, d, e⟩ := R1 k hk
  exact ⟨s, a, b, c, d, fun j hj => ⟨(e j hj).1, congrArg (gh_sg v t) (e j hj).2⟩⟩
theorem gh_RS_bind (R : gh_RS nC nK E us wk gst hk kd fs sc ga gp io ia ib ic cp) (W : gh_CW nK ic io ia ib ix) (hv : v < nC) (kv : kd v = 0) (ht : t < nC) (ne : t ≠ v) {wk' : Int32} {hk' : Nat → Int32}
    (w1 : ∀ s, s < 16 → (bt wk' s = true ↔ (bt wk s = true ∨ (bt (hk v) s = true ∧ (kd t = 0 → bt (hk t) s = true)))))
    (h1 : ∀ w, w < nC → ∀ s, s < 16 → (bt (hk' w) s = true ↔ (w ≠ v ∧ (bt (hk w) s = true ∨ (w = t ∧ kd t = 0 ∧ bt (hk v) s = true))))) :
    gh_RS nC nK (fun i => gh_sg v t (E i)) us wk' gst hk' kd fs sc ga gp io ia ib ic cp := by
  intro s hs hu hw
  have hw0 : bt wk s = false := by
    rw [gh_nt] at hw ⊢
    exact fun z => hw ((w1 s hs).mpr (Or.inl z))
  have hcr : ¬ (bt (hk v) s = true ∧ (kd t = 0 → bt (hk t) s = true)) := by
    rw [gh_nt] at hw
    exact fun z => hw ((w1 s hs).mpr (Or.inr z))
  obtain ⟨e1, e2⟩ := R s hs hu hw0
  have WW := gh_CW_W W
  show gst s = nI (gh_gs kd fs (gh_hd kd fs sc (fun i => gh_sg v t (E i)) (fun j => gh_sg v t (gh_G E ga s j))) io ia ib ic cp (gp s) nK) ∧ ∀ w, w < nC → (bt (hk' w) s = true ↔ (gh_gs kd fs (gh_hd kd fs sc (fun i => gh_sg v t (E i)) (fun j => gh_sg v t (gh_G E ga s j))) io ia ib ic cp (gp s) nK = 1 ∧ gh_wt kd fs (gh_hd kd fs sc (fun i => gh_sg v t (E i)) (fun j => gh_sg v t (gh_G E ga s j))) io ia ib ic cp (gp s) nK w))
  by_cases z : gh_gs kd fs (gh_H kd fs sc E ga s) io ia ib ic cp (gp s) nK = 1
  · have hc : gh_wt kd fs (gh_H kd fs sc E ga s) io ia ib ic cp (gp s) nK v → kd t = 0 ∧ ¬ gh_wt kd fs (gh_H kd fs sc E ga s) io ia ib ic cp (gp s) nK t := by
      intro k
      have kb : bt (hk v) s = true := (e2 v hv).mpr ⟨z, k⟩
      by_cases k0 : kd t = 0
      · exact ⟨k0, fun k2 => hcr ⟨kb, fun _ => (e2 t ht).mpr ⟨z, k2⟩⟩⟩
      · exact absurd ⟨kb, fun y => absurd y k0⟩ hcr
    obtain ⟨g1, g2⟩ := gh_gs_sg (t := t) kv WW z hc
    refine ⟨?_, fun w hwn => ?_⟩
    · rw [e1, z]; exact congrArg nI g1.symm
    · rw [h1 w hwn s hs, e2 w hwn, e2 v hv, g2 w]
      constructor
      · rintro ⟨a, ⟨_, b⟩ | ⟨rfl, _, _, b⟩⟩
        · exact ⟨g1, w, b, gh_sg_n a⟩
        · exact ⟨g1, v, b, gh_sg_v⟩
      · rintro ⟨_, y, b, c⟩
        by_cases e : y = v
        · subst e
          rw [gh_sg_v] at c
          subst c
          exact ⟨ne, Or.inr ⟨rfl, (hc b).1, z, b⟩⟩
        · rw [gh_sg_n e] at c
          subst c
          exact ⟨e, Or.inl ⟨z, b⟩⟩
  · have g1 := gh_gs_ne (t := t) kv WW z
    have no : ∀ w, w < nC → ¬ bt (hk w) s = true := fun w hwn y => z ((e2 w hwn).mp y).1
    refine ⟨?_, fun w hwn => ?_⟩
    · rw [e1]; exact congrArg nI g1.symm
    · rw [h1 w hwn s hs]
      constructor
      · rintro ⟨_, b | ⟨_, _, b⟩⟩
        · exact absurd b (no w hwn)
        · exact absurd b (no v hv)
      · rintro ⟨a, _⟩
        exact absurd (g1.symm.trans a) z
end
/-! make -/
section
variable {nC nG nK : Nat} {E : Nat → Nat} {us wk : Int32} {kd rf fs sc vl lf rt od gp ga rc gst hk io ia ib ic ix cp : Nat → Int32} {k a b x y z : Int32}
theorem gh_E3 {i : Nat} (h : i < nC) : (fun i => if i = nC then nC else E i) i = E i := if_neg (by omega)
theorem gh_bl_lt {kd fs : Nat → Int32} {h : Nat → Option Nat} {op a b : Int32} {z : Nat} (k : gh_bl kd fs h op a b z) : ∃ n, h n = some z := by
  rcases k with ⟨_, _, k⟩ | ⟨_, ⟨_, k⟩ | ⟨_, k⟩⟩ | ⟨_, _, _, p, q, k1, k2, rfl | rfl⟩
  · exact ⟨_, k⟩
  · exact ⟨_, k⟩
  · exact ⟨_, k⟩
  · exact ⟨_, k1⟩
  · exact ⟨_, k2⟩
theorem gh_wt_lt (H : gh_HX nC kd rf fs sc E) {s : Nat} (A : gh_Ar nC ga s) {gpv : Int32} {z : Nat} (k : gh_wt kd fs (gh_H kd fs sc E ga s) io ia ib ic cp gpv nK z) : z < nC := by
  obtain ⟨c, _, _, _, i, _, k⟩ := k
  obtain ⟨n, e⟩ := gh_bl_lt k
  exact (gh_H_lt H A e).1
theorem gh_RH_make (R : gh_RH nC E kd rf fs sc vl lf rt) (h64 : nC < 64) (hk : k = 0 ∨ k = 1 ∨ k = 2) (hp : k = 2 → (vp_in a nC ∧ vp_in b nC) ∧ (vp_in x nC ∧ vp_in y nC) ∧ E x.toNatClampNeg = E a.toNatClampNeg ∧ E y.toNatClampNeg = E b.toNatClampNeg) (hz : (k = 1 → z = a) ∧ (¬ k = 1 → z = 0)) :
    gh_RH (nC + 1) (fun i => if i = nC then nC else E i) (upd kd nC k) (upd rf nC (-1)) (upd fs nC a) (upd sc nC b) (upd vl nC z) (upd lf nC x) (upd rt nC y) := by
  obtain ⟨⟨H, P⟩, Y, V⟩ := R
  have un : ∀ (f : Nat → Int32) (w : Int32) i, i < nC → upd f nC w i = f i := fun f w i hi => pk_un (by omega)
  refine ⟨⟨⟨by omega, fun i hi => ?_⟩, fun i hi h2 => ?_⟩, fun i hi h2 => ?_, fun i hi => ?_⟩
  · by_cases e : i = nC
    · subst e
      have e3 : (fun j => if j = i then i else E j) i = i := if_pos rfl
      refine ⟨by rw [pk_us]; exact hk, ?_, ?_, Or.inl ⟨by rw [pk_us]; decide, e3⟩⟩
      · rw [e3]; omega
      · rw [e3, pk_us]; decide
    · have hi' : i < nC := by omega
      have hE := gh_Ht_e H hi'
      rw [gh_E3 hi', un kd k i hi', un rf (-1) (E i) hE, un rf (-1) i hi']
      refine ⟨(H.2 i hi').1, by omega, gh_Ht_r H hi', ?_⟩
      rcases (H.2 i hi').2.2.2 with h | ⟨h, j, hj, ej, eE, hk⟩
      · exact Or.inl h
      · refine Or.inr ⟨h, j, by omega, ej, ?_, ?_⟩
        · rw [gh_E3 hj]; exact eE
        · rw [un kd k j hj]; exact hk
  · by_cases e : i = nC
    · subst e
      rw [pk_us] at h2
      obtain ⟨⟨a1, a2⟩, _⟩ := hp h2
      rw [pk_us, pk_us]
      exact ⟨gh_vmono a1 (by omega), gh_vmono a2 (by omega)⟩
    · have hi' : i < nC := by omega
      rw [un kd k i hi'] at h2
      rw [un fs a i hi', un sc b i hi']
      obtain ⟨a1, a2⟩ := P i hi' h2
      exact ⟨gh_vmono a1 (by omega), gh_vmono a2 (by omega)⟩
  · by_cases e : i = nC
    · subst e
      rw [pk_us] at h2
      obtain ⟨⟨a1, a2⟩, ⟨a3, a4⟩, a5, a6⟩ := hp h2
      rw [pk_us, pk_us, pk_us, pk_us]
      refine ⟨gh_vmono a3 (by omega), gh_vmono a4 (by omega), ?_, ?_⟩
      · rw [gh_E3 (gh_vn a3), gh_E3 (gh_vn a1)]; exact a5
      · rw [gh_E3 (gh_vn a4), gh_E3 (gh_vn a2)]; exact a6
    · have hi' : i < nC := by omega
      rw [un kd k i hi'] at h2
      rw [un fs a i hi', un sc b i hi', un lf x i hi', un rt y i hi']
      obtain ⟨a1, a2⟩ := P i hi' h2
      obtain ⟨a3, a4, a5, a6⟩ := Y i hi' h2
      refine ⟨gh_vmono a3 (by omega), gh_vmono a4 (by omega), ?_, ?_⟩
      · rw [gh_E3 (gh_vn a3), gh_E3 (gh_vn a1)]; exact a5
      · rw [gh_E3 (gh_vn a4), gh_E3 (gh_vn a2)]; exact a6
  · by_cases e : i = nC
    · subst e
      rw [pk_us, pk_us, pk_us]
      exact hz
    · have hi' : i < nC := by omega
      rw [un kd k i hi', un fs a i hi', un vl z i hi']
      exact V i hi'
theorem gh_RG_make (R : gh_RG nC nG E us od gp ga rc) : gh_RG (nC + 1) nG (fun i => if i = nC then nC else E i) us od gp ga rc := by
  obtain ⟨R1, R2, R3⟩ := R
  refine ⟨fun k hk => ?_, R2, fun s hs hu => ⟨fun j hj => gh_vmono ((R3 s hs hu).1 j hj) (by omega), (R3 s hs hu).2⟩⟩
  obtain ⟨s, a, b, c, d, e⟩ := R1 k hk
  have A := (R3 s a c).1
  refine ⟨s, a, b, c, d, fun j hj => ⟨gh_vmono (e j hj).1 (by omega), ?_⟩⟩
  show (fun i => if i = nC then nC else E i) (rc (k * 4 + 1 + j)).toNatClampNeg = (fun i => if i = nC then nC else E i) (ga (s * 3 + j)).toNatClampNeg
  rw [gh_E3 (gh_vn (e j hj).1), gh_E3 (gh_vn (A j hj))]
  exact (e j hj).2
theorem gh_RS_make (H : gh_HX nC kd rf fs sc E) (G : gh_RG nC nG E us od gp ga rc) (R : gh_RS nC nK E us wk gst hk kd fs sc ga gp io ia ib ic cp) : gh_RS (nC + 1) nK (fun i => if i = nC then nC else E i) us wk gst (upd hk nC 0) (upd kd nC k) (upd fs nC a) (upd sc nC b) ga gp io ia ib ic cp := by
  intro s hs hu hw
  obtain ⟨e1, e2⟩ := R s hs hu hw
  have A := (G.2.2 s hs hu).1
  have un : ∀ (f : Nat → Int32) (w : Int32) i, i < nC → upd f nC w i = f i := fun f w i hi => pk_un (by omega)
  have eh : gh_H (upd kd nC k) (upd fs nC a) (upd sc nC b) (fun i => if i = nC then nC else E i) ga s = gh_H kd fs sc E ga s := by
    unfold gh_H
    refine gh_hd_cg (fun j hj => ?_) (fun j hj => ?_) (fun j hj h2 => ?_)
    · exact gh_E3 (gh_vn (A j hj))
    · exact un _ _ _ (gh_G_lt H A hj)
    · have hg := gh_G_lt H A hj
      obtain ⟨p1, p2⟩ := H.2 _ hg h2
      rw [un sc b _ hg, un fs a _ hg]
      exact ⟨gh_E3 (gh_vn p2), gh_E3 (gh_vn p1)⟩
  have kk : ∀ n p, gh_H kd fs sc E ga s n = some p → upd kd nC k p = kd p ∧ upd fs nC a p = fs p := fun n p e => by
    have := (gh_H_lt H A e).1
    exact ⟨un _ _ _ this, un _ _ _ this⟩
  rw [eh]
  have ecv : ∀ c, gh_cv (upd kd nC k) (upd fs nC a) (gh_H kd fs sc E ga s) io ia ib ic c = gh_cv kd fs (gh_H kd fs sc E ga s) io ia ib ic c := fun c => gh_jv_cg (fun i _ => gh_tv_cg kk _ _ _)
  have egs : gh_gs (upd kd nC k) (upd fs nC a) (gh_H kd fs sc E ga s) io ia ib ic cp (gp s) nK = gh_gs kd fs (gh_H kd fs sc E ga s) io ia ib ic cp (gp s) nK := gh_gs_cg (fun c _ => ⟨rfl, fun _ => ecv c⟩)
  have ewt : ∀ v, gh_wt (upd kd nC k) (upd fs nC a) (gh_H kd fs sc E ga s) io ia ib ic cp (gp s) nK v ↔ gh_wt kd fs (gh_H kd fs sc E ga s) io ia ib ic cp (gp s) nK v := by
    intro v
    constructor
    · rintro ⟨c, c1, c2, c3, i, i1, i2⟩
      rw [ecv] at c3
      exact ⟨c, c1, c2, c3, i, i1, (gh_bl_cg kk _ _ _).mp i2⟩
    · rintro ⟨c, c1, c2, c3, i, i1, i2⟩
      refine ⟨c, c1, c2, ?_, i, i1, (gh_bl_cg kk _ _ _).mpr i2⟩
      rw [ecv]; exact c3
  rw [egs]
  refine ⟨e1, fun v hv => ?_⟩
  rw [ewt]
  by_cases e : v = nC
  · subst e
    rw [pk_us]
    exact ⟨fun z => absurd z gh_0T, fun z => absurd (gh_wt_lt H A z.2) (Nat.lt_irrefl _)⟩
  · rw [pk_un e]
    exact e2 v (by omega)
end
/-! remove, append, settle -/
section
variable {nC nG nK : Nat} {E : Nat → Nat} {us wk us' wk' : Int32} {kd rf fs sc vl lf rt od gp ga rc gst hk io ia ib ic ix cp od' rc' hk' : Nat → Int32}
theorem gh_RG_remove (R : gh_RG nC nG E us od gp ga rc) {j s : Nat} (hj : j < nG) (hs : s < 16) (ho : od j = nI s) (h1 : ∀ i, i < 32 → (bt us' i = true ↔ (bt us i = true ∧ i ≠ s))) (o1 : ∀ i, i < j → od' i = od i) (o2 : ∀ i, j ≤ i → i < nG - 1 → od' i = od (i + 1)) (r1 : ∀ i, i < j * 4 → rc' i = rc i) (r2 : ∀ i, j * 4 ≤ i → i < (nG - 1) * 4 → rc' i = rc (i + 4)) : gh_RG nC (nG - 1) E us' od' gp ga rc' := by
  obtain ⟨R1, R2, R3⟩ := R
  have key : ∀ k, k < nG - 1 → ∃ k', k' < nG ∧ k' ≠ j ∧ od' k = od k' ∧ (∀ i, i < 4 → rc' (k * 4 + i) = rc (k' * 4 + i)) ∧ (k' = if k < j then k else k + 1) := by
    intro k hk
    by_cases z : k < j
    · exact ⟨k, by omega, by omega, o1 k z, fun i hi => r1 _ (by omega), (if_pos z).symm⟩
    · refine ⟨k + 1, by omega, by omega, o2 k (by omega) hk, fun i hi => ?_, (if_neg z).symm⟩
      rw [r2 _ (by omega) (by omega)]
      exact congrArg rc (by omega)
  refine ⟨fun k hk => ?_, fun k k' hk hk' e => ?_, fun i hi hu => ?_⟩
  · obtain ⟨k', a1, a2, a3, a4, _⟩ := key k hk
    obtain ⟨i, b1, b2, b3, b4, b5⟩ := R1 k' a1
    have ne : i ≠ s := fun e => a2 (R2 k' j a1 hj (by rw [b2, ho, e]))
    refine ⟨i, b1, by rw [a3]; exact b2, (h1 i (by omega)).mpr ⟨b3, ne⟩, ?_, fun q hq => ?_⟩
    · rw [b4]; exact (a4 0 (by omega)).symm
    · have e := a4 (1 + q) (by omega)
      rw [← Nat.add_assoc, ← Nat.add_assoc] at e
      rw [e]
      exact b5 q hq
  · obtain ⟨p, a1, a2, a3, a4, a5⟩ := key k hk
    obtain ⟨q, b1, b2, b3, b4, b5⟩ := key k' hk'
    have := R2 p q a1 b1 (by rw [← a3, ← b3]; exact e)
    split at a5 <;> split at b5 <;> omega
  · obtain ⟨u1, u2⟩ := (h1 i (by omega)).mp hu
    obtain ⟨A, k, hk, ek⟩ := R3 i hi u1
    refine ⟨A, ?_⟩
    have ne : k ≠ j := fun e => u2 (by rw [e, ho] at ek; exact ((nI_eq (by omega) (by omega)).mp ek).symm)
    by_cases z : k < j
    · exact ⟨k, by omega, by rw [o1 k z]; exact ek⟩
    · refine ⟨k - 1, by omega, ?_⟩
      rw [o2 (k - 1) (by omega) (by omega), show k - 1 + 1 = k by omega]
      exact ek
theorem gh_RS_sub (R : gh_RS nC nK E us wk gst hk kd fs sc ga gp io ia ib ic cp) {s : Nat} (h1 : ∀ i, i < 32 → (bt us' i = true ↔ (bt us i = true ∧ i ≠ s))) (h2 : ∀ i, i < 32 → (bt wk' i = true ↔ (bt wk i = true ∧ i ≠ s))) (h3 : ∀ v, v < nC → ∀ i, i < 32 → (bt (hk' v) i = true ↔ (bt (hk v) i = true ∧ i ≠ s))) : gh_RS nC nK E us' wk' gst hk' kd fs sc ga gp io ia ib ic cp := by
  intro i hi hu hw
  obtain ⟨u1, u2⟩ := (h1 i (by omega)).mp hu
  have hw0 : bt wk i = false := by
    rw [gh_nt] at hw ⊢
    exact fun z => hw ((h2 i (by omega)).mpr ⟨z, u2⟩)
  obtain ⟨e1, e2⟩ := R i hi u1 hw0
  refine ⟨e1, fun v hv => ?_⟩
  rw [h3 v hv i (by omega), e2 v hv]
  exact ⟨fun z => z.1, fun z => ⟨z, u2⟩⟩
theorem gh_G_ne {E : Nat → Nat} {ga : Nat → Int32} {t i j : Nat} {x y z : Int32} (hj : j < 3) (ne : i ≠ t) : upd (upd (upd ga (t * 3) x) (t * 3 + 1) y) (t * 3 + 2) z (i * 3 + j) = ga (i * 3 + j) := by
  rw [pk_un (by omega), pk_un (by omega), pk_un (by omega)]
theorem gh_H_ne {t i : Nat} {x y z : Int32} (ne : i ≠ t) : gh_H kd fs sc E (upd (upd (upd ga (t * 3) x) (t * 3 + 1) y) (t * 3 + 2) z) i = gh_H kd fs sc E ga i :=
  gh_hd_cg (fun j hj => congrArg (fun w : Int32 => E w.toNatClampNeg) (gh_G_ne (E := E) hj ne)) (fun _ _ => rfl) (fun _ _ _ => ⟨rfl, rfl⟩)
theorem gh_RG_append (R : gh_RG nC nG E us od gp ga rc) (hG : nG < 16) {t : Nat} {p x y z x' y' z' : Int32} (ht : t < 16) (hu : bt us t = false) (hx : vp_in x nC) (hy : vp_in y nC) (hz : vp_in z nC) (hx' : vp_in x' nC) (hy' : vp_in y' nC) (hz' : vp_in z' nC) (ex : E x'.toNatClampNeg = E x.toNatClampNeg) (ey : E y'.toNatClampNeg = E y.toNatClampNeg) (ez : E z'.toNatClampNeg = E z.toNatClampNeg) :
    gh_RG nC (nG + 1) E (us ||| ((1 : Int32) <<< (nI t &&& 31))) (upd od nG (nI t)) (upd gp t p) (upd (upd (upd ga (t * 3) x) (t * 3 + 1) y) (t * 3 + 2) z) (upd (upd (upd (upd rc (nG * 4) p) (nG * 4 + 1) x') (nG * 4 + 2) y') (nG * 4 + 3) z') := by
  obtain ⟨R1, R2, R3⟩ := R
  have hset : ∀ i, i < 16 → (bt (us ||| ((1 : Int32) <<< (nI t &&& 31))) i = true ↔ (bt us i = true ∨ i = t)) := fun i hi => gh_set (by omega) (by omega)
  have g0 : upd (upd (upd ga (t * 3) x) (t * 3 + 1) y) (t * 3 + 2) z (t * 3 + 0) = x := by
    rw [pk_un (by omega), pk_un (by omega)]; exact pk_us
  have g1 : upd (upd (upd ga (t * 3) x) (t * 3 + 1) y) (t * 3 + 2) z (t * 3 + 1) = y := by
    rw [pk_un (by omega)]; exact pk_us
  have g2 : upd (upd (upd ga (t * 3) x) (t * 3 + 1) y) (t * 3 + 2) z (t * 3 + 2) = z := pk_us
  have j3 : ∀ j, j < 3 → j = 0 ∨ j = 1 ∨ j = 2 := fun j hj => by omega
  refine ⟨fun k hk => ?_, fun k k' hk hk' e => ?_, fun i hi hui => ?_⟩
  · by_cases e : k = nG
    · subst e
      refine ⟨t, ht, pk_us, (hset t ht).mpr (Or.inr rfl), ?_, fun j hj => ?_⟩
      · rw [pk_us, pk_un (by omega), pk_un (by omega), pk_un (by omega), pk_us]
      · unfold gh_G
        rcases j3 j hj with rfl | rfl | rfl
        · rw [g0, pk_un (by omega), pk_un (by omega), show k * 4 + 1 + 0 = k * 4 + 1 from rfl, pk_us]
          exact ⟨hx', ex⟩
        · rw [g1, pk_un (by omega), show k * 4 + 1 + 1 = k * 4 + 2 from rfl, pk_us]
          exact ⟨hy', ey⟩
        · rw [g2, show k * 4 + 1 + 2 = k * 4 + 3 from rfl, pk_us]
          exact ⟨hz', ez⟩
    · obtain ⟨i, a1, a2, a3, a4, a5⟩ := R1 k (by omega)
      have ne : i ≠ t := fun z => by rw [z, hu] at a3; exact absurd a3 (by decide)
      refine ⟨i, a1, ?_, (hset i a1).mpr (Or.inl a3), ?_, fun j hj => ?_⟩
      · rw [pk_un e]; exact a2
      · rw [pk_un ne, pk_un (by omega), pk_un (by omega), pk_un (by omega), pk_un (by omega)]
        exact a4
      · rw [pk_un (by omega), pk_un (by omega), pk_un (by omega), pk_un (by omega)]
        obtain ⟨b1, b2⟩ := a5 j hj
        refine ⟨b1, b2.trans ?_⟩
        unfold gh_G
        rw [gh_G_ne (E := E) hj ne]
  · by_cases e1 : k = nG
    · by_cases e2 : k' = nG
      · omega
      · exfalso
        obtain ⟨i, a1, a2, a3, _⟩ := R1 k' (by omega)
        rw [e1, pk_us, pk_un e2, a2] at e
        rw [← (nI_eq (by omega) (by omega)).mp e, hu] at a3
        exact absurd a3 (by decide)
    · by_cases e2 : k' = nG
      · exfalso
        obtain ⟨i, a1, a2, a3, _⟩ := R1 k (by omega)
        rw [e2, pk_us, pk_un e1, a2] at e
        rw [(nI_eq (by omega) (by omega)).mp e, hu] at a3
        exact absurd a3 (by decide)
      · rw [pk_un e1, pk_un e2] at e
        exact R2 k k' (by omega) (by omega) e
  · by_cases e : i = t
    · subst e
      refine ⟨fun j hj => ?_, nG, by omega, pk_us⟩
      rcases j3 j hj with rfl | rfl | rfl
      · rw [g0]; exact hx
      · rw [g1]; exact hy
      · rw [g2]; exact hz
    · have u1 : bt us i = true := ((hset i hi).mp hui).resolve_right e
      obtain ⟨A, k, hk, ek⟩ := R3 i hi u1
      refine ⟨fun j hj => ?_, k, by omega, ?_⟩
      · rw [gh_G_ne (E := E) hj e]; exact A j hj
      · rw [pk_un (by omega)]; exact ek
theorem gh_RS_append (R : gh_RS nC nK E us wk gst hk kd fs sc ga gp io ia ib ic cp) {t : Nat} {p x y z : Int32} (ht : t < 16) :
    gh_RS nC nK E (us ||| ((1 : Int32) <<< (nI t &&& 31))) (wk ||| ((1 : Int32) <<< (nI t &&& 31))) (upd gst t 2) hk kd fs sc (upd (upd (upd ga (t * 3) x) (t * 3 + 1) y) (t * 3 + 2) z) (upd gp t p) io ia ib ic cp := by
  intro i hi hu hw
  have e : i ≠ t := fun e => by
    rw [gh_nt] at hw
    exact hw ((gh_set (by omega) (by omega)).mpr (Or.inr e))
  have hu0 : bt us i = true := ((gh_set (by omega) (by omega)).mp hu).resolve_right e
  have hw0 : bt wk i = false := by
    rw [gh_nt] at hw ⊢
    exact fun z => hw ((gh_set (by omega) (by omega)).mpr (Or.inl z))
  rw [gh_H_ne e, pk_un e, pk_un e]
  exact R i hi hu0 hw0
theorem gh_free (R : gh_RG nC nG E us od gp ga rc) (hG : nG < 16) : ∃ t, t < 16 ∧ bt us t = false ∧ ∀ i, i < t → bt us i = true := by
  have h : ∃ t, t < 16 ∧ bt us t = false := by
    by_cases z : ∃ t, t < 16 ∧ bt us t = false
    · exact z
    · exfalso
      have all : ∀ s, s < 16 → ∃ k, k < nG ∧ od k = nI s := fun s hs => by
        have : bt us s = true := ts_nf (fun e => z ⟨s, hs, e⟩)
        exact (R.2.2 s hs this).2
      have ch : ∀ s, ∃ k, s < 16 → (k < nG ∧ od k = nI s) := fun s => by
        by_cases hs : s < 16
        · obtain ⟨k, hk⟩ := all s hs
          exact ⟨k, fun _ => hk⟩
        · exact ⟨0, fun z => absurd z hs⟩
      have := gh_pig nG 16 (fun s => Classical.choose (ch s)) (fun s hs => (Classical.choose_spec (ch s) hs).1) (fun i j hi hj e => by
        have e1 := (Classical.choose_spec (ch i) hi).2
        have e2 := (Classical.choose_spec (ch j) hj).2
        have e' : Classical.choose (ch i) = Classical.choose (ch j) := e
        rw [e', e2] at e1
        exact ((nI_eq (by omega) (by omega)).mp e1).symm)
      omega
  obtain ⟨t, ⟨h1, h2⟩, h3⟩ := pk_least (fun t => t < 16 ∧ bt us t = false) h
  exact ⟨t, h1, h2, fun i hi => ts_nf (fun e => h3 i hi ⟨by omega, e⟩)⟩
theorem gh_RS_settle (R : gh_RS nC nK E us wk gst hk kd fs sc ga gp io ia ib ic cp) {s : Nat} (hs : s < 16) (h2 : ∀ i, i < 32 → (bt wk' i = true ↔ (bt wk i = true ∧ i ≠ s)))
    (h3 : ∀ v, v < nC → ∀ i, i < 32 → (bt (hk' v) i = true ↔ ((bt (hk v) i = true ∧ i ≠ s) ∨ (i = s ∧ gh_gs kd fs (gh_H kd fs sc E ga s) io ia ib ic cp (gp s) nK = 1 ∧ gh_wt kd fs (gh_H kd fs sc E ga s) io ia ib ic cp (gp s) nK v)))) :
    gh_RS nC nK E us wk' (upd gst s (nI (gh_gs kd fs (gh_H kd fs sc E ga s) io ia ib ic cp (gp s) nK))) hk' kd fs sc ga gp io ia ib ic cp := by
  intro i hi hu hw
  by_cases e : i = s
  · subst e
    refine ⟨pk_us, fun v hv => ?_⟩
    rw [h3 v hv i (by omega)]
    exact ⟨fun z => z.elim (fun z => absurd rfl z.2) (fun z => z.2), fun z => Or.inr ⟨rfl, z⟩⟩
  · have hw0 : bt wk i = false := by
      rw [gh_nt] at hw ⊢
      exact fun z => hw ((h2 i (by omega)).mpr ⟨z, e⟩)
    obtain ⟨e1, e2⟩ := R i hi hu hw0
    refine ⟨by rw [pk_un e]; exact e1, fun v hv => ?_⟩
    rw [h3 v hv i (by omega), e2 v hv]
    exact ⟨fun z => z.elim (fun z => z.1) (fun z => absurd z.1 e), fun z => Or.inl ⟨z, e⟩⟩
end
end
section
/-! the relation, and the steps that both sides share -/
def gh_RR (nC nG nK lc lg lk : Nat) (E : Nat → Nat) (f_cells f_goals f_usedSlots f_woken f_clauses f_writing f_openPairs : Int32) (f_blockedOn : Int64) (f_commits f_lastClause f_broken f_cellLimit f_goalLimit f_clauseLimit : Int32) (a_kind a_first a_second a_ref a_hooks a_order a_goalPred a_goalArg a_goalState a_clausePred a_itemCount a_makeCount a_spawnCount a_itemOp a_itemA a_itemB a_itemC a_names : Nat → Int32) (b_seenX b_seenY : Int32) (b_num b_value b_left b_right b_rec b_code : Nat → Int32) : Prop :=
  gh_RN nC nG nK lc lg lk f_cells f_goals f_clauses f_writing f_commits f_lastClause f_broken f_cellLimit f_goalLimit f_clauseLimit b_num ∧
  gh_RK nK f_writing f_openPairs a_itemOp a_itemA a_itemB a_itemC a_itemCount a_makeCount a_spawnCount b_code ∧
  gh_RH nC E a_kind a_ref a_first a_second b_value b_left b_right ∧
  gh_RG nC nG E f_usedSlots a_order a_goalPred a_goalArg b_rec ∧
  gh_RS nC nK E f_usedSlots f_woken a_goalState a_hooks a_kind a_first a_second a_goalArg a_goalPred a_itemOp a_itemA a_itemB a_itemCount a_clausePred
def i_Rel (k : Nat) (u : SX) (v : SY) : Prop := match u, v with
  | (f_cells, f_goals, f_usedSlots, f_woken, f_clauses, f_writing, f_openPairs, f_blockedOn, f_commits, f_lastClause, f_broken, f_cellLimit, f_goalLimit, f_clauseLimit, a_kind, a_first, a_second, a_ref, a_hooks, a_order, a_goalPred, a_goalArg, a_goalState, a_clausePred, a_itemCount, a_makeCount, a_spawnCount, a_itemOp, a_itemA, a_itemB, a_itemC, a_names), (b_seenX, b_seenY, b_num, b_kind, b_to, b_value, b_left, b_right, b_rec, b_code, b_pred, b_items) =>
    b_kind = a_kind ∧ b_to = a_ref ∧ b_pred = a_clausePred ∧ b_items = a_itemCount ∧ ∃ (nC nG nK lc lg lk : Nat) (E : Nat → Nat), gh_RR nC nG nK lc lg lk E f_cells f_goals f_usedSlots f_woken f_clauses f_writing f_openPairs f_blockedOn f_commits f_lastClause f_broken f_cellLimit f_goalLimit f_clauseLimit a_kind a_first a_second a_ref a_hooks a_order a_goalPred a_goalArg a_goalState a_clausePred a_itemCount a_makeCount a_spawnCount a_itemOp a_itemA a_itemB a_itemC a_names b_seenX b_seenY b_num b_value b_left b_right b_rec b_code
theorem i_up {k : Nat} {u : SX} {v : SY} (h : i_Rel k u v) : i_Rel (k + 5) u v := h
theorem gh_el {k : Nat} {P : SX → SY → Prop} {u : SX} {v : SY} (h : ∀ (nC nG nK lc lg lk : Nat) (E : Nat → Nat) (f_cells f_goals f_usedSlots f_woken f_clauses f_writing f_openPairs : Int32) (f_blockedOn : Int64) (f_commits f_lastClause f_broken f_cellLimit f_goalLimit f_clauseLimit : Int32) (a_kind a_first a_second a_ref a_hooks a_order a_goalPred a_goalArg a_goalState a_clausePred a_itemCount a_makeCount a_spawnCount a_itemOp a_itemA a_itemB a_itemC a_names : Nat → Int32) (b_seenX b_seenY : Int32) (b_num b_value b_left b_right b_rec b_code : Nat → Int32), gh_RR nC nG nK lc lg lk E f_cells f_goals f_usedSlots f_woken f_clauses f_writing f_openPairs f_blockedOn f_commits f_lastClause f_broken f_cellLimit f_goalLimit f_clauseLimit a_kind a_first a_second a_ref a_hooks a_order a_goalPred a_goalArg a_goalState a_clausePred a_itemCount a_makeCount a_spawnCount a_itemOp a_itemA a_itemB a_itemC a_names b_seenX b_seenY b_num b_value b_left b_right b_rec b_code → P (f_cells, f_goals, f_usedSlots, f_woken, f_clauses, f_writing, f_openPairs, f_blockedOn, f_commits, f_lastClause, f_broken, f_cellLimit, f_goalLimit, f_clauseLimit, a_kind, a_first, a_second, a_ref, a_hooks, a_order, a_goalPred, a_goalArg, a_goalState, a_clausePred, a_itemCount, a_makeCount, a_spawnCount, a_itemOp, a_itemA, a_itemB, a_itemC, a_names) (b_seenX, b_seenY, b_num, a_kind, a_ref, b_value, b_left, b_right, b_rec, b_code, a_clausePred, a_itemCount)) (I : i_Rel k u v) : P u v := by
  obtain ⟨f_cells, f_goals, f_usedSlots, f_woken, f_clauses, f_writing, f_openPairs, f_blockedOn, f_commits, f_lastClause, f_broken, f_cellLimit, f_goalLimit, f_clauseLimit, a_kind, a_first, a_second, a_ref, a_hooks, a_order, a_goalPred, a_goalArg, a_goalState, a_clausePred, a_itemCount, a_makeCount, a_spawnCount, a_itemOp, a_itemA, a_itemB, a_itemC, a_names⟩ := u
  obtain ⟨b_seenX, b_seenY, b_num, b_kind, b_to, b_value, b_left, b_right, b_rec, b_code, b_pred, b_items⟩ := v
  obtain ⟨e1, e2, e3, e4, nC, nG, nK, lc, lg, lk, E, R⟩ := I
  subst e1 e2 e3 e4
  exact h nC nG nK lc lg lk E _ _ _ _ _ _ _ _ _ _ _ _ _ _ _ _ _ _ _ _ _ _ _ _ _ _ _ _ _ _ _ _ _ _ _ _ _ _ _ _ R
section
variable {f_cells f_goals f_usedSlots f_woken f_clauses f_writing f_openPairs : Int32} {f_blockedOn : Int64} {f_commits f_lastClause f_broken f_cellLimit f_goalLimit f_clauseLimit : Int32} {a_kind a_first a_second a_ref a_hooks a_order a_goalPred a_goalArg a_goalState a_clausePred a_itemCount a_makeCount a_spawnCount a_itemOp a_itemA a_itemB a_itemC a_names : Nat → Int32} {b_seenX b_seenY : Int32} {b_num b_value b_left b_right b_rec b_code : Nat → Int32}
variable {nC nG nK lc lg lk : Nat} {E : Nat → Nat}
theorem gh_in {k : Nat} (R : gh_RR nC nG nK lc lg lk E f_cells f_goals f_usedSlots f_woken f_clauses f_writing f_openPairs f_blockedOn f_commits f_lastClause f_broken f_cellLimit f_goalLimit f_clauseLimit a_kind a_first a_second a_ref a_hooks a_order a_goalPred a_goalArg a_goalState a_clausePred a_itemCount a_makeCount a_spawnCount a_itemOp a_itemA a_itemB a_itemC a_names b_seenX b_seenY b_num b_value b_left b_right b_rec b_code) : i_Rel k (f_cells, f_goals, f_usedSlots, f_woken, f_clauses, f_writing, f_openPairs, f_blockedOn, f_commits, f_lastClause, f_broken, f_cellLimit, f_goalLimit, f_clauseLimit, a_kind, a_first, a_second, a_ref, a_hooks, a_order, a_goalPred, a_goalArg, a_goalState, a_clausePred, a_itemCount, a_makeCount, a_spawnCount, a_itemOp, a_itemA, a_itemB, a_itemC, a_names) (b_seenX, b_seenY, b_num, a_kind, a_ref, b_value, b_left, b_right, b_rec, b_code, a_clausePred, a_itemCount) :=
  And.intro rfl (And.intro rfl (And.intro rfl (And.intro rfl (Exists.intro nC (Exists.intro nG (Exists.intro nK (Exists.intro lc (Exists.intro lg (Exists.intro lk (Exists.intro E R))))))))))
/-! cells -/
theorem gh_nvp {x : Int32} {n : Nat} (hn : n < 2 ^ 31) (h0 : ¬ x < 0) (h : ¬ nI n ≤ x) : vp_in x n := by
  rcases pk_ix x hn with z | z | ⟨j, hj, rfl⟩
  · exact absurd z h0
  · exact absurd z h
  · exact vp_in_nI hj hn
theorem gh_vp0 {x : Int32} {n : Nat} (h : vp_in x n) : ¬ x < 0 := fun z => h (Or.inl z)
theorem gh_vp1 {x : Int32} {n : Nat} (hn : n < 2 ^ 31) (h : vp_in x n) : ¬ nI n ≤ x := by
  obtain ⟨j, hj, rfl⟩ := vp_in_of h hn
  exact nI_ge hj hn
theorem gh_icX {x : Int32} (hf : f_cells = nI nC) (hC : nC ≤ 64) {post : Int32 → Prop} (h1 : vp_in x nC → post 1) (h0 : ¬ vp_in x nC → post 0) : wpX_isCell post (f_cells, f_goals, f_usedSlots, f_woken, f_clauses, f_writing, f_openPairs, f_blockedOn, f_commits, f_lastClause, f_broken, f_cellLimit, f_goalLimit, f_clauseLimit, a_kind, a_first, a_second, a_ref, a_hooks, a_order, a_goalPred, a_goalArg, a_goalState, a_clausePred, a_itemCount, a_makeCount, a_spawnCount, a_itemOp, a_itemA, a_itemB, a_itemC, a_names) x := by
  subst hf
  refine br_c (fun z => h0 (fun w => gh_vp0 w z)) (fun z => br_c (fun y => h0 (fun w => gh_vp1 (by omega) w y)) (fun y => h1 (gh_nvp (by omega) z y)))
theorem gh_icY {x : Int32} (hf : b_num 0 = nI nC) (hC : nC ≤ 64) {post : Int32 → Prop} (h1 : vp_in x nC → post 1) (h0 : ¬ vp_in x nC → post 0) : wpY_isCell post (b_seenX, b_seenY, b_num, a_kind, a_ref, b_value, b_left, b_right, b_rec, b_code, a_clausePred, a_itemCount) x := by
  refine br_c (fun z => h0 (fun w => gh_vp0 w z)) (fun z => ?_)
  rw [hf]
  exact br_c (fun y => h0 (fun w => gh_vp1 (by omega) w y)) (fun y => h1 (gh_nvp (by omega) z y))
/-! bind -/
theorem gh_bdX {v t : Nat} (hv : v < 64) (ht : t < 64) (ne : t ≠ v) : ∃ (wk : Int32) (hk : Nat → Int32),
    (∀ s, s < 16 → (bt wk s = true ↔ (bt f_woken s = true ∨ (bt (a_hooks v) s = true ∧ (a_kind t = 0 → bt (a_hooks t) s = true))))) ∧
    (∀ w, w < 64 → ∀ s, s < 16 → (bt (hk w) s = true ↔ (w ≠ v ∧ (bt (a_hooks w) s = true ∨ (w = t ∧ a_kind t = 0 ∧ bt (a_hooks v) s = true))))) ∧
    (∀ (f_blockedOn : Int64) (post : SX → Prop), post (f_cells, f_goals, f_usedSlots, wk, f_clauses, f_writing, f_openPairs, f_blockedOn, f_commits, f_lastClause, f_broken, f_cellLimit, f_goalLimit, f_clauseLimit, a_kind, a_first, a_second, (upd a_ref v (nI t)), hk, a_order, a_goalPred, a_goalArg, a_goalState, a_clausePred, a_itemCount, a_makeCount, a_spawnCount, a_itemOp, a_itemA, a_itemB, a_itemC, a_names) → wpX_bind post (f_cells, f_goals, f_usedSlots, f_woken, f_clauses, f_writing, f_openPairs, f_blockedOn, f_commits, f_lastClause, f_broken, f_cellLimit, f_goalLimit, f_clauseLimit, a_kind, a_first, a_second, a_ref, a_hooks, a_order, a_goalPred, a_goalArg, a_goalState, a_clausePred, a_itemCount, a_makeCount, a_spawnCount, a_itemOp, a_itemA, a_itemB, a_itemC, a_names) (nI v) (nI t)) := by
  have vv : vp_in (nI v) 64 := vp_in_nI hv (by omega)
  have vt : vp_in (nI t) 64 := vp_in_nI ht (by omega)
  have cv : (nI v).toNatClampNeg = v := nI_clamp (by omega)
  have ct : (nI t).toNatClampNeg = t := nI_clamp (by omega)
  by_cases k0 : a_kind t = 0
  · refine ⟨f_woken ||| (a_hooks v &&& a_hooks t), upd (upd a_hooks t (a_hooks t ||| a_hooks v)) v 0, fun s hs => ?_, fun w hw s hs => ?_, fun f_blockedOn post hp => ?_⟩
    · rw [gh_orT, gh_andT]
      exact ⟨fun z => z.elim Or.inl (fun z => Or.inr ⟨z.1, fun _ => z.2⟩), fun z => z.elim Or.inl (fun z => Or.inr ⟨z.1, z.2 k0⟩)⟩
    · by_cases e : w = v
      · subst e
        rw [pk_us]
        exact ⟨fun z => absurd z gh_0T, fun z => absurd rfl z.1⟩
      · rw [pk_un e]
        by_cases e2 : w = t
        · subst e2
          rw [pk_us, gh_orT]
          exact ⟨fun z => ⟨e, z.elim Or.inl (fun z => Or.inr ⟨rfl, k0, z⟩)⟩, fun z => z.2.elim Or.inl (fun z => Or.inr z.2.2)⟩
        · rw [pk_un e2]
          exact ⟨fun z => ⟨e, Or.inl z⟩, fun z => z.2.elim id (fun z => absurd z.1 e2)⟩
    · refine And.intro vv ?_
      rw [cv]
      refine nm_e (And.intro vt ?_)
      rw [ct]
      exact br_t k0 (And.intro vv (And.intro vt (nm_e (And.intro vt (And.intro vv (And.intro vt (nm_e (And.intro vv (nm_e hp)))))))))
  · refine ⟨f_woken ||| a_hooks v, upd a_hooks v 0, fun s hs => ?_, fun w hw s hs => ?_, fun f_blockedOn post hp => ?_⟩
    · rw [gh_orT]
      exact ⟨fun z => z.elim Or.inl (fun z => Or.inr ⟨z, fun y => absurd y k0⟩), fun z => z.elim Or.inl (fun z => Or.inr z.1)⟩
    · by_cases e : w = v
      · subst e
        rw [pk_us]
        exact ⟨fun z => absurd z gh_0T, fun z => absurd rfl z.1⟩
      · rw [pk_un e]
        exact ⟨fun z => ⟨e, Or.inl z⟩, fun z => z.2.elim id (fun z => absurd z.2.1 k0)⟩
    · refine And.intro vv ?_
      rw [cv]
      refine nm_e (And.intro vt ?_)
      rw [ct]
      exact br_f k0 (And.intro vv (nm_e (And.intro vv (nm_e hp))))
end
/-! heaps that grow -/
def gh_XT (nC nC' : Nat) (kd kd' fs fs' sc sc' : Nat → Int32) (E E' : Nat → Nat) : Prop :=
  nC ≤ nC' ∧ (∀ i, i < nC → kd' i = kd i ∧ fs' i = fs i ∧ sc' i = sc i) ∧ (∀ i, i < nC → ¬ kd (E i) = 0 → E' i = E i) ∧ (∀ i j, i < nC → j < nC → E i = E j → E' i = E' j)
theorem gh_XT_rf {nC : Nat} {kd fs sc : Nat → Int32} {E : Nat → Nat} : gh_XT nC nC kd kd fs fs sc sc E E := ⟨Nat.le_refl _, fun _ _ => ⟨rfl, rfl, rfl⟩, fun _ _ _ => rfl, fun _ _ _ _ e => e⟩
theorem gh_XT_bind {nC v t : Nat} {kd fs sc : Nat → Int32} {E : Nat → Nat} (kv : kd v = 0) : gh_XT nC nC kd kd fs fs sc sc E (fun i => gh_sg v t (E i)) :=
  ⟨Nat.le_refl _, fun _ _ => ⟨rfl, rfl, rfl⟩, fun i _ h => gh_sg_n (fun e => h (by rw [e]; exact kv)), fun _ _ _ _ e => congrArg (gh_sg v t) e⟩
theorem gh_XT_make {nC : Nat} {kd fs sc : Nat → Int32} {E : Nat → Nat} {k a b : Int32} : gh_XT nC (nC + 1) kd (upd kd nC k) fs (upd fs nC a) sc (upd sc nC b) E (fun i => if i = nC then nC else E i) :=
  ⟨by omega, fun i hi => ⟨pk_un (by omega), pk_un (by omega), pk_un (by omega)⟩, fun i hi _ => if_neg (by omega), fun i j hi hj e => by
    show (if i = nC then nC else E i) = (if j = nC then nC else E j)
    rw [if_neg (by omega), if_neg (by omega)]
    exact e⟩
section
variable {f_cells f_goals f_usedSlots f_woken f_clauses f_writing f_openPairs : Int32} {f_blockedOn : Int64} {f_commits f_lastClause f_broken f_cellLimit f_goalLimit f_clauseLimit : Int32} {a_kind a_first a_second a_ref a_hooks a_order a_goalPred a_goalArg a_goalState a_clausePred a_itemCount a_makeCount a_spawnCount a_itemOp a_itemA a_itemB a_itemC a_names : Nat → Int32} {b_seenX b_seenY : Int32} {b_num b_value b_left b_right b_rec b_code : Nat → Int32}
variable {nC nG nK lc lg lk : Nat} {E : Nat → Nat}
/-! unify and tell -/
theorem gh_un {a b a' b' : Int32} (R : gh_RR nC nG nK lc lg lk E f_cells f_goals f_usedSlots f_woken f_clauses f_writing f_openPairs f_blockedOn f_commits f_lastClause f_broken f_cellLimit f_goalLimit f_clauseLimit a_kind a_first a_second a_ref a_hooks a_order a_goalPred a_goalArg a_goalState a_clausePred a_itemCount a_makeCount a_spawnCount a_itemOp a_itemA a_itemB a_itemC a_names b_seenX b_seenY b_num b_value b_left b_right b_rec b_code) (ha : vp_in a nC) (hb : vp_in b nC) (ha' : vp_in a' nC) (hb' : vp_in b' nC) (ea : E a'.toNatClampNeg = E a.toNatClampNeg) (eb : E b'.toNatClampNeg = E b.toNatClampNeg) :
    ∃ (rx ry wk : Int32) (rf hk : Nat → Int32) (E' : Nat → Nat), ((rx = 1 ∧ ry = 0) ∨ (rx = 0 ∧ ry = -3)) ∧ gh_RR nC nG nK lc lg lk E' f_cells f_goals f_usedSlots wk f_clauses f_writing f_openPairs f_blockedOn f_commits f_lastClause f_broken f_cellLimit f_goalLimit f_clauseLimit a_kind a_first a_second rf hk a_order a_goalPred a_goalArg a_goalState a_clausePred a_itemCount a_makeCount a_spawnCount a_itemOp a_itemA a_itemB a_itemC a_names b_seenX b_seenY b_num b_value b_left b_right b_rec b_code ∧ gh_XT nC nC a_kind a_kind a_first a_first a_second a_second E E' ∧
      (∀ (f_blockedOn : Int64) (post : Int32 → SX → Prop), post rx (f_cells, f_goals, f_usedSlots, wk, f_clauses, f_writing, f_openPairs, f_blockedOn, f_commits, f_lastClause, f_broken, f_cellLimit, f_goalLimit, f_clauseLimit, a_kind, a_first, a_second, rf, hk, a_order, a_goalPred, a_goalArg, a_goalState, a_clausePred, a_itemCount, a_makeCount, a_spawnCount, a_itemOp, a_itemA, a_itemB, a_itemC, a_names) → wpX_unify post (f_cells, f_goals, f_usedSlots, f_woken, f_clauses, f_writing, f_openPairs, f_blockedOn, f_commits, f_lastClause, f_broken, f_cellLimit, f_goalLimit, f_clauseLimit, a_kind, a_first, a_second, a_ref, a_hooks, a_order, a_goalPred, a_goalArg, a_goalState, a_clausePred, a_itemCount, a_makeCount, a_spawnCount, a_itemOp, a_itemA, a_itemB, a_itemC, a_names) a b) ∧
      (∀ (b_seenX b_seenY : Int32) (post : Int32 → SY → Prop), post ry (b_seenX, b_seenY, b_num, a_kind, rf, b_value, b_left, b_right, b_rec, b_code, a_clausePred, a_itemCount) → wpY_tell post (b_seenX, b_seenY, b_num, a_kind, a_ref, b_value, b_left, b_right, b_rec, b_code, a_clausePred, a_itemCount) a' b') := by
  obtain ⟨RN, RK, RH, RG, RS⟩ := R
  have hx := RH.1
  have H := hx.1
  have V := RH.2.2
  have h64 := H.1
  have n0 : b_num 0 = nI nC := RN.2.2.2.1.trans RN.1.1
  have pn : E a.toNatClampNeg < nC := gh_Ht_e H (gh_vn ha)
  have qn : E b.toNatClampNeg < nC := gh_Ht_e H (gh_vn hb)
  have pr : a_ref (E a.toNatClampNeg) < 0 := gh_Ht_r H (gh_vn ha)
  have qr : a_ref (E b.toNatClampNeg) < 0 := gh_Ht_r H (gh_vn hb)
  have X0 : ∀ (f_blockedOn : Int64) (post : Int32 → SX → Prop), ((nI (E a.toNatClampNeg) = nI (E b.toNatClampNeg) → post 1 (f_cells, f_goals, f_usedSlots, f_woken, f_clauses, f_writing, f_openPairs, f_blockedOn, f_commits, f_lastClause, f_broken, f_cellLimit, f_goalLimit, f_clauseLimit, a_kind, a_first, a_second, a_ref, a_hooks, a_order, a_goalPred, a_goalArg, a_goalState, a_clausePred, a_itemCount, a_makeCount, a_spawnCount, a_itemOp, a_itemA, a_itemB, a_itemC, a_names)) ∧ (¬ nI (E a.toNatClampNeg) = nI (E b.toNatClampNeg) → (vp_in (nI (E a.toNatClampNeg)) 64 ∧ ((a_kind (nI (E a.toNatClampNeg)).toNatClampNeg = 0 → (vp_in (nI (E b.toNatClampNeg)) 64 ∧ ((a_kind (nI (E b.toNatClampNeg)).toNatClampNeg = 0 → ((nI (E a.toNatClampNeg) ≤ nI (E b.toNatClampNeg) → wX_unify_55 post (nI (E a.toNatClampNeg)) (nI (E b.toNatClampNeg)) f_cells f_goals f_usedSlots f_woken f_clauses f_writing f_openPairs f_blockedOn f_commits f_lastClause f_broken f_cellLimit f_goalLimit f_clauseLimit a_kind a_first a_second a_ref a_hooks a_order a_goalPred a_goalArg a_goalState a_clausePred a_itemCount a_makeCount a_spawnCount a_itemOp a_itemA a_itemB a_itemC a_names) ∧ (¬ nI (E a.toNatClampNeg) ≤ nI (E b.toNatClampNeg) → wX_unify_46 post (nI (E a.toNatClampNeg)) (nI (E b.toNatClampNeg)) f_cells f_goals f_usedSlots f_woken f_clauses f_writing f_openPairs f_blockedOn f_commits f_lastClause f_broken f_cellLimit f_goalLimit f_clauseLimit a_kind a_first a_second a_ref a_hooks a_order a_goalPred a_goalArg a_goalState a_clausePred a_itemCount a_makeCount a_spawnCount a_itemOp a_itemA a_itemB a_itemC a_names))) ∧ (¬ a_kind (nI (E b.toNatClampNeg)).toNatClampNeg = 0 → wX_unify_46 post (nI (E a.toNatClampNeg)) (nI (E b.toNatClampNeg)) f_cells f_goals f_usedSlots f_woken f_clauses f_writing f_openPairs f_blockedOn f_commits f_lastClause f_broken f_cellLimit f_goalLimit f_clauseLimit a_kind a_first a_second a_ref a_hooks a_order a_goalPred a_goalArg a_goalState a_clausePred a_itemCount a_makeCount a_spawnCount a_itemOp a_itemA a_itemB a_itemC a_names)))) ∧ (¬ a_kind (nI (E a.toNatClampNeg)).toNatClampNeg = 0 → wX_unify_55 post (nI (E a.toNatClampNeg)) (nI (E b.toNatClampNeg)) f_cells f_goals f_usedSlots f_woken f_clauses f_writing f_openPairs f_blockedOn f_commits f_lastClause f_broken f_cellLimit f_goalLimit f_clauseLimit a_kind a_first a_second a_ref a_hooks a_order a_goalPred a_goalArg a_goalState a_clausePred a_itemCount a_makeCount a_spawnCount a_itemOp a_itemA a_itemB a_itemC a_names))))) → wpX_unify post (f_cells, f_goals, f_usedSlots, f_woken, f_clauses, f_writing, f_openPairs, f_blockedOn, f_commits, f_lastClause, f_broken, f_cellLimit, f_goalLimit, f_clauseLimit, a_kind, a_first, a_second, a_ref, a_hooks, a_order, a_goalPred, a_goalArg, a_goalState, a_clausePred, a_itemCount, a_makeCount, a_spawnCount, a_itemOp, a_itemA, a_itemB, a_itemC, a_names) a b := by
    intro f_blockedOn post h
    unfold wpX_unify
    dsimp only
    exact gh_fX H ha (gh_fX H hb h)
  have Y0 : ∀ (b_seenX b_seenY : Int32) (post : Int32 → SY → Prop), ((nI (E a.toNatClampNeg) = nI (E b.toNatClampNeg) → post 0 (b_seenX, b_seenY, b_num, a_kind, a_ref, b_value, b_left, b_right, b_rec, b_code, a_clausePred, a_itemCount)) ∧ (¬ nI (E a.toNatClampNeg) = nI (E b.toNatClampNeg) → (vp_in (nI (E a.toNatClampNeg)) 64 ∧ ((a_kind (nI (E a.toNatClampNeg)).toNatClampNeg = 0 → (vp_in (nI (E b.toNatClampNeg)) 64 ∧ ((a_kind (nI (E b.toNatClampNeg)).toNatClampNeg = 0 → ((nI (E a.toNatClampNeg) ≤ nI (E b.toNatClampNeg) → wY_tell_75 post (nI (E a.toNatClampNeg)) (nI (E b.toNatClampNeg)) b_seenX b_seenY b_num a_kind a_ref b_value b_left b_right b_rec b_code a_clausePred a_itemCount) ∧ (¬ nI (E a.toNatClampNeg) ≤ nI (E b.toNatClampNeg) → wY_tell_64 post (nI (E a.toNatClampNeg)) (nI (E b.toNatClampNeg)) b_seenX b_seenY b_num a_kind a_ref b_value b_left b_right b_rec b_code a_clausePred a_itemCount))) ∧ (¬ a_kind (nI (E b.toNatClampNeg)).toNatClampNeg = 0 → wY_tell_64 post (nI (E a.toNatClampNeg)) (nI (E b.toNatClampNeg)) b_seenX b_seenY b_num a_kind a_ref b_value b_left b_right b_rec b_code a_clausePred a_itemCount)))) ∧ (¬ a_kind (nI (E a.toNatClampNeg)).toNatClampNeg = 0 → wY_tell_75 post (nI (E a.toNatClampNeg)) (nI (E b.toNatClampNeg)) b_seenX b_seenY b_num a_kind a_ref b_value b_left b_right b_rec b_code a_clausePred a_itemCount))))) → wpY_tell post (b_seenX, b_seenY, b_num, a_kind, a_ref, b_value, b_left, b_right, b_rec, b_code, a_clausePred, a_itemCount) a' b' := by
    intro b_seenX b_seenY post h
    unfold wpY_tell
    dsimp only
    refine gh_icY n0 h64 (fun _ => br_f (by decide) ?_) (fun z => absurd ha' z)
    refine gh_icY n0 h64 (fun _ => br_f (by decide) ?_) (fun z => absurd hb' z)
    refine gh_fY H ha' ?_
    rw [ea]
    refine gh_fY H hb' ?_
    rw [eb]
    exact h
  clear ea eb ha hb ha' hb'
  generalize E a.toNatClampNeg = p at pn pr X0 Y0
  generalize E b.toNatClampNeg = q at qn qr X0 Y0
  have vp : vp_in (nI p) 64 := vp_in_nI (by omega) (by omega)
  have vq : vp_in (nI q) 64 := vp_in_nI (by omega) (by omega)
  rw [nI_clamp (n := p) (by omega), nI_clamp (n := q) (by omega)] at X0 Y0
  by_cases e : p = q
  · subst e
    exact ⟨1, 0, f_woken, a_ref, a_hooks, E, Or.inl ⟨rfl, rfl⟩, ⟨RN, RK, RH, RG, RS⟩, gh_XT_rf, fun B post h => X0 B post (br_t rfl h), fun sx sy post h => Y0 sx sy post (br_t rfl h)⟩
  · have ne : ¬ nI p = nI q := fun z => e ((nI_eq (by omega) (by omega)).mp z)
    have W := gh_C1_CW RK.1
    -- both directions of a binding
    have bd : ∀ v t, v < nC → t < nC → t ≠ v → a_ref v < 0 → a_ref t < 0 → a_kind v = 0 → (a_kind t = 0 → t < v) → ∃ (wk : Int32) (hk : Nat → Int32), gh_RR nC nG nK lc lg lk (fun i => gh_sg v t (E i)) f_cells f_goals f_usedSlots wk f_clauses f_writing f_openPairs f_blockedOn f_commits f_lastClause f_broken f_cellLimit f_goalLimit f_clauseLimit a_kind a_first a_second (upd a_ref v (nI t)) hk a_order a_goalPred a_goalArg a_goalState a_clausePred a_itemCount a_makeCount a_spawnCount a_itemOp a_itemA a_itemB a_itemC a_names b_seenX b_seenY b_num b_value b_left b_right b_rec b_code ∧ ∀ (f_blockedOn : Int64) (post : SX → Prop), post (f_cells, f_goals, f_usedSlots, wk, f_clauses, f_writing, f_openPairs, f_blockedOn, f_commits, f_lastClause, f_broken, f_cellLimit, f_goalLimit, f_clauseLimit, a_kind, a_first, a_second, (upd a_ref v (nI t)), hk, a_order, a_goalPred, a_goalArg, a_goalState, a_clausePred, a_itemCount, a_makeCount, a_spawnCount, a_itemOp, a_itemA, a_itemB, a_itemC, a_names) → wpX_bind post (f_cells, f_goals, f_usedSlots, f_woken, f_clauses, f_writing, f_openPairs, f_blockedOn, f_commits, f_lastClause, f_broken, f_cellLimit, f_goalLimit, f_clauseLimit, a_kind, a_first, a_second, a_ref, a_hooks, a_order, a_goalPred, a_goalArg, a_goalState, a_clausePred, a_itemCount, a_makeCount, a_spawnCount, a_itemOp, a_itemA, a_itemB, a_itemC, a_names) (nI v) (nI t) := by
      intro v t hv ht nt rv rt kv kt
      obtain ⟨wk, hk, w1, w2, w3⟩ := gh_bdX (f_cells := f_cells) (f_goals := f_goals) (f_usedSlots := f_usedSlots) (f_woken := f_woken) (f_clauses := f_clauses) (f_writing := f_writing) (f_openPairs := f_openPairs) (f_commits := f_commits) (f_lastClause := f_lastClause) (f_broken := f_broken) (f_cellLimit := f_cellLimit) (f_goalLimit := f_goalLimit) (f_clauseLimit := f_clauseLimit) (a_kind := a_kind) (a_first := a_first) (a_second := a_second) (a_ref := a_ref) (a_hooks := a_hooks) (a_order := a_order) (a_goalPred := a_goalPred) (a_goalArg := a_goalArg) (a_goalState := a_goalState) (a_clausePred := a_clausePred) (a_itemCount := a_itemCount) (a_makeCount := a_makeCount) (a_spawnCount := a_spawnCount) (a_itemOp := a_itemOp) (a_itemA := a_itemA) (a_itemB := a_itemB) (a_itemC := a_itemC) (a_names := a_names) (v := v) (t := t) (by omega) (by omega) nt
      exact ⟨wk, hk, ⟨RN, RK, gh_RH_bind RH hv kv rv ht rt nt kt, gh_RG_bind RG, gh_RS_bind RS W hv kv ht nt w1 (fun w hw => w2 w (by omega))⟩, w3⟩
    by_cases b1 : a_kind p = 0 ∧ (¬ a_kind q = 0 ∨ q < p)
    · obtain ⟨wk, hk, R2, hX⟩ := bd p q pn qn (fun z => e z.symm) pr qr b1.1 (fun z => b1.2.resolve_left (fun y => y z))
      refine ⟨1, 0, wk, upd a_ref p (nI q), hk, _, Or.inl ⟨rfl, rfl⟩, R2, gh_XT_bind b1.1, fun f_blockedOn post h => X0 f_blockedOn post ?_, fun b_seenX b_seenY post h => Y0 b_seenX b_seenY post ?_⟩
      · refine br_f ne (And.intro vp (br_t b1.1 (And.intro vq ?_)))
        have go : wX_unify_46 post (nI p) (nI q) f_cells f_goals f_usedSlots f_woken f_clauses f_writing f_openPairs f_blockedOn f_commits f_lastClause f_broken f_cellLimit f_goalLimit f_clauseLimit a_kind a_first a_second a_ref a_hooks a_order a_goalPred a_goalArg a_goalState a_clausePred a_itemCount a_makeCount a_spawnCount a_itemOp a_itemA a_itemB a_itemC a_names := hX _ _ h
        refine br_c (fun kq => ?_) (fun _ => go)
        have lt := b1.2.resolve_left (fun y => y kq)
        exact br_f (nI_ge lt (by omega)) go
      · refine br_f ne (And.intro vp (br_t b1.1 (And.intro vq ?_)))
        have go : wY_tell_64 post (nI p) (nI q) b_seenX b_seenY b_num a_kind a_ref b_value b_left b_right b_rec b_code a_clausePred a_itemCount := And.intro vp (by rw [nI_clamp (by omega)]; exact nm_e h)
        refine br_c (fun kq => ?_) (fun _ => go)
        have lt := b1.2.resolve_left (fun y => y kq)
        exact br_f (nI_ge lt (by omega)) go
    · have to55 : ∀ (f_blockedOn : Int64) (post : Int32 → SX → Prop), wX_unify_55 post (nI p) (nI q) f_cells f_goals f_usedSlots f_woken f_clauses f_writing f_openPairs f_blockedOn f_commits f_lastClause f_broken f_cellLimit f_goalLimit f_clauseLimit a_kind a_first a_second a_ref a_hooks a_order a_goalPred a_goalArg a_goalState a_clausePred a_itemCount a_makeCount a_spawnCount a_itemOp a_itemA a_itemB a_itemC a_names → wpX_unify post (f_cells, f_goals, f_usedSlots, f_woken, f_clauses, f_writing, f_openPairs, f_blockedOn, f_commits, f_lastClause, f_broken, f_cellLimit, f_goalLimit, f_clauseLimit, a_kind, a_first, a_second, a_ref, a_hooks, a_order, a_goalPred, a_goalArg, a_goalState, a_clausePred, a_itemCount, a_makeCount, a_spawnCount, a_itemOp, a_itemA, a_itemB, a_itemC, a_names) a b := by
        intro f_blockedOn post h
        refine X0 f_blockedOn post (br_f ne (And.intro vp (br_c (fun kp => And.intro vq ?_) (fun _ => h))))
        have kq : a_kind q = 0 := by
          by_cases z : a_kind q = 0
          · exact z
          · exact absurd ⟨kp, Or.inl z⟩ b1
        have le : p ≤ q := by
          by_cases z : q < p
          · exact absurd ⟨kp, Or.inr z⟩ b1
          · omega
        exact br_t kq (br_t (nI_le le (by omega)) h)
      have to75 : ∀ (b_seenX b_seenY : Int32) (post : Int32 → SY → Prop), wY_tell_75 post (nI p) (nI q) b_seenX b_seenY b_num a_kind a_ref b_value b_left b_right b_rec b_code a_clausePred a_itemCount → wpY_tell post (b_seenX, b_seenY, b_num, a_kind, a_ref, b_value, b_left, b_right, b_rec, b_code, a_clausePred, a_itemCount) a' b' := by
        intro b_seenX b_seenY post h
        refine Y0 b_seenX b_seenY post (br_f ne (And.intro vp (br_c (fun kp => And.intro vq ?_) (fun _ => h))))
        have kq : a_kind q = 0 := by
          by_cases z : a_kind q = 0
          · exact z
          · exact absurd ⟨kp, Or.inl z⟩ b1
        have le : p ≤ q := by
          by_cases z : q < p
          · exact absurd ⟨kp, Or.inr z⟩ b1
          · omega
        exact br_t kq (br_t (nI_le le (by omega)) h)
      by_cases kq : a_kind q = 0
      · have lt : a_kind p = 0 → p < q := fun kp => by
          by_cases z : q < p
          · exact absurd ⟨kp, Or.inr z⟩ b1
          · omega
        obtain ⟨wk, hk, R2, hX⟩ := bd q p qn pn e qr pr kq lt
        refine ⟨1, 0, wk, upd a_ref q (nI p), hk, _, Or.inl ⟨rfl, rfl⟩, R2, gh_XT_bind kq, fun f_blockedOn post h => to55 f_blockedOn post ?_, fun b_seenX b_seenY post h => to75 b_seenX b_seenY post ?_⟩
        · refine And.intro vq ?_
          rw [nI_clamp (by omega)]
          exact br_t kq (hX _ _ h)
        · refine And.intro vq ?_
          rw [nI_clamp (by omega)]
          exact br_t kq (And.intro vq (nm_e h))
      · have kp : ¬ a_kind p = 0 := fun z => b1 ⟨z, Or.inl kq⟩
        have end55 : ∀ (rx ry : Int32) (c : Prop), ((rx = 1 ∧ ry = 0) ∨ (rx = 0 ∧ ry = -3)) → (∀ (f_blockedOn : Int64) (post : Int32 → SX → Prop), post rx (f_cells, f_goals, f_usedSlots, f_woken, f_clauses, f_writing, f_openPairs, f_blockedOn, f_commits, f_lastClause, f_broken, f_cellLimit, f_goalLimit, f_clauseLimit, a_kind, a_first, a_second, a_ref, a_hooks, a_order, a_goalPred, a_goalArg, a_goalState, a_clausePred, a_itemCount, a_makeCount, a_spawnCount, a_itemOp, a_itemA, a_itemB, a_itemC, a_names) → wX_unify_55 post (nI p) (nI q) f_cells f_goals f_usedSlots f_woken f_clauses f_writing f_openPairs f_blockedOn f_commits f_lastClause f_broken f_cellLimit f_goalLimit f_clauseLimit a_kind a_first a_second a_ref a_hooks a_order a_goalPred a_goalArg a_goalState a_clausePred a_itemCount a_makeCount a_spawnCount a_itemOp a_itemA a_itemB a_itemC a_names) → (∀ (b_seenX b_seenY : Int32) (post : Int32 → SY → Prop), post ry (b_seenX, b_seenY, b_num, a_kind, a_ref, b_value, b_left, b_right, b_rec, b_code, a_clausePred, a_itemCount) → wY_tell_75 post (nI p) (nI q) b_seenX b_seenY b_num a_kind a_ref b_value b_left b_right b_rec b_code a_clausePred a_itemCount) → ∃ (rx ry wk : Int32) (rf hk : Nat → Int32) (E' : Nat → Nat), ((rx = 1 ∧ ry = 0) ∨ (rx = 0 ∧ ry = -3)) ∧ gh_RR nC nG nK lc lg lk E' f_cells f_goals f_usedSlots wk f_clauses f_writing f_openPairs f_blockedOn f_commits f_lastClause f_broken f_cellLimit f_goalLimit f_clauseLimit a_kind a_first a_second rf hk a_order a_goalPred a_goalArg a_goalState a_clausePred a_itemCount a_makeCount a_spawnCount a_itemOp a_itemA a_itemB a_itemC a_names b_seenX b_seenY b_num b_value b_left b_right b_rec b_code ∧ gh_XT nC nC a_kind a_kind a_first a_first a_second a_second E E' ∧ (∀ (f_blockedOn : Int64) (post : Int32 → SX → Prop), post rx (f_cells, f_goals, f_usedSlots, wk, f_clauses, f_writing, f_openPairs, f_blockedOn, f_commits, f_lastClause, f_broken, f_cellLimit, f_goalLimit, f_clauseLimit, a_kind, a_first, a_second, rf, hk, a_order, a_goalPred, a_goalArg, a_goalState, a_clausePred, a_itemCount, a_makeCount, a_spawnCount, a_itemOp, a_itemA, a_itemB, a_itemC, a_names) → wpX_unify post (f_cells, f_goals, f_usedSlots, f_woken, f_clauses, f_writing, f_openPairs, f_blockedOn, f_commits, f_lastClause, f_broken, f_cellLimit, f_goalLimit, f_clauseLimit, a_kind, a_first, a_second, a_ref, a_hooks, a_order, a_goalPred, a_goalArg, a_goalState, a_clausePred, a_itemCount, a_makeCount, a_spawnCount, a_itemOp, a_itemA, a_itemB, a_itemC, a_names) a b) ∧ (∀ (b_seenX b_seenY : Int32) (post : Int32 → SY → Prop), post ry (b_seenX, b_seenY, b_num, a_kind, rf, b_value, b_left, b_right, b_rec, b_code, a_clausePred, a_itemCount) → wpY_tell post (b_seenX, b_seenY, b_num, a_kind, a_ref, b_value, b_left, b_right, b_rec, b_code, a_clausePred, a_itemCount) a' b') := by
          intro rx ry _ hr h1 h2
          exact ⟨rx, ry, f_woken, a_ref, a_hooks, E, hr, ⟨RN, RK, RH, RG, RS⟩, gh_XT_rf, fun B post h => to55 B post (h1 B post h), fun sx sy post h => to75 sx sy post (h2 sx sy post h)⟩
        have k12 : ∀ i, i < nC → ¬ a_kind i = 0 → a_kind i = 1 ∨ a_kind i = 2 := fun i hi z => (gh_Ht_3 H hi).resolve_left z
        have n21 : ¬ (2 : Int32) = 1 := by decide
        have n12 : ¬ (1 : Int32) = 2 := by decide
        have xs : ∀ (f_blockedOn : Int64) (post : Int32 → SX → Prop), ((a_kind p = 1 → (vp_in (nI q) 64 ∧ ((a_kind q = 1 → (vp_in (nI p) 64 ∧ (vp_in (nI q) 64 ∧ ((a_first p = a_first q → post 1 (f_cells, f_goals, f_usedSlots, f_woken, f_clauses, f_writing, f_openPairs, f_blockedOn, f_commits, f_lastClause, f_broken, f_cellLimit, f_goalLimit, f_clauseLimit, a_kind, a_first, a_second, a_ref, a_hooks, a_order, a_goalPred, a_goalArg, a_goalState, a_clausePred, a_itemCount, a_makeCount, a_spawnCount, a_itemOp, a_itemA, a_itemB, a_itemC, a_names)) ∧ (¬ a_first p = a_first q → post 0 (f_cells, f_goals, f_usedSlots, f_woken, f_clauses, f_writing, f_openPairs, f_blockedOn, f_commits, f_lastClause, f_broken, f_cellLimit, f_goalLimit, f_clauseLimit, a_kind, a_first, a_second, a_ref, a_hooks, a_order, a_goalPred, a_goalArg, a_goalState, a_clausePred, a_itemCount, a_makeCount, a_spawnCount, a_itemOp, a_itemA, a_itemB, a_itemC, a_names)))))) ∧ (¬ a_kind q = 1 → post 0 (f_cells, f_goals, f_usedSlots, f_woken, f_clauses, f_writing, f_openPairs, f_blockedOn, f_commits, f_lastClause, f_broken, f_cellLimit, f_goalLimit, f_clauseLimit, a_kind, a_first, a_second, a_ref, a_hooks, a_order, a_goalPred, a_goalArg, a_goalState, a_clausePred, a_itemCount, a_makeCount, a_spawnCount, a_itemOp, a_itemA, a_itemB, a_itemC, a_names))))) ∧ (¬ a_kind p = 1 → post 0 (f_cells, f_goals, f_usedSlots, f_woken, f_clauses, f_writing, f_openPairs, f_blockedOn, f_commits, f_lastClause, f_broken, f_cellLimit, f_goalLimit, f_clauseLimit, a_kind, a_first, a_second, a_ref, a_hooks, a_order, a_goalPred, a_goalArg, a_goalState, a_clausePred, a_itemCount, a_makeCount, a_spawnCount, a_itemOp, a_itemA, a_itemB, a_itemC, a_names))) → wX_unify_55 post (nI p) (nI q) f_cells f_goals f_usedSlots f_woken f_clauses f_writing f_openPairs f_blockedOn f_commits f_lastClause f_broken f_cellLimit f_goalLimit f_clauseLimit a_kind a_first a_second a_ref a_hooks a_order a_goalPred a_goalArg a_goalState a_clausePred a_itemCount a_makeCount a_spawnCount a_itemOp a_itemA a_itemB a_itemC a_names := by
          intro f_blockedOn post h
          refine And.intro vq ?_
          rw [nI_clamp (n := q) (by omega)]
          refine br_f kq (And.intro vp ?_)
          rw [nI_clamp (n := p) (by omega)]
          exact h
        have ys : ∀ (b_seenX b_seenY : Int32) (post : Int32 → SY → Prop), ((a_kind p = 2 → post (-3) (b_seenX, b_seenY, b_num, a_kind, a_ref, b_value, b_left, b_right, b_rec, b_code, a_clausePred, a_itemCount)) ∧ (¬ a_kind p = 2 → (vp_in (nI q) 64 ∧ ((a_kind q = 2 → post (-3) (b_seenX, b_seenY, b_num, a_kind, a_ref, b_value, b_left, b_right, b_rec, b_code, a_clausePred, a_itemCount)) ∧ (¬ a_kind q = 2 → (vp_in (nI p) 64 ∧ (vp_in (nI q) 64 ∧ ((b_value p = b_value q → post 0 (b_seenX, b_seenY, b_num, a_kind, a_ref, b_value, b_left, b_right, b_rec, b_code, a_clausePred, a_itemCount)) ∧ (¬ b_value p = b_value q → post (-3) (b_seenX, b_seenY, b_num, a_kind, a_ref, b_value, b_left, b_right, b_rec, b_code, a_clausePred, a_itemCount)))))))))) → wY_tell_75 post (nI p) (nI q) b_seenX b_seenY b_num a_kind a_ref b_value b_left b_right b_rec b_code a_clausePred a_itemCount := by
          intro b_seenX b_seenY post h
          refine And.intro vq ?_
          rw [nI_clamp (n := q) (by omega)]
          refine br_f kq (And.intro vp ?_)
          rw [nI_clamp (n := p) (by omega)]
          exact h
        rcases k12 p pn kp with p1 | p2
        · rcases k12 q qn kq with q1 | q2
          · have ep := (V p pn).1 p1
            have eq := (V q qn).1 q1
            have np2 : ¬ a_kind p = 2 := by rw [p1]; exact n12
            have nq2 : ¬ a_kind q = 2 := by rw [q1]; exact n12
            by_cases f : a_first p = a_first q
            · refine end55 1 0 True (Or.inl ⟨rfl, rfl⟩) (fun B post h => xs B post (br_t p1 (And.intro vq (br_t q1 (And.intro vp (And.intro vq (br_t f h))))))) (fun sx sy post h => ys sx sy post (br_f np2 (And.intro vq (br_f nq2 (And.intro vp (And.intro vq (br_t ?_ h)))))))
              rw [ep, eq]; exact f
            · refine end55 0 (-3) True (Or.inr ⟨rfl, rfl⟩) (fun B post h => xs B post (br_t p1 (And.intro vq (br_t q1 (And.intro vp (And.intro vq (br_f f h))))))) (fun sx sy post h => ys sx sy post (br_f np2 (And.intro vq (br_f nq2 (And.intro vp (And.intro vq (br_f ?_ h)))))))
              rw [ep, eq]; exact f
          · have np2 : ¬ a_kind p = 2 := by rw [p1]; exact n12
            have nq1 : ¬ a_kind q = 1 := by rw [q2]; exact n21
            exact end55 0 (-3) True (Or.inr ⟨rfl, rfl⟩) (fun B post h => xs B post (br_t p1 (And.intro vq (br_f nq1 h)))) (fun sx sy post h => ys sx sy post (br_f np2 (And.intro vq (br_t q2 h))))
        · have np1 : ¬ a_kind p = 1 := by rw [p2]; exact n21
          exact end55 0 (-3) True (Or.inr ⟨rfl, rfl⟩) (fun B post h => xs B post (br_f np1 h)) (fun sx sy post h => ys sx sy post (br_t p2 h))
end
end
section
/-! make, append, remove in both -/
section
variable {f_cells f_goals f_usedSlots f_woken f_clauses f_writing f_openPairs : Int32} {f_blockedOn : Int64} {f_commits f_lastClause f_broken f_cellLimit f_goalLimit f_clauseLimit : Int32} {a_kind a_first a_second a_ref a_hooks a_order a_goalPred a_goalArg a_goalState a_clausePred a_itemCount a_makeCount a_spawnCount a_itemOp a_itemA a_itemB a_itemC a_names : Nat → Int32} {b_seenX b_seenY : Int32} {b_num b_value b_left b_right b_rec b_code : Nat → Int32}
variable {nC nG nK lc lg lk : Nat} {E : Nat → Nat}
theorem gh_ifz {k a : Int32} : (k = 1 → (if k = 1 then a else 0) = a) ∧ (¬ k = 1 → (if k = 1 then a else (0 : Int32)) = 0) := ⟨fun h => if_pos h, fun h => if_neg h⟩
theorem gh_t32 {k x y : Int32} (n0 : b_num 0 = nI nC) (h64 : nC < 64) (h7 : b_num 7 = nI lc) (hl : nC < lc) (hlc : lc ≤ 64) {post : Int32 → SY → Prop}
    (h : post (nI nC) (b_seenX, b_seenY, (upd b_num 0 (nI (nC + 1))), (upd a_kind nC k), (upd a_ref nC (-1)), (upd b_value nC (if k = 1 then x else 0)), (upd b_left nC (if k = 2 then x else -1)), (upd b_right nC (if k = 2 then y else -1)), b_rec, b_code, a_clausePred, a_itemCount)) : wY_term_32 post k x y b_seenX b_seenY b_num a_kind a_ref b_value b_left b_right b_rec b_code a_clausePred a_itemCount := by
  have vn : vp_in (nI nC) 64 := vp_in_nI h64 (by omega)
  have cn : (nI nC).toNatClampNeg = nC := nI_clamp (by omega)
  have f125 : ∀ (kd rf vl lf : Nat → Int32) (z : Int32), post (nI nC) (b_seenX, b_seenY, (upd b_num 0 (nI (nC + 1))), kd, rf, vl, lf, (upd b_right nC z), b_rec, b_code, a_clausePred, a_itemCount) → wY_term_125 post z (nI nC) b_seenX b_seenY b_num kd rf vl lf b_right b_rec b_code a_clausePred a_itemCount := by
    intro kd rf vl lf z hz
    refine And.intro vn ?_
    rw [cn, n0, nI_1]
    exact nm_e (nm_e hz)
  have f108 : ∀ (kd rf vl : Nat → Int32) (z : Int32), post (nI nC) (b_seenX, b_seenY, (upd b_num 0 (nI (nC + 1))), kd, rf, vl, (upd b_left nC z), (upd b_right nC (if k = 2 then y else -1)), b_rec, b_code, a_clausePred, a_itemCount) → wY_term_108 post k y (nI nC) z (nI nC) b_seenX b_seenY b_num kd rf vl b_left b_right b_rec b_code a_clausePred a_itemCount := by
    intro kd rf vl z hz
    refine And.intro vn ?_
    rw [cn]
    refine nm_e (br_c (fun h2 => ?_) (fun h2 => ?_))
    · rw [if_pos h2] at hz; exact f125 _ _ _ _ _ hz
    · rw [if_neg h2] at hz; exact f125 _ _ _ _ _ hz
  have f91 : ∀ (kd rf : Nat → Int32) (z : Int32), post (nI nC) (b_seenX, b_seenY, (upd b_num 0 (nI (nC + 1))), kd, rf, (upd b_value nC z), (upd b_left nC (if k = 2 then x else -1)), (upd b_right nC (if k = 2 then y else -1)), b_rec, b_code, a_clausePred, a_itemCount) → wY_term_91 post k x y (nI nC) z (nI nC) b_seenX b_seenY b_num kd rf b_value b_left b_right b_rec b_code a_clausePred a_itemCount := by
    intro kd rf z hz
    refine And.intro vn ?_
    rw [cn]
    refine nm_e (br_c (fun h2 => ?_) (fun h2 => ?_))
    · rw [if_pos h2 (t := x)] at hz; exact f108 _ _ _ _ hz
    · rw [if_neg h2 (t := x)] at hz; exact f108 _ _ _ _ hz
  unfold wY_term_32
  rw [n0, h7]
  refine br_t (nI_lt hl (by omega)) (nm_e (And.intro vn ?_))
  rw [cn]
  refine nm_e (And.intro vn (nm_e (br_c (fun h1 => ?_) (fun h1 => ?_))))
  · rw [if_pos h1] at h; exact f91 _ _ _ h
  · rw [if_neg h1] at h; exact f91 _ _ _ h
theorem gh_mkX {k a b : Int32} (hf : f_cells = nI nC) (h64 : nC < 64) {post : Int32 → SX → Prop}
    (h : post (nI nC) ((nI (nC + 1)), f_goals, f_usedSlots, f_woken, f_clauses, f_writing, f_openPairs, f_blockedOn, f_commits, f_lastClause, f_broken, f_cellLimit, f_goalLimit, f_clauseLimit, (upd a_kind nC k), (upd a_first nC a), (upd a_second nC b), (upd a_ref nC (-1)), (upd a_hooks nC 0), a_order, a_goalPred, a_goalArg, a_goalState, a_clausePred, a_itemCount, a_makeCount, a_spawnCount, a_itemOp, a_itemA, a_itemB, a_itemC, a_names)) : wpX_make post (f_cells, f_goals, f_usedSlots, f_woken, f_clauses, f_writing, f_openPairs, f_blockedOn, f_commits, f_lastClause, f_broken, f_cellLimit, f_goalLimit, f_clauseLimit, a_kind, a_first, a_second, a_ref, a_hooks, a_order, a_goalPred, a_goalArg, a_goalState, a_clausePred, a_itemCount, a_makeCount, a_spawnCount, a_itemOp, a_itemA, a_itemB, a_itemC, a_names) k a b := by
  subst hf
  have vn : vp_in (nI nC) 64 := vp_in_nI h64 (by omega)
  refine And.intro vn ?_
  rw [nI_clamp (by omega)]
  exact nm_e (And.intro vn (nm_e (And.intro vn (nm_e (And.intro vn (nm_e (And.intro vn (nm_e (nm_r (nI_1 nC) h)))))))))
theorem gh_RN_cells {fc : Int32} (R : gh_RN nC nG nK lc lg lk f_cells f_goals f_clauses f_writing f_commits f_lastClause f_broken f_cellLimit f_goalLimit f_clauseLimit b_num) (hl : nC < lc) : gh_RN (nC + 1) nG nK lc lg lk (nI (nC + 1)) f_goals f_clauses f_writing f_commits f_lastClause f_broken f_cellLimit f_goalLimit f_clauseLimit (upd b_num 0 (nI (nC + 1))) := by
  obtain ⟨⟨a1, a2, a3, a4, a5⟩, b, ⟨c1, c2, c3⟩, ⟨d0, d1, d2, d3, d4, d5, d6, d7, d8, d9⟩⟩ := R
  exact ⟨⟨rfl, a2, a3, a4, a5⟩, b, ⟨by omega, c2, c3⟩, ⟨pk_us, (pk_un (by decide)).trans d1, (pk_un (by decide)).trans d2, (pk_un (by decide)).trans d3, (pk_un (by decide)).trans d4, (pk_un (by decide)).trans d5, (pk_un (by decide)).trans d6, (pk_un (by decide)).trans d7, (pk_un (by decide)).trans d8, (pk_un (by decide)).trans d9⟩⟩
theorem gh_RN_goals {n : Nat} (R : gh_RN nC nG nK lc lg lk f_cells f_goals f_clauses f_writing f_commits f_lastClause f_broken f_cellLimit f_goalLimit f_clauseLimit b_num) (hl : n ≤ lg) : gh_RN nC n nK lc lg lk f_cells (nI n) f_clauses f_writing f_commits f_lastClause f_broken f_cellLimit f_goalLimit f_clauseLimit (upd b_num 1 (nI n)) := by
  obtain ⟨⟨a1, a2, a3, a4, a5⟩, b, ⟨c1, c2, _, c3⟩, ⟨d0, d1, d2, d3, d4, d5, d6, d7, d8, d9⟩⟩ := R
  exact ⟨⟨a1, rfl, a3, a4, a5⟩, b, ⟨c1, c2, hl, c3⟩, ⟨(pk_un (by decide)).trans d0, pk_us, (pk_un (by decide)).trans d2, (pk_un (by decide)).trans d3, (pk_un (by decide)).trans d4, (pk_un (by decide)).trans d5, (pk_un (by decide)).trans d6, (pk_un (by decide)).trans d7, (pk_un (by decide)).trans d8, (pk_un (by decide)).trans d9⟩⟩
theorem gh_mk {k a b x y : Int32} (R : gh_RR nC nG nK lc lg lk E f_cells f_goals f_usedSlots f_woken f_clauses f_writing f_openPairs f_blockedOn f_commits f_lastClause f_broken f_cellLimit f_goalLimit f_clauseLimit a_kind a_first a_second a_ref a_hooks a_order a_goalPred a_goalArg a_goalState a_clausePred a_itemCount a_makeCount a_spawnCount a_itemOp a_itemA a_itemB a_itemC a_names b_seenX b_seenY b_num b_value b_left b_right b_rec b_code) (hl : nC < lc) (hk : k = 0 ∨ k = 1 ∨ k = 2) (hp : k = 2 → (vp_in a nC ∧ vp_in b nC) ∧ (vp_in x nC ∧ vp_in y nC) ∧ E x.toNatClampNeg = E a.toNatClampNeg ∧ E y.toNatClampNeg = E b.toNatClampNeg) (hz : k = 1 → x = a) :
    ∃ (hf kd fs sc rf nm vl lf rt : Nat → Int32) (E' : Nat → Nat), gh_RR (nC + 1) nG nK lc lg lk E' (nI (nC + 1)) f_goals f_usedSlots f_woken f_clauses f_writing f_openPairs f_blockedOn f_commits f_lastClause f_broken f_cellLimit f_goalLimit f_clauseLimit kd fs sc rf hf a_order a_goalPred a_goalArg a_goalState a_clausePred a_itemCount a_makeCount a_spawnCount a_itemOp a_itemA a_itemB a_itemC a_names b_seenX b_seenY nm vl lf rt b_rec b_code ∧ gh_XT nC (nC + 1) a_kind kd a_first fs a_second sc E E' ∧
      (∀ (f_blockedOn : Int64) (post : Int32 → SX → Prop), post (nI nC) ((nI (nC + 1)), f_goals, f_usedSlots, f_woken, f_clauses, f_writing, f_openPairs, f_blockedOn, f_commits, f_lastClause, f_broken, f_cellLimit, f_goalLimit, f_clauseLimit, kd, fs, sc, rf, hf, a_order, a_goalPred, a_goalArg, a_goalState, a_clausePred, a_itemCount, a_makeCount, a_spawnCount, a_itemOp, a_itemA, a_itemB, a_itemC, a_names) → wpX_make post (f_cells, f_goals, f_usedSlots, f_woken, f_clauses, f_writing, f_openPairs, f_blockedOn, f_commits, f_lastClause, f_broken, f_cellLimit, f_goalLimit, f_clauseLimit, a_kind, a_first, a_second, a_ref, a_hooks, a_order, a_goalPred, a_goalArg, a_goalState, a_clausePred, a_itemCount, a_makeCount, a_spawnCount, a_itemOp, a_itemA, a_itemB, a_itemC, a_names) k a b) ∧
      (∀ (b_seenX b_seenY : Int32) (post : Int32 → SY → Prop), post (nI nC) (b_seenX, b_seenY, nm, kd, rf, vl, lf, rt, b_rec, b_code, a_clausePred, a_itemCount) → wY_term_32 post k x y b_seenX b_seenY b_num a_kind a_ref b_value b_left b_right b_rec b_code a_clausePred a_itemCount) := by
  obtain ⟨RN, RK, RH, RG, RS⟩ := R
  have h64 := RH.1.1.1
  have hlc : lc ≤ 64 := RN.2.2.1.2.1
  have n0 : b_num 0 = nI nC := RN.2.2.2.1.trans RN.1.1
  have n7 : b_num 7 = nI lc := RN.2.2.2.2.2.2.2.2.2.2.1.trans RN.2.1.1
  refine ⟨_, _, _, _, _, _, _, _, _, (fun i => if i = nC then nC else E i), ⟨?_, RK, ?_, gh_RG_make RG, gh_RS_make RH.1 RG RS⟩, gh_XT_make, fun B post h => gh_mkX RN.1.1 (by omega) h, fun sx sy post h => gh_t32 (k := k) (x := x) (y := y) n0 (by omega) n7 hl hlc h⟩
  · exact gh_RN_cells (fc := 0) RN hl
  · refine gh_RH_make RH (by omega) hk (fun h2 => ?_) ?_
    · rw [if_pos h2, if_pos h2]
      exact hp h2
    · refine ⟨fun h => ?_, fun h => if_neg h⟩
      rw [if_pos h]; exact hz h
/-! append -/
theorem gh_po {p a b c a' b' c' : Int32} (R : gh_RR nC nG nK lc lg lk E f_cells f_goals f_usedSlots f_woken f_clauses f_writing f_openPairs f_blockedOn f_commits f_lastClause f_broken f_cellLimit f_goalLimit f_clauseLimit a_kind a_first a_second a_ref a_hooks a_order a_goalPred a_goalArg a_goalState a_clausePred a_itemCount a_makeCount a_spawnCount a_itemOp a_itemA a_itemB a_itemC a_names b_seenX b_seenY b_num b_value b_left b_right b_rec b_code) (hl : nG < lg) (p0 : ¬ p < 0) (p7 : ¬ 7 < p) (ha : vp_in a nC) (hb : vp_in b nC) (hc : vp_in c nC) (ha' : vp_in a' nC) (hb' : vp_in b' nC) (hc' : vp_in c' nC) (ea : E a'.toNatClampNeg = E a.toNatClampNeg) (eb : E b'.toNatClampNeg = E b.toNatClampNeg) (ec : E c'.toNatClampNeg = E c.toNatClampNeg) :
    ∃ (us wk : Int32) (od gp ga gst nm rc : Nat → Int32), gh_RR nC (nG + 1) nK lc lg lk E f_cells (nI (nG + 1)) us wk f_clauses f_writing f_openPairs f_blockedOn f_commits f_lastClause f_broken f_cellLimit f_goalLimit f_clauseLimit a_kind a_first a_second a_ref a_hooks od gp ga gst a_clausePred a_itemCount a_makeCount a_spawnCount a_itemOp a_itemA a_itemB a_itemC a_names b_seenX b_seenY nm b_value b_left b_right rc b_code ∧ (∀ i, 64 ≤ i → rc i = b_rec i) ∧
      (∀ (f_blockedOn : Int64) (post : SX → Prop), post (f_cells, (nI (nG + 1)), us, wk, f_clauses, f_writing, f_openPairs, f_blockedOn, f_commits, f_lastClause, f_broken, f_cellLimit, f_goalLimit, f_clauseLimit, a_kind, a_first, a_second, a_ref, a_hooks, od, gp, ga, gst, a_clausePred, a_itemCount, a_makeCount, a_spawnCount, a_itemOp, a_itemA, a_itemB, a_itemC, a_names) → wpX_append post (f_cells, f_goals, f_usedSlots, f_woken, f_clauses, f_writing, f_openPairs, f_blockedOn, f_commits, f_lastClause, f_broken, f_cellLimit, f_goalLimit, f_clauseLimit, a_kind, a_first, a_second, a_ref, a_hooks, a_order, a_goalPred, a_goalArg, a_goalState, a_clausePred, a_itemCount, a_makeCount, a_spawnCount, a_itemOp, a_itemA, a_itemB, a_itemC, a_names) p a b c) ∧
      (∀ (b_seenX b_seenY : Int32) (post : Int32 → SY → Prop), post (nI nG) (b_seenX, b_seenY, nm, a_kind, a_ref, b_value, b_left, b_right, rc, b_code, a_clausePred, a_itemCount) → wpY_post post (b_seenX, b_seenY, b_num, a_kind, a_ref, b_value, b_left, b_right, b_rec, b_code, a_clausePred, a_itemCount) p a' b' c') := by
  obtain ⟨RN, RK, RH, RG, RS⟩ := R
  have h64 := RH.1.1.1
  have hlg : lg ≤ 16 := RN.2.2.1.2.2.2.1
  have n0 : b_num 0 = nI nC := RN.2.2.2.1.trans RN.1.1
  have n1 : b_num 1 = nI nG := RN.2.2.2.2.1.trans RN.1.2.1
  have n8 : b_num 8 = nI lg := RN.2.2.2.2.2.2.2.2.2.2.2.1.trans RN.2.1.2.1
  obtain ⟨t, ht, hu, hbl⟩ := gh_free RG (by omega)
  refine ⟨_, _, _, _, _, _, _, _, ⟨gh_RN_goals RN (by omega), RK, RH, gh_RG_append RG (by omega) ht hu ha hb hc ha' hb' hc' ea eb ec, gh_RS_append RS ht⟩, ?_, fun B post h => gh_apX RN.1.2.1 (by omega) ht hu hbl h, fun b_seenX b_seenY post h => ?_⟩
  · intro i hi
    rw [pk_un (by omega), pk_un (by omega), pk_un (by omega), pk_un (by omega)]
  · refine br_f p0 (br_f p7 ?_)
    refine gh_icY n0 h64 (fun _ => br_f (by decide) ?_) (fun z => absurd ha' z)
    refine gh_icY n0 h64 (fun _ => br_f (by decide) ?_) (fun z => absurd hb' z)
    refine gh_icY n0 h64 (fun _ => br_f (by decide) ?_) (fun z => absurd hc' z)
    rw [n1, n8]
    refine br_t (nI_lt hl (by omega)) (nm_r (pk_mul nG 4) ?_)
    rw [nI_1 (nG * 4), show nI (nG * 4) + 2 = nI (nG * 4 + 2) from nI_add _ 2, show nI (nG * 4) + 3 = nI (nG * 4 + 3) from nI_add _ 3, nI_clamp (n := nG * 4) (by omega), nI_clamp (n := nG * 4 + 1) (by omega), nI_clamp (n := nG * 4 + 2) (by omega), nI_clamp (n := nG * 4 + 3) (by omega), nI_1 nG]
    exact And.intro (vp_in_nI (by omega) (by omega)) (nm_e (And.intro (vp_in_nI (by omega) (by omega)) (nm_e (And.intro (vp_in_nI (by omega) (by omega)) (nm_e (And.intro (vp_in_nI (by omega) (by omega)) (nm_e (nm_e h))))))))
/-! remove -/
theorem gh_cax {N j4 : Nat} (hN : N ≤ 15) (n1 : b_num 1 = nI N) {post : Int32 → SY → Prop} (k : post 0 (b_seenX, b_seenY, b_num, a_kind, a_ref, b_value, b_left, b_right, (gh_shf j4 (N * 4) 4 b_rec), b_code, a_clausePred, a_itemCount)) :
    ∀ d q n, q + d = N * 4 → d < n → j4 ≤ q → wY_cancel_30 post b_seenX b_seenY n (nI q) b_num a_kind a_ref b_value b_left b_right (gh_shf j4 q 4 b_rec) b_code a_clausePred a_itemCount := by
  have e4 : nI N * 4 = nI (N * 4) := pk_mul N 4
  intro d
  induction d with
  | zero =>
    intro q n hq hn hj
    obtain ⟨n, rfl⟩ : ∃ n', n = n' + 1 := ⟨n - 1, by omega⟩
    obtain rfl : q = N * 4 := by omega
    exact br_t (by rw [n1, e4]; exact nI_le (Nat.le_refl _) (by omega)) k
  | succ d ih =>
    intro q n hq hn hj
    obtain ⟨n, rfl⟩ : ∃ n', n = n' + 1 := ⟨n - 1, by omega⟩
    refine br_f (by rw [n1, e4]; exact nI_ge (by omega) (by omega)) ?_
    rw [show nI q + 4 = nI (q + 4) from nI_add _ 4, nI_1 q]
    refine And.intro (vp_in_nI (by omega) (by omega)) (And.intro (vp_in_nI (by omega) (by omega)) ?_)
    rw [nI_clamp (n := q) (by omega), nI_clamp (n := q + 4) (by omega)]
    exact nm_r (gh_shf_s hj) (nm_e (ih (q + 1) n (by omega) (by omega) (by omega)))
theorem gh_caY {j : Nat} (hG : nG ≤ 16) (hj : j < nG) (n1 : b_num 1 = nI nG) {post : Int32 → SY → Prop}
    (k : post 0 (b_seenX, b_seenY, (upd b_num 1 (nI (nG - 1))), a_kind, a_ref, b_value, b_left, b_right, (gh_shf (j * 4) ((nG - 1) * 4) 4 b_rec), b_code, a_clausePred, a_itemCount)) : wpY_cancel post (b_seenX, b_seenY, b_num, a_kind, a_ref, b_value, b_left, b_right, b_rec, b_code, a_clausePred, a_itemCount) (nI j) := by
  refine br_f (nI_pos (by omega)) ?_
  rw [n1]
  refine br_t (nI_lt hj (by omega)) ?_
  rw [show nI nG - 1 = nI (nG - 1) from pk_sub (b := 1) (by omega)]
  refine nm_e (nm_r (pk_mul j 4) (Exists.intro ((nG - 1) * 4 - j * 4 + 1) ?_))
  have t := gh_cax (N := nG - 1) (j4 := j * 4) (by omega) pk_us k ((nG - 1) * 4 - j * 4) (j * 4) ((nG - 1) * 4 - j * 4 + 1) (by omega) (by omega) (Nat.le_refl _)
  rw [gh_shf_0] at t
  exact t
theorem gh_rm {j : Nat} (R : gh_RR nC nG nK lc lg lk E f_cells f_goals f_usedSlots f_woken f_clauses f_writing f_openPairs f_blockedOn f_commits f_lastClause f_broken f_cellLimit f_goalLimit f_clauseLimit a_kind a_first a_second a_ref a_hooks a_order a_goalPred a_goalArg a_goalState a_clausePred a_itemCount a_makeCount a_spawnCount a_itemOp a_itemA a_itemB a_itemC a_names b_seenX b_seenY b_num b_value b_left b_right b_rec b_code) (hj : j < nG) :
    ∃ (us wk : Int32) (hk od nm rc : Nat → Int32), gh_RR nC (nG - 1) nK lc lg lk E f_cells (nI (nG - 1)) us wk f_clauses f_writing f_openPairs f_blockedOn f_commits f_lastClause f_broken f_cellLimit f_goalLimit f_clauseLimit a_kind a_first a_second a_ref hk od a_goalPred a_goalArg a_goalState a_clausePred a_itemCount a_makeCount a_spawnCount a_itemOp a_itemA a_itemB a_itemC a_names b_seenX b_seenY nm b_value b_left b_right rc b_code ∧ (∀ i, 64 ≤ i → rc i = b_rec i) ∧
      (∀ (f_blockedOn : Int64) (post : SX → Prop), post (f_cells, (nI (nG - 1)), us, wk, f_clauses, f_writing, f_openPairs, f_blockedOn, f_commits, f_lastClause, f_broken, f_cellLimit, f_goalLimit, f_clauseLimit, a_kind, a_first, a_second, a_ref, hk, od, a_goalPred, a_goalArg, a_goalState, a_clausePred, a_itemCount, a_makeCount, a_spawnCount, a_itemOp, a_itemA, a_itemB, a_itemC, a_names) → wpX_removeAt post (f_cells, f_goals, f_usedSlots, f_woken, f_clauses, f_writing, f_openPairs, f_blockedOn, f_commits, f_lastClause, f_broken, f_cellLimit, f_goalLimit, f_clauseLimit, a_kind, a_first, a_second, a_ref, a_hooks, a_order, a_goalPred, a_goalArg, a_goalState, a_clausePred, a_itemCount, a_makeCount, a_spawnCount, a_itemOp, a_itemA, a_itemB, a_itemC, a_names) (nI j)) ∧
      (∀ (b_seenX b_seenY : Int32) (post : Int32 → SY → Prop), post 0 (b_seenX, b_seenY, nm, a_kind, a_ref, b_value, b_left, b_right, rc, b_code, a_clausePred, a_itemCount) → wpY_cancel post (b_seenX, b_seenY, b_num, a_kind, a_ref, b_value, b_left, b_right, b_rec, b_code, a_clausePred, a_itemCount) (nI j)) := by
  obtain ⟨RN, RK, RH, RG, RS⟩ := R
  have h64 := RH.1.1.1
  have hlg : lg ≤ 16 := RN.2.2.1.2.2.2.1
  have hgl : nG ≤ lg := RN.2.2.1.2.2.1
  have n1 : b_num 1 = nI nG := RN.2.2.2.2.1.trans RN.1.2.1
  obtain ⟨s, hs, ho, hu, _⟩ := RG.1 j hj
  refine ⟨_, _, _, _, _, _, ⟨gh_RN_goals RN (by omega), RK, RH, gh_RG_remove RG hj hs ho ?_ ?_ ?_ ?_ ?_, gh_RS_sub (s := s) RS ?_ ?_ ?_⟩, ?_, fun B post h => gh_rmX RN.1.1 h64 RN.1.2.1 (by omega) hj ho h, fun sx sy post h => gh_caY (by omega) hj n1 h⟩
  · exact fun i hi => gh_clr (by omega) hi
  · exact fun i hi => gh_shf_lo hi
  · exact fun i h1 h2 => gh_shf_mi h1 h2
  · exact fun i hi => gh_shf_lo hi
  · exact fun i h1 h2 => gh_shf_mi h1 h2
  · exact fun i hi => gh_clr (by omega) hi
  · exact fun i hi => gh_clr (by omega) hi
  · exact fun v hv i hi => gh_uhf_b (by omega) hi hv
  · exact fun i hi => gh_shf_hi (by omega)
end
end
section
/-! the calls that only read -/
section
variable {f_cells f_goals f_usedSlots f_woken f_clauses f_writing f_openPairs : Int32} {f_blockedOn : Int64} {f_commits f_lastClause f_broken f_cellLimit f_goalLimit f_clauseLimit : Int32} {a_kind a_first a_second a_ref a_hooks a_order a_goalPred a_goalArg a_goalState a_clausePred a_itemCount a_makeCount a_spawnCount a_itemOp a_itemA a_itemB a_itemC a_names : Nat → Int32} {b_seenX b_seenY : Int32} {b_num b_value b_left b_right b_rec b_code : Nat → Int32}
variable {nC nG nK lc lg lk : Nat} {E : Nat → Nat}
theorem gh_count (R : gh_RR nC nG nK lc lg lk E f_cells f_goals f_usedSlots f_woken f_clauses f_writing f_openPairs f_blockedOn f_commits f_lastClause f_broken f_cellLimit f_goalLimit f_clauseLimit a_kind a_first a_second a_ref a_hooks a_order a_goalPred a_goalArg a_goalState a_clausePred a_itemCount a_makeCount a_spawnCount a_itemOp a_itemA a_itemB a_itemC a_names b_seenX b_seenY b_num b_value b_left b_right b_rec b_code) (v1 : Int32) : ∃ r, (∀ post : Int32 → Prop, post r → wpX_count post (f_cells, f_goals, f_usedSlots, f_woken, f_clauses, f_writing, f_openPairs, f_blockedOn, f_commits, f_lastClause, f_broken, f_cellLimit, f_goalLimit, f_clauseLimit, a_kind, a_first, a_second, a_ref, a_hooks, a_order, a_goalPred, a_goalArg, a_goalState, a_clausePred, a_itemCount, a_makeCount, a_spawnCount, a_itemOp, a_itemA, a_itemB, a_itemC, a_names) v1) ∧ (∀ post : Int32 → Prop, post r → wpY_count post (b_seenX, b_seenY, b_num, a_kind, a_ref, b_value, b_left, b_right, b_rec, b_code, a_clausePred, a_itemCount) v1) := by
  obtain ⟨⟨⟨a1, a2, a3, hw, hbk⟩, _, _, ⟨d0, d1, d2, d3, d4, d5, d6, d7, d8, d9⟩⟩, _⟩ := R
  rcases pk_ix v1 (n := 10) (by decide) with z | z | ⟨j, hj, rfl⟩
  · exact ⟨-1, fun post h => br_t z h, fun post h => br_t z h⟩
  · have z9 : 9 < v1 := Int32.lt_of_lt_of_le (show (9 : Int32) < nI 10 by decide) z
    have z0 : ¬ v1 < 0 := fun y => absurd (Int32.lt_trans z9 y) (by decide)
    exact ⟨-1, fun post h => br_f z0 (br_t z9 h), fun post h => br_f z0 (br_f (Int32.not_le.mpr z9) h)⟩
  have : j = 0 ∨ j = 1 ∨ j = 2 ∨ j = 3 ∨ j = 4 ∨ j = 5 ∨ j = 6 ∨ j = 7 ∨ j = 8 ∨ j = 9 := by omega
  rcases this with rfl | rfl | rfl | rfl | rfl | rfl | rfl | rfl | rfl | rfl
  · refine ⟨f_cells, fun post h => br_f (by decide) (br_f (by decide) (br_t rfl h)), fun post h => br_f (by decide) (br_t (by decide) (And.intro (vp_in_nI (n := 0) (by decide) (by decide)) ?_))⟩
    rw [show (nI 0).toNatClampNeg = 0 from rfl, d0]; exact h
  · refine ⟨f_goals, fun post h => br_f (by decide) (br_f (by decide) (br_f (by decide) (br_t rfl h))), fun post h => br_f (by decide) (br_t (by decide) (And.intro (vp_in_nI (n := 1) (by decide) (by decide)) ?_))⟩
    rw [show (nI 1).toNatClampNeg = 1 from rfl, d1]; exact h
  · refine ⟨f_clauses, fun post h => br_f (by decide) (br_f (by decide) (br_f (by decide) (br_f (by decide) (br_t rfl h)))), fun post h => br_f (by decide) (br_t (by decide) (And.intro (vp_in_nI (n := 2) (by decide) (by decide)) ?_))⟩
    rw [show (nI 2).toNatClampNeg = 2 from rfl, d2]; exact h
  · refine ⟨f_writing, fun post h => br_f (by decide) (br_f (by decide) (br_f (by decide) (br_f (by decide) (br_f (by decide) (br_t rfl ?_))))), fun post h => br_f (by decide) (br_t (by decide) (And.intro (vp_in_nI (n := 3) (by decide) (by decide)) ?_))⟩
    · rcases hw with e | e
      · rw [e] at h; exact br_t e h
      · rw [e] at h; exact br_f (by rw [e]; decide) h
    · rw [show (nI 3).toNatClampNeg = 3 from rfl, d3]; exact h
  · refine ⟨f_commits, fun post h => br_f (by decide) (br_f (by decide) (br_f (by decide) (br_f (by decide) (br_f (by decide) (br_f (by decide) (br_t rfl h)))))), fun post h => br_f (by decide) (br_t (by decide) (And.intro (vp_in_nI (n := 4) (by decide) (by decide)) ?_))⟩
    rw [show (nI 4).toNatClampNeg = 4 from rfl, d4]; exact h
  · refine ⟨f_lastClause, fun post h => br_f (by decide) (br_f (by decide) (br_f (by decide) (br_f (by decide) (br_f (by decide) (br_f (by decide) (br_f (by decide) (br_t rfl h))))))), fun post h => br_f (by decide) (br_t (by decide) (And.intro (vp_in_nI (n := 5) (by decide) (by decide)) ?_))⟩
    rw [show (nI 5).toNatClampNeg = 5 from rfl, d5]; exact h
  · refine ⟨f_broken, fun post h => br_f (by decide) (br_f (by decide) (br_f (by decide) (br_f (by decide) (br_f (by decide) (br_f (by decide) (br_f (by decide) (br_f (by decide) (br_t rfl ?_)))))))), fun post h => br_f (by decide) (br_t (by decide) (And.intro (vp_in_nI (n := 6) (by decide) (by decide)) ?_))⟩
    · rcases hbk with e | e
      · rw [e] at h; exact br_t e h
      · rw [e] at h; exact br_f (by rw [e]; decide) h
    · rw [show (nI 6).toNatClampNeg = 6 from rfl, d6]; exact h
  · refine ⟨f_cellLimit, fun post h => br_f (by decide) (br_f (by decide) (br_f (by decide) (br_f (by decide) (br_f (by decide) (br_f (by decide) (br_f (by decide) (br_f (by decide) (br_f (by decide) (br_t rfl h))))))))), fun post h => br_f (by decide) (br_t (by decide) (And.intro (vp_in_nI (n := 7) (by decide) (by decide)) ?_))⟩
    rw [show (nI 7).toNatClampNeg = 7 from rfl, d7]; exact h
  · refine ⟨f_goalLimit, fun post h => br_f (by decide) (br_f (by decide) (br_f (by decide) (br_f (by decide) (br_f (by decide) (br_f (by decide) (br_f (by decide) (br_f (by decide) (br_f (by decide) (br_f (by decide) (br_t rfl h)))))))))), fun post h => br_f (by decide) (br_t (by decide) (And.intro (vp_in_nI (n := 8) (by decide) (by decide)) ?_))⟩
    rw [show (nI 8).toNatClampNeg = 8 from rfl, d8]; exact h
  · refine ⟨f_clauseLimit, fun post h => br_f (by decide) (br_f (by decide) (br_f (by decide) (br_f (by decide) (br_f (by decide) (br_f (by decide) (br_f (by decide) (br_f (by decide) (br_f (by decide) (br_f (by decide) (br_f (by decide) (br_t rfl h))))))))))), fun post h => br_f (by decide) (br_t (by decide) (And.intro (vp_in_nI (n := 9) (by decide) (by decide)) ?_))⟩
    rw [show (nI 9).toNatClampNeg = 9 from rfl, d9]; exact h
theorem gh_look (R : gh_RR nC nG nK lc lg lk E f_cells f_goals f_usedSlots f_woken f_clauses f_writing f_openPairs f_blockedOn f_commits f_lastClause f_broken f_cellLimit f_goalLimit f_clauseLimit a_kind a_first a_second a_ref a_hooks a_order a_goalPred a_goalArg a_goalState a_clausePred a_itemCount a_makeCount a_spawnCount a_itemOp a_itemA a_itemB a_itemC a_names b_seenX b_seenY b_num b_value b_left b_right b_rec b_code) (v1 v2 : Int32) : ∃ r, (∀ post : Int32 → Prop, post r → wpX_look post (f_cells, f_goals, f_usedSlots, f_woken, f_clauses, f_writing, f_openPairs, f_blockedOn, f_commits, f_lastClause, f_broken, f_cellLimit, f_goalLimit, f_clauseLimit, a_kind, a_first, a_second, a_ref, a_hooks, a_order, a_goalPred, a_goalArg, a_goalState, a_clausePred, a_itemCount, a_makeCount, a_spawnCount, a_itemOp, a_itemA, a_itemB, a_itemC, a_names) v1 v2) ∧ (∀ post : Int32 → Prop, post r → wpY_look post (b_seenX, b_seenY, b_num, a_kind, a_ref, b_value, b_left, b_right, b_rec, b_code, a_clausePred, a_itemCount) v1 v2) := by
  obtain ⟨RN, RK, RH, RG, RS⟩ := R
  have H := RH.1.1
  have h64 := H.1
  have n0 : b_num 0 = nI nC := RN.2.2.2.1.trans RN.1.1
  by_cases hc : vp_in v1 nC
  · rcases pk_ix v2 (n := 5) (by decide) with z | z | ⟨j, hj, rfl⟩
    · refine ⟨-1, fun post h => ?_, fun post h => ?_⟩
      · unfold wpX_look
        dsimp only
        exact gh_icX RN.1.1 h64 (fun _ => br_f (by decide) (br_t z h)) (fun y => absurd hc y)
      · unfold wpY_look
        dsimp only
        exact gh_icY n0 h64 (fun _ => br_f (by decide) (br_t z h)) (fun y => absurd hc y)
    · have z9 : 4 < v2 := Int32.lt_of_lt_of_le (show (4 : Int32) < nI 5 by decide) z
      have z0 : ¬ v2 < 0 := fun y => absurd (Int32.lt_trans z9 y) (by decide)
      refine ⟨-1, fun post h => ?_, fun post h => ?_⟩
      · unfold wpX_look
        dsimp only
        exact gh_icX RN.1.1 h64 (fun _ => br_f (by decide) (br_f z0 (br_f (Int32.not_le.mpr z9) h))) (fun y => absurd hc y)
      · unfold wpY_look
        dsimp only
        exact gh_icY n0 h64 (fun _ => br_f (by decide) (br_f z0 (br_f (Int32.not_le.mpr z9) h))) (fun y => absurd hc y)
    · have pn : E v1.toNatClampNeg < nC := gh_Ht_e H (gh_vn hc)
      have toX : ∀ (post : Int32 → Prop) (p : Nat), E v1.toNatClampNeg = p → ((nI j = 0 → post (nI p)) ∧ (¬ nI j = 0 → ((nI j = 1 → (vp_in (nI p) 64 ∧ post (a_kind p))) ∧ (¬ nI j = 1 → ((nI j = 2 → (vp_in (nI p) 64 ∧ ((a_kind p = 1 → (vp_in (nI p) 64 ∧ post (a_first p))) ∧ (¬ a_kind p = 1 → post 0)))) ∧ (¬ nI j = 2 → (vp_in (nI p) 64 ∧ ((a_kind p = 2 → ((nI j = 3 → (vp_in (nI p) 64 ∧ wX_look_101 post (a_first p) f_cells f_goals f_usedSlots f_woken f_clauses f_writing f_openPairs f_blockedOn f_commits f_lastClause f_broken f_cellLimit f_goalLimit f_clauseLimit a_kind a_first a_second a_ref a_hooks a_order a_goalPred a_goalArg a_goalState a_clausePred a_itemCount a_makeCount a_spawnCount a_itemOp a_itemA a_itemB a_itemC a_names)) ∧ (¬ nI j = 3 → (vp_in (nI p) 64 ∧ wX_look_101 post (a_second p) f_cells f_goals f_usedSlots f_woken f_clauses f_writing f_openPairs f_blockedOn f_commits f_lastClause f_broken f_cellLimit f_goalLimit f_clauseLimit a_kind a_first a_second a_ref a_hooks a_order a_goalPred a_goalArg a_goalState a_clausePred a_itemCount a_makeCount a_spawnCount a_itemOp a_itemA a_itemB a_itemC a_names)))) ∧ (¬ a_kind p = 2 → post (-1)))))))))) → wpX_look post (f_cells, f_goals, f_usedSlots, f_woken, f_clauses, f_writing, f_openPairs, f_blockedOn, f_commits, f_lastClause, f_broken, f_cellLimit, f_goalLimit, f_clauseLimit, a_kind, a_first, a_second, a_ref, a_hooks, a_order, a_goalPred, a_goalArg, a_goalState, a_clausePred, a_itemCount, a_makeCount, a_spawnCount, a_itemOp, a_itemA, a_itemB, a_itemC, a_names) v1 (nI j) := by
        intro post p ep h
        unfold wpX_look
        dsimp only
        refine gh_icX RN.1.1 h64 (fun _ => br_f (by decide) (br_f (nI_pos (by omega)) (br_t (nI_le (b := 4) (by omega) (by decide)) ?_))) (fun y => absurd hc y)
        refine gh_fX H hc ?_
        rw [ep, nI_clamp (n := p) (by omega)]
        exact h
      have toY : ∀ (post : Int32 → Prop) (p : Nat), E v1.toNatClampNeg = p → ((2 < nI j → (vp_in (nI p) 64 ∧ ((a_kind p = 2 → ((nI j = 3 → (vp_in (nI p) 64 ∧ wY_look_94 post (b_left p) b_seenX b_seenY b_num a_kind a_ref b_value b_left b_right b_rec b_code a_clausePred a_itemCount)) ∧ (¬ nI j = 3 → (vp_in (nI p) 64 ∧ wY_look_94 post (b_right p) b_seenX b_seenY b_num a_kind a_ref b_value b_left b_right b_rec b_code a_clausePred a_itemCount)))) ∧ (¬ a_kind p = 2 → post (-1))))) ∧ (¬ 2 < nI j → ((nI j = 0 → post (nI p)) ∧ (¬ nI j = 0 → ((nI j = 1 → (vp_in (nI p) 64 ∧ post (a_kind p))) ∧ (¬ nI j = 1 → (vp_in (nI p) 64 ∧ post (b_value p)))))))) → wpY_look post (b_seenX, b_seenY, b_num, a_kind, a_ref, b_value, b_left, b_right, b_rec, b_code, a_clausePred, a_itemCount) v1 (nI j) := by
        intro post p ep h
        unfold wpY_look
        dsimp only
        refine gh_icY n0 h64 (fun _ => br_f (by decide) (br_f (nI_pos (by omega)) (br_t (nI_le (b := 4) (by omega) (by decide)) ?_))) (fun y => absurd hc y)
        refine gh_fY H hc ?_
        rw [ep, nI_clamp (n := p) (by omega)]
        exact h
      generalize hp : E v1.toNatClampNeg = p at pn toX toY
      have vp : vp_in (nI p) 64 := vp_in_nI (by omega) (by omega)
      have : j = 0 ∨ j = 1 ∨ j = 2 ∨ j = 3 ∨ j = 4 := by omega
      rcases this with rfl | rfl | rfl | rfl | rfl
      · exact ⟨nI p, fun post h => toX post p rfl (br_t rfl h), fun post h => toY post p rfl (br_f (by decide) (br_t rfl h))⟩
      · exact ⟨a_kind p, fun post h => toX post p rfl (br_f (by decide) (br_t rfl (And.intro vp h))), fun post h => toY post p rfl (br_f (by decide) (br_f (by decide) (br_t rfl (And.intro vp h))))⟩
      · obtain ⟨V1, V2⟩ := RH.2.2 p pn
        refine ⟨b_value p, fun post h => toX post p rfl (br_f (by decide) (br_f (by decide) (br_t rfl (And.intro vp ?_)))), fun post h => toY post p rfl (br_f (by decide) (br_f (by decide) (br_f (by decide) (And.intro vp h))))⟩
        refine br_c (fun k1 => And.intro vp ?_) (fun k1 => ?_)
        · rw [← V1 k1]; exact h
        · rw [V2 k1] at h; exact h
      · by_cases k2 : a_kind p = 2
        · obtain ⟨x1, x2⟩ := RH.1.2 p pn k2
          obtain ⟨y1, y2, e1, e2⟩ := RH.2.1 p pn k2
          refine ⟨nI (E (a_first p).toNatClampNeg), fun post h => toX post p rfl (br_f (by decide) (br_f (by decide) (br_f (by decide) (And.intro vp (br_t k2 (br_t rfl (And.intro vp ?_))))))), fun post h => toY post p rfl (br_t (by decide) (And.intro vp (br_t k2 (br_t rfl (And.intro vp ?_)))))⟩
          · exact gh_fX H x1 h
          · rw [← e1] at h; exact gh_fY H y1 h
        · exact ⟨-1, fun post h => toX post p rfl (br_f (by decide) (br_f (by decide) (br_f (by decide) (And.intro vp (br_f k2 h))))), fun post h => toY post p rfl (br_t (by decide) (And.intro vp (br_f k2 h)))⟩
      · by_cases k2 : a_kind p = 2
        · obtain ⟨x1, x2⟩ := RH.1.2 p pn k2
          obtain ⟨y1, y2, e1, e2⟩ := RH.2.1 p pn k2
          refine ⟨nI (E (a_second p).toNatClampNeg), fun post h => toX post p rfl (br_f (by decide) (br_f (by decide) (br_f (by decide) (And.intro vp (br_t k2 (br_f (by decide) (And.intro vp ?_))))))), fun post h => toY post p rfl (br_t (by decide) (And.intro vp (br_t k2 (br_f (by decide) (And.intro vp ?_)))))⟩
          · exact gh_fX H x2 h
          · rw [← e2] at h; exact gh_fY H y2 h
        · exact ⟨-1, fun post h => toX post p rfl (br_f (by decide) (br_f (by decide) (br_f (by decide) (And.intro vp (br_f k2 h))))), fun post h => toY post p rfl (br_t (by decide) (And.intro vp (br_f k2 h)))⟩
  · refine ⟨-1, fun post h => ?_, fun post h => ?_⟩
    · unfold wpX_look
      dsimp only
      exact gh_icX RN.1.1 h64 (fun y => absurd y hc) (fun _ => br_t rfl h)
    · unfold wpY_look
      dsimp only
      exact gh_icY n0 h64 (fun y => absurd y hc) (fun _ => br_t rfl h)
/-! part -/
theorem gh_part (R : gh_RR nC nG nK lc lg lk E f_cells f_goals f_usedSlots f_woken f_clauses f_writing f_openPairs f_blockedOn f_commits f_lastClause f_broken f_cellLimit f_goalLimit f_clauseLimit a_kind a_first a_second a_ref a_hooks a_order a_goalPred a_goalArg a_goalState a_clausePred a_itemCount a_makeCount a_spawnCount a_itemOp a_itemA a_itemB a_itemC a_names b_seenX b_seenY b_num b_value b_left b_right b_rec b_code) (v1 v2 v3 : Int32) : ∃ r, (∀ post : Int32 → Prop, post r → wpX_part post (f_cells, f_goals, f_usedSlots, f_woken, f_clauses, f_writing, f_openPairs, f_blockedOn, f_commits, f_lastClause, f_broken, f_cellLimit, f_goalLimit, f_clauseLimit, a_kind, a_first, a_second, a_ref, a_hooks, a_order, a_goalPred, a_goalArg, a_goalState, a_clausePred, a_itemCount, a_makeCount, a_spawnCount, a_itemOp, a_itemA, a_itemB, a_itemC, a_names) v1 v2 v3) ∧ (∀ post : Int32 → Prop, post r → wpY_part post (b_seenX, b_seenY, b_num, a_kind, a_ref, b_value, b_left, b_right, b_rec, b_code, a_clausePred, a_itemCount) v1 v2 v3) := by
  obtain ⟨RN, RK, RH, RG, RS⟩ := R
  have n2 : b_num 2 = nI nK := RN.2.2.2.2.2.1.trans RN.1.2.2.1
  have n3 : b_num 3 = f_writing := RN.2.2.2.2.2.2.1
  have hk : nK ≤ 16 := by
    have h1 := RN.2.2.1.2.2.2.2.1
    have h2 := RN.2.2.1.2.2.2.2.2.1
    omega
  obtain ⟨N, hN, eY, toX, C⟩ : ∃ N, N ≤ 17 ∧ b_num 2 + b_num 3 = nI N ∧ (∀ post : Int32 → Prop, wX_part_20 post v1 v2 v3 (nI N) f_cells f_goals f_usedSlots f_woken f_clauses f_writing f_openPairs f_blockedOn f_commits f_lastClause f_broken f_cellLimit f_goalLimit f_clauseLimit a_kind a_first a_second a_ref a_hooks a_order a_goalPred a_goalArg a_goalState a_clausePred a_itemCount a_makeCount a_spawnCount a_itemOp a_itemA a_itemB a_itemC a_names → wpX_part post (f_cells, f_goals, f_usedSlots, f_woken, f_clauses, f_writing, f_openPairs, f_blockedOn, f_commits, f_lastClause, f_broken, f_cellLimit, f_goalLimit, f_clauseLimit, a_kind, a_first, a_second, a_ref, a_hooks, a_order, a_goalPred, a_goalArg, a_goalState, a_clausePred, a_itemCount, a_makeCount, a_spawnCount, a_itemOp, a_itemA, a_itemB, a_itemC, a_names) v1 v2 v3) ∧ (∀ c, c < N → gh_C1 a_itemOp a_itemA a_itemB a_itemC a_itemCount a_makeCount a_spawnCount c) := by
    rcases RN.1.2.2.2.1 with e | e
    · refine ⟨nK, by omega, by rw [n2, n3, e]; exact nI_add nK 0, fun post h => br_t e ?_, RK.1⟩
      rw [RN.1.2.2.1]
      exact h
    · refine ⟨nK + 1, by omega, by rw [n2, n3, e]; exact nI_1 nK, fun post h => br_f (by rw [e]; decide) ?_, fun c hc => ?_⟩
      · rw [RN.1.2.2.1, nI_1]
        exact h
      · by_cases z : c = nK
        · rw [z]; exact (RK.2.1 e).1
        · exact RK.1 c (by omega)
  have toY : ∀ post : Int32 → Prop, ((v1 < 0 → post (-1)) ∧ (¬ v1 < 0 → ((nI N ≤ v1 → post (-1)) ∧ (¬ nI N ≤ v1 → ((v3 < 0 → post (-1)) ∧ (¬ v3 < 0 → ((v3 ≤ 5 → ((v3 < 4 → ((v2 < 0 → post (-1)) ∧ (¬ v2 < 0 → (vp_in v1 16 ∧ ((v2 < a_itemCount v1.toNatClampNeg → (vp_in ((((v1 * 8) + v2) * 4) + v3) 512 ∧ post (b_code ((((v1 * 8) + v2) * 4) + v3).toNatClampNeg))) ∧ (¬ v2 < a_itemCount v1.toNatClampNeg → post (-1))))))) ∧ (¬ v3 < 4 → ((v3 = 4 → (vp_in v1 16 ∧ post (a_clausePred v1.toNatClampNeg))) ∧ (¬ v3 = 4 → (vp_in v1 16 ∧ post (a_itemCount v1.toNatClampNeg))))))) ∧ (¬ v3 ≤ 5 → post (-1))))))))) → wpY_part post (b_seenX, b_seenY, b_num, a_kind, a_ref, b_value, b_left, b_right, b_rec, b_code, a_clausePred, a_itemCount) v1 v2 v3 := by
    intro post h
    unfold wpY_part
    dsimp only
    rw [eY]
    exact h
  rcases pk_ix v1 (n := N) (by omega) with z | z | ⟨c, hc, rfl⟩
  · exact ⟨-1, fun post h => toX post (br_t z h), fun post h => toY post (br_t z h)⟩
  · have z0 : ¬ v1 < 0 := fun y => nI_pos (n := N) (by omega) (Int32.lt_of_le_of_lt z y)
    exact ⟨-1, fun post h => toX post (br_f z0 (br_t z h)), fun post h => toY post (br_f z0 (br_t z h))⟩
  · obtain ⟨c16, m, hm, em, W, _⟩ := C c hc
    have c0 : ¬ nI c < 0 := nI_pos (by omega)
    have cN : ¬ nI N ≤ nI c := nI_ge hc (by omega)
    have vc : vp_in (nI c) 16 := vp_in_nI c16 (by omega)
    have cc : (nI c).toNatClampNeg = c := nI_clamp (by omega)
    rw [cc] at toY
    rcases pk_ix v3 (n := 6) (by decide) with z | z | ⟨f, hf, rfl⟩
    · exact ⟨-1, fun post h => toX post (br_f c0 (br_f cN (br_t z h))), fun post h => toY post (br_f c0 (br_f cN (br_t z h)))⟩
    · have z9 : 5 < v3 := Int32.lt_of_lt_of_le (show (5 : Int32) < nI 6 by decide) z
      have z0 : ¬ v3 < 0 := fun y => absurd (Int32.lt_trans z9 y) (by decide)
      exact ⟨-1, fun post h => toX post (br_f c0 (br_f cN (br_f z0 (br_f (Int32.not_le.mpr z9) h)))), fun post h => toY post (br_f c0 (br_f cN (br_f z0 (br_f (Int32.not_le.mpr z9) h))))⟩
    · have f0 : ¬ nI f < 0 := nI_pos (by omega)
      have f5 : nI f ≤ 5 := nI_le (b := 5) (by omega) (by decide)
      by_cases e4 : f = 4
      · subst e4
        refine ⟨a_clausePred c, fun post h => toX post (br_f c0 (br_f cN (br_f f0 (br_t f5 (br_t rfl (And.intro vc ?_)))))), fun post h => toY post (br_f c0 (br_f cN (br_f f0 (br_t f5 (br_f (by decide) (br_t rfl (And.intro vc h)))))))⟩
        rw [cc]; exact h
      · by_cases e5 : f = 5
        · subst e5
          refine ⟨a_itemCount c, fun post h => toX post (br_f c0 (br_f cN (br_f f0 (br_t f5 (br_f (by decide) (br_t rfl (And.intro vc ?_))))))), fun post h => toY post (br_f c0 (br_f cN (br_f f0 (br_t f5 (br_f (by decide) (br_f (by decide) (And.intro vc h)))))))⟩
          rw [cc]; exact h
        · have ne4 : ¬ nI f = 4 := gh_op (k := 4) (by omega) (by omega) e4
          have ne5 : ¬ nI f = 5 := gh_op (k := 5) (by omega) (by omega) e5
          have l4 : nI f < 4 := nI_lt (b := 4) (by omega) (by decide)
          rw [em] at toY
          rcases pk_ix v2 (n := m) (by omega) with z | z | ⟨i, hi, rfl⟩
          · exact ⟨-1, fun post h => toX post (br_f c0 (br_f cN (br_f f0 (br_t f5 (br_f ne4 (br_f ne5 (br_t z h))))))), fun post h => toY post (br_f c0 (br_f cN (br_f f0 (br_t f5 (br_t l4 (br_t z h))))))⟩
          · have z0 : ¬ v2 < 0 := fun y => nI_pos (n := m) (by omega) (Int32.lt_of_le_of_lt z y)
            refine ⟨-1, fun post h => toX post (br_f c0 (br_f cN (br_f f0 (br_t f5 (br_f ne4 (br_f ne5 (br_f z0 (And.intro vc ?_)))))))), fun post h => toY post (br_f c0 (br_f cN (br_f f0 (br_t f5 (br_t l4 (br_f z0 (And.intro vc (br_f (Int32.not_lt.mpr z) h))))))))⟩
            rw [cc, em]
            exact br_f (Int32.not_lt.mpr z) h
          · have i0 : ¬ nI i < 0 := nI_pos (by omega)
            have im : nI i < nI m := nI_lt hi (by omega)
            have e8 : nI c * 8 + nI i = nI (c * 8 + i) := gh_ix8 c i
            have e32 : (nI c * 8 + nI i) * 4 + nI f = nI ((c * 8 + i) * 4 + f) := by
              rw [e8, show nI (c * 8 + i) * 4 = nI ((c * 8 + i) * 4) from pk_mul _ 4, nI_add]
            have v8 : vp_in (nI (c * 8 + i)) 128 := vp_in_nI (by omega) (by omega)
            have c8 : (nI (c * 8 + i)).toNatClampNeg = c * 8 + i := nI_clamp (by omega)
            have YY : ∀ (r : Int32) (post : Int32 → Prop), b_code ((c * 8 + i) * 4 + f) = r → post r → wpY_part post (b_seenX, b_seenY, b_num, a_kind, a_ref, b_value, b_left, b_right, b_rec, b_code, a_clausePred, a_itemCount) (nI c) (nI i) (nI f) := by
              intro r post er h
              refine toY post (br_f c0 (br_f cN (br_f f0 (br_t f5 (br_t l4 (br_f i0 (And.intro vc (br_t im ?_))))))))
              rw [e32, nI_clamp (by omega), er]
              exact And.intro (vp_in_nI (by omega) (by omega)) h
            have XX : ∀ (post : Int32 → Prop), ((nI f = 0 → (vp_in (nI (c * 8 + i)) 128 ∧ post (a_itemOp (c * 8 + i)))) ∧ (¬ nI f = 0 → ((nI f = 1 → (vp_in (nI (c * 8 + i)) 128 ∧ post (a_itemA (c * 8 + i)))) ∧ (¬ nI f = 1 → ((nI f = 2 → (vp_in (nI (c * 8 + i)) 128 ∧ post (a_itemB (c * 8 + i)))) ∧ (¬ nI f = 2 → (vp_in (nI (c * 8 + i)) 128 ∧ post (a_itemC (c * 8 + i))))))))) → wpX_part post (f_cells, f_goals, f_usedSlots, f_woken, f_clauses, f_writing, f_openPairs, f_blockedOn, f_commits, f_lastClause, f_broken, f_cellLimit, f_goalLimit, f_clauseLimit, a_kind, a_first, a_second, a_ref, a_hooks, a_order, a_goalPred, a_goalArg, a_goalState, a_clausePred, a_itemCount, a_makeCount, a_spawnCount, a_itemOp, a_itemA, a_itemB, a_itemC, a_names) (nI c) (nI i) (nI f) := by
              intro post h
              refine toX post (br_f c0 (br_f cN (br_f f0 (br_t f5 (br_f ne4 (br_f ne5 (br_f i0 (And.intro vc ?_))))))))
              rw [cc, em]
              refine br_t im (nm_r e8 ?_)
              rw [c8]
              exact h
            obtain ⟨q0, q1, q2, q3⟩ := RK.2.2 (c * 8 + i) (by omega)
            have : f = 0 ∨ f = 1 ∨ f = 2 ∨ f = 3 := by omega
            rcases this with rfl | rfl | rfl | rfl
            · exact ⟨_, fun post h => XX post (br_t rfl (And.intro v8 h)), fun post h => YY _ post q0 h⟩
            · exact ⟨_, fun post h => XX post (br_f (by decide) (br_t rfl (And.intro v8 h))), fun post h => YY _ post q1 h⟩
            · exact ⟨_, fun post h => XX post (br_f (by decide) (br_f (by decide) (br_t rfl (And.intro v8 h)))), fun post h => YY _ post q2 h⟩
            · exact ⟨_, fun post h => XX post (br_f (by decide) (br_f (by decide) (br_f (by decide) (And.intro v8 h)))), fun post h => YY _ post q3 h⟩
end
theorem i_vc_part {k : Nat} {u : SX} {v : SY} (I : i_Rel k u v) (hk : k + 5 ≤ 2563) (v1 : Int32) (v2 : Int32) (v3 : Int32) : wpX_part (fun r => wpY_part (fun r' => r' = r ∧ i_Rel (k + 5) u v) v v1 v2 v3) u v1 v2 v3 := by
  refine gh_el (P := fun u v => wpX_part (fun r => wpY_part (fun r' => r' = r ∧ i_Rel (k + 5) u v) v v1 v2 v3) u v1 v2 v3) ?_ I
  intros
  rename_i R
  obtain ⟨r, hX, hY⟩ := gh_part R v1 v2 v3
  exact hX _ (hY _ ⟨rfl, gh_in R⟩)
theorem i_vc_look {k : Nat} {u : SX} {v : SY} (I : i_Rel k u v) (hk : k + 5 ≤ 2563) (v1 : Int32) (v2 : Int32) : wpX_look (fun r => wpY_look (fun r' => r' = r ∧ i_Rel (k + 5) u v) v v1 v2) u v1 v2 := by
  refine gh_el (P := fun u v => wpX_look (fun r => wpY_look (fun r' => r' = r ∧ i_Rel (k + 5) u v) v v1 v2) u v1 v2) ?_ I
  intros
  rename_i R
  obtain ⟨r, hX, hY⟩ := gh_look R v1 v2
  exact hX _ (hY _ ⟨rfl, gh_in R⟩)
theorem i_vc_count {k : Nat} {u : SX} {v : SY} (I : i_Rel k u v) (hk : k + 5 ≤ 2563) (v1 : Int32) : wpX_count (fun r => wpY_count (fun r' => r' = r ∧ i_Rel (k + 5) u v) v v1) u v1 := by
  refine gh_el (P := fun u v => wpX_count (fun r => wpY_count (fun r' => r' = r ∧ i_Rel (k + 5) u v) v v1) u v1) ?_ I
  intros
  rename_i R
  obtain ⟨r, hX, hY⟩ := gh_count R v1
  exact hX _ (hY _ ⟨rfl, gh_in R⟩)
end
section
/-! the constructors; begin, end, term, post, cancel, tell -/
def gh_cl (lo hi x : Int32) : Int32 := if lo ≤ x then (if x ≤ hi then x else hi) else lo
theorem gh_clP {lo hi x : Int32} {P : Int32 → Prop} (h : P (gh_cl lo hi x)) : (lo ≤ x → ((x ≤ hi → P x) ∧ (¬ x ≤ hi → P hi))) ∧ (¬ lo ≤ x → P lo) := by
  unfold gh_cl at h
  refine br_c (fun z => br_c (fun y => ?_) (fun y => ?_)) (fun z => ?_)
  · rw [if_pos z, if_pos y] at h; exact h
  · rw [if_pos z, if_neg y] at h; exact h
  · rw [if_neg z] at h; exact h
theorem gh_cl_n {a b : Nat} (hab : a ≤ b) (hb : b < 2 ^ 31) (x : Int32) : ∃ n, a ≤ n ∧ n ≤ b ∧ gh_cl (nI a) (nI b) x = nI n := by
  unfold gh_cl
  by_cases z : nI a ≤ x
  · rw [if_pos z]
    by_cases y : x ≤ nI b
    · rw [if_pos y]
      have x0 : ¬ x < 0 := fun w => nI_pos (n := a) (by omega) (Int32.lt_of_le_of_lt z w)
      obtain ⟨n, hn, rfl⟩ := nI_of x0
      exact ⟨n, (nI_leI (by omega) hn).mp z, (nI_leI hn hb).mp y, rfl⟩
    · rw [if_neg y]; exact ⟨b, hab, Nat.le_refl _, rfl⟩
  · rw [if_neg z]; exact ⟨a, Nat.le_refl _, hab, rfl⟩
theorem gh_ctX {post : Int32 → Prop} {u : SX} {x lo hi : Int32} (h : post (gh_cl lo hi x)) : wpX_clamp post u x lo hi := by
  obtain ⟨f_cells, f_goals, f_usedSlots, f_woken, f_clauses, f_writing, f_openPairs, f_blockedOn, f_commits, f_lastClause, f_broken, f_cellLimit, f_goalLimit, f_clauseLimit, a_kind, a_first, a_second, a_ref, a_hooks, a_order, a_goalPred, a_goalArg, a_goalState, a_clausePred, a_itemCount, a_makeCount, a_spawnCount, a_itemOp, a_itemA, a_itemB, a_itemC, a_names⟩ := u
  exact gh_clP h
theorem gh_ctY {post : SY → Prop} {x y z : Int32} (h : post (0, 0, upd (upd (upd (upd (fun _ => 0) 7 (gh_cl 8 64 x)) 8 (gh_cl 2 16 y)) 9 (gh_cl 1 16 z)) 5 (-1), (fun _ => 0), (fun _ => 0), (fun _ => 0), (fun _ => 0), (fun _ => 0), (fun _ => 0), (fun _ => 0), (fun _ => 0), (fun _ => 0))) : wpY_init post x y z := by
  refine gh_clP (lo := 8) (hi := 64) (P := fun w => wY_init_114 post y z w 7 0 0 (fun _ => 0) (fun _ => 0) (fun _ => 0) (fun _ => 0) (fun _ => 0) (fun _ => 0) (fun _ => 0) (fun _ => 0) (fun _ => 0) (fun _ => 0)) ?_
  refine And.intro (vp_in_nI (n := 7) (by decide) (by decide)) (nm_e ?_)
  refine gh_clP (lo := 2) (hi := 16) (P := fun w => wY_init_142 post z w 8 0 0 (upd (fun _ => 0) 7 (gh_cl 8 64 x)) (fun _ => 0) (fun _ => 0) (fun _ => 0) (fun _ => 0) (fun _ => 0) (fun _ => 0) (fun _ => 0) (fun _ => 0) (fun _ => 0)) ?_
  refine And.intro (vp_in_nI (n := 8) (by decide) (by decide)) (nm_e ?_)
  unfold gh_cl at h
  refine br_c (fun a => br_c (fun b => nm_e (nm_e ?_)) (fun b => nm_e (nm_e ?_))) (fun a => nm_e (nm_e ?_))
  · rw [if_pos a, if_pos b] at h; exact h
  · rw [if_pos a, if_neg b] at h; exact h
  · rw [if_neg a (c := 1 ≤ z)] at h; exact h
theorem i_vc0 (k0 : Int32) (k1 : Int32) (k2 : Int32) : wpX_init (fun u => wpY_init (fun v => i_Rel 3 u v) k0 k1 k2) k0 k1 k2 := by
  unfold wpX_init
  refine gh_ctX (gh_ctX (gh_ctX (gh_ctY ?_)))
  obtain ⟨lc, c1, c2, ec⟩ := gh_cl_n (a := 8) (b := 64) (by decide) (by decide) k0
  obtain ⟨lg, g1, g2, eg⟩ := gh_cl_n (a := 2) (b := 16) (by decide) (by decide) k1
  obtain ⟨lk, l1, l2, el⟩ := gh_cl_n (a := 1) (b := 16) (by decide) (by decide) k2
  refine gh_in (nC := 0) (nG := 0) (nK := 0) (lc := lc) (lg := lg) (lk := lk) (E := fun i => i) ⟨⟨⟨rfl, rfl, rfl, Or.inl rfl, Or.inl rfl⟩, ⟨ec, eg, el⟩, ⟨by omega, by omega, by omega, by omega, by omega, by omega, fun z => absurd z (by decide)⟩, ⟨rfl, rfl, rfl, rfl, rfl, rfl, rfl, rfl, rfl, rfl⟩⟩, ⟨fun c hc => absurd hc (Nat.not_lt_zero _), fun z => absurd z (by decide), fun q hq => ⟨rfl, rfl, rfl, rfl⟩⟩, ⟨⟨⟨by omega, fun i hi => absurd hi (Nat.not_lt_zero _)⟩, fun i hi => absurd hi (Nat.not_lt_zero _)⟩, fun i hi => absurd hi (Nat.not_lt_zero _), fun i hi => absurd hi (Nat.not_lt_zero _)⟩, ⟨fun q hq => absurd hq (Nat.not_lt_zero _), fun q q' hq => absurd hq (Nat.not_lt_zero _), fun s hs hu => absurd hu gh_0T⟩, fun s hs hu => absurd hu gh_0T⟩
/-! clauses that are being written don't matter to the goals -/
theorem gh_RS_cl {nC nK : Nat} {E : Nat → Nat} {us wk : Int32} {gst hk kd fs sc ga gp io ia ib ic cp io' ia' ib' ic' cp' : Nat → Int32} (R : gh_RS nC nK E us wk gst hk kd fs sc ga gp io ia ib ic cp) (hm : ∀ c, c < nK → (ic c).toNatClampNeg ≤ 8) (hc : ∀ c, c < nK → cp' c = cp c ∧ ic' c = ic c) (hi : ∀ q, q < nK * 8 → io' q = io q ∧ ia' q = ia q ∧ ib' q = ib q) : gh_RS nC nK E us wk gst hk kd fs sc ga gp io' ia' ib' ic' cp' := by
  intro s hs hu hw
  obtain ⟨e1, e2⟩ := R s hs hu hw
  have it : ∀ c, c < nK → ∀ i, i < (ic c).toNatClampNeg → io' (c * 8 + i) = io (c * 8 + i) ∧ ia' (c * 8 + i) = ia (c * 8 + i) ∧ ib' (c * 8 + i) = ib (c * 8 + i) := fun c hcn i hi2 => hi _ (by have := hm c hcn; omega)
  have ecv : ∀ c, c < nK → gh_cv kd fs (gh_H kd fs sc E ga s) io' ia' ib' ic' c = gh_cv kd fs (gh_H kd fs sc E ga s) io ia ib ic c := fun c hcn => by
    unfold gh_cv
    rw [(hc c hcn).2]
    exact gh_jv_cg (fun i hi2 => by rw [(it c hcn i hi2).1, (it c hcn i hi2).2.1, (it c hcn i hi2).2.2])
  have egs : gh_gs kd fs (gh_H kd fs sc E ga s) io' ia' ib' ic' cp' (gp s) nK = gh_gs kd fs (gh_H kd fs sc E ga s) io ia ib ic cp (gp s) nK := gh_gs_cg (fun c hcn => ⟨(hc c hcn).1, fun _ => ecv c hcn⟩)
  have ewt : ∀ v, gh_wt kd fs (gh_H kd fs sc E ga s) io' ia' ib' ic' cp' (gp s) nK v ↔ gh_wt kd fs (gh_H kd fs sc E ga s) io ia ib ic cp (gp s) nK v := by
    intro v
    constructor
    · rintro ⟨c, c1, c2, c3, i, i1, i2⟩
      rw [(hc c c1).2] at i1
      rw [ecv c c1] at c3
      rw [(hc c c1).1] at c2
      rw [(it c c1 i i1).1, (it c c1 i i1).2.1, (it c c1 i i1).2.2] at i2
      exact ⟨c, c1, c2, c3, i, i1, i2⟩
    · rintro ⟨c, c1, c2, c3, i, i1, i2⟩
      refine ⟨c, c1, ?_, ?_, i, ?_, ?_⟩
      · rw [(hc c c1).1]; exact c2
      · rw [ecv c c1]; exact c3
      · rw [(hc c c1).2]; exact i1
      · rw [(it c c1 i i1).1, (it c c1 i i1).2.1, (it c c1 i i1).2.2]; exact i2
  rw [egs]
  refine ⟨e1, fun v hv => ?_⟩
  rw [ewt]
  exact e2 v hv
theorem gh_C1_8 {io ia ib ix ic mk sp : Nat → Int32} {c : Nat} (h : gh_C1 io ia ib ix ic mk sp c) : (ic c).toNatClampNeg ≤ 8 := by
  obtain ⟨_, m, hm, e, _⟩ := h
  rw [e, nI_clamp (by omega)]
  exact hm
section
variable {f_cells f_goals f_usedSlots f_woken f_clauses f_writing f_openPairs : Int32} {f_blockedOn : Int64} {f_commits f_lastClause f_broken f_cellLimit f_goalLimit f_clauseLimit : Int32} {a_kind a_first a_second a_ref a_hooks a_order a_goalPred a_goalArg a_goalState a_clausePred a_itemCount a_makeCount a_spawnCount a_itemOp a_itemA a_itemB a_itemC a_names : Nat → Int32} {b_seenX b_seenY : Int32} {b_num b_value b_left b_right b_rec b_code : Nat → Int32}
variable {nC nG nK lc lg lk : Nat} {E : Nat → Nat}
theorem gh_begin {k : Nat} (R : gh_RR nC nG nK lc lg lk E f_cells f_goals f_usedSlots f_woken f_clauses f_writing f_openPairs f_blockedOn f_commits f_lastClause f_broken f_cellLimit f_goalLimit f_clauseLimit a_kind a_first a_second a_ref a_hooks a_order a_goalPred a_goalArg a_goalState a_clausePred a_itemCount a_makeCount a_spawnCount a_itemOp a_itemA a_itemB a_itemC a_names b_seenX b_seenY b_num b_value b_left b_right b_rec b_code) (v1 : Int32) : ∃ r u' v', i_Rel k u' v' ∧ (∀ post : Int32 → SX → Prop, post r u' → wpX_begin post (f_cells, f_goals, f_usedSlots, f_woken, f_clauses, f_writing, f_openPairs, f_blockedOn, f_commits, f_lastClause, f_broken, f_cellLimit, f_goalLimit, f_clauseLimit, a_kind, a_first, a_second, a_ref, a_hooks, a_order, a_goalPred, a_goalArg, a_goalState, a_clausePred, a_itemCount, a_makeCount, a_spawnCount, a_itemOp, a_itemA, a_itemB, a_itemC, a_names) v1) ∧ (∀ post : Int32 → SY → Prop, post r v' → wpY_begin post (b_seenX, b_seenY, b_num, a_kind, a_ref, b_value, b_left, b_right, b_rec, b_code, a_clausePred, a_itemCount) v1) := by
  have R' := R
  obtain ⟨RN, RK, RH, RG, RS⟩ := R
  have n2 : b_num 2 = nI nK := RN.2.2.2.2.2.1.trans RN.1.2.2.1
  have n3 : b_num 3 = f_writing := RN.2.2.2.2.2.2.1
  have n9 : b_num 9 = nI lk := RN.2.2.2.2.2.2.2.2.2.2.2.2.trans RN.2.1.2.2
  have hK : nK ≤ lk := RN.2.2.1.2.2.2.2.1
  have hL : lk ≤ 16 := RN.2.2.1.2.2.2.2.2.1
  by_cases p0 : v1 < 0
  · exact ⟨-1, _, _, gh_in R', fun post h => br_t p0 h, fun post h => br_t p0 h⟩
  by_cases p7 : 7 < v1
  · exact ⟨-1, _, _, gh_in R', fun post h => br_f p0 (br_t p7 h), fun post h => br_f p0 (br_t p7 h)⟩
  rcases RN.1.2.2.2.1 with ew | ew
  · by_cases hl : nK < lk
    · refine ⟨0, (f_cells, f_goals, f_usedSlots, f_woken, f_clauses, 1, 0, f_blockedOn, f_commits, f_lastClause, f_broken, f_cellLimit, f_goalLimit, f_clauseLimit, a_kind, a_first, a_second, a_ref, a_hooks, a_order, a_goalPred, a_goalArg, a_goalState, (upd a_clausePred nK v1), (upd a_itemCount nK 0), (upd a_makeCount nK 0), (upd a_spawnCount nK 0), a_itemOp, a_itemA, a_itemB, a_itemC, a_names), (b_seenX, b_seenY, (upd b_num 3 1), a_kind, a_ref, b_value, b_left, b_right, b_rec, b_code, (upd a_clausePred nK v1), (upd a_itemCount nK 0)), ?_, fun post h => ?_, fun post h => ?_⟩
      · obtain ⟨⟨a1, a2, a3, a4, a5⟩, b, ⟨c1, c2, c3, c4, c5, c6, c7⟩, ⟨d0, d1, d2, d3, d4, d5, d6, d7, d8, d9⟩⟩ := RN
        have old : ∀ c, c < nK → gh_C1 a_itemOp a_itemA a_itemB a_itemC (upd a_itemCount nK 0) (upd a_makeCount nK 0) (upd a_spawnCount nK 0) c := fun c hc => by
          obtain ⟨q1, m, q2, q3, q4, q5, q6⟩ := RK.1 c hc
          exact ⟨q1, m, q2, (pk_un (by omega)).trans q3, q4, (pk_un (by omega)).trans q5, (pk_un (by omega)).trans q6⟩
        refine gh_in (nC := nC) (nG := nG) (nK := nK) (lc := lc) (lg := lg) (lk := lk) (E := E) ⟨⟨⟨a1, a2, a3, Or.inr rfl, a5⟩, b, ⟨c1, c2, c3, c4, c5, c6, fun _ => hl⟩, ⟨(pk_un (by decide)).trans d0, (pk_un (by decide)).trans d1, (pk_un (by decide)).trans d2, pk_us, (pk_un (by decide)).trans d4, (pk_un (by decide)).trans d5, (pk_un (by decide)).trans d6, (pk_un (by decide)).trans d7, (pk_un (by decide)).trans d8, (pk_un (by decide)).trans d9⟩⟩, ⟨old, fun _ => ⟨⟨by omega, 0, by omega, pk_us, fun i hi => absurd hi (Nat.not_lt_zero _), pk_us, pk_us⟩, fun j hj => ?_⟩, RK.2.2⟩, RH, RG, gh_RS_cl RS (fun c hc => gh_C1_8 (RK.1 c hc)) (fun c hc => ⟨pk_un (by omega), pk_un (by omega)⟩) (fun q hq => ⟨rfl, rfl, rfl⟩)⟩
        rw [pk_us]
        exact ⟨fun z => absurd z gh_0T, fun ⟨i, hi, _⟩ => absurd hi (by show ¬ i < 0; omega)⟩
      · obtain ⟨⟨a1, a2, a3, a4, a5⟩, ⟨b1, b2, b3⟩, _⟩ := RN
        subst a3 b3
        have vk : vp_in (nI nK) 16 := vp_in_nI (by omega) (by omega)
        refine br_f p0 (br_f p7 (br_t ew (br_t (nI_lt hl (by omega)) (And.intro vk ?_))))
        rw [nI_clamp (by omega)]
        exact nm_e (And.intro vk (nm_e (And.intro vk (nm_e (And.intro vk (nm_e h))))))
      · have vk : vp_in (nI nK) 16 := vp_in_nI (by omega) (by omega)
        refine br_f p0 (br_f p7 (br_f (by rw [n3, ew]; decide) ?_))
        rw [n2, n9]
        refine br_t (nI_lt hl (by omega)) (nm_e ?_)
        rw [show upd b_num 3 1 2 = nI nK from (pk_un (by decide)).trans n2, nI_clamp (by omega)]
        exact And.intro vk (nm_e (And.intro vk (nm_e h)))
    · refine ⟨-2, _, _, gh_in R', fun post h => ?_, fun post h => ?_⟩
      · refine br_f p0 (br_f p7 (br_t ew (br_f ?_ h)))
        rw [RN.1.2.2.1, RN.2.1.2.2]
        exact nI_nlt (by omega) (by omega)
      · refine br_f p0 (br_f p7 (br_f (by rw [n3, ew]; decide) (br_f ?_ h)))
        rw [n2, n9]
        exact nI_nlt (by omega) (by omega)
  · exact ⟨-1, _, _, gh_in R', fun post h => br_f p0 (br_f p7 (br_f (by rw [ew]; decide) h)), fun post h => br_f p0 (br_f p7 (br_t (by rw [n3, ew]) h))⟩
theorem gh_end {k : Nat} (R : gh_RR nC nG nK lc lg lk E f_cells f_goals f_usedSlots f_woken f_clauses f_writing f_openPairs f_blockedOn f_commits f_lastClause f_broken f_cellLimit f_goalLimit f_clauseLimit a_kind a_first a_second a_ref a_hooks a_order a_goalPred a_goalArg a_goalState a_clausePred a_itemCount a_makeCount a_spawnCount a_itemOp a_itemA a_itemB a_itemC a_names b_seenX b_seenY b_num b_value b_left b_right b_rec b_code) : wpX_end (fun r u' => wpY_end (fun r' v' => r' = r ∧ i_Rel k u' v') (b_seenX, b_seenY, b_num, a_kind, a_ref, b_value, b_left, b_right, b_rec, b_code, a_clausePred, a_itemCount)) (f_cells, f_goals, f_usedSlots, f_woken, f_clauses, f_writing, f_openPairs, f_blockedOn, f_commits, f_lastClause, f_broken, f_cellLimit, f_goalLimit, f_clauseLimit, a_kind, a_first, a_second, a_ref, a_hooks, a_order, a_goalPred, a_goalArg, a_goalState, a_clausePred, a_itemCount, a_makeCount, a_spawnCount, a_itemOp, a_itemA, a_itemB, a_itemC, a_names) := by
  have R' := R
  obtain ⟨RN, RK, RH, RG, RS⟩ := R
  have n2 : b_num 2 = nI nK := RN.2.2.2.2.2.1.trans RN.1.2.2.1
  have n3 : b_num 3 = f_writing := RN.2.2.2.2.2.2.1
  have hL : lk ≤ 16 := RN.2.2.1.2.2.2.2.2.1
  rcases RN.1.2.2.2.1 with ew | ew
  · exact br_t ew (br_t (n3.trans ew) ⟨rfl, gh_in R'⟩)
  · have hl : nK < lk := RN.2.2.1.2.2.2.2.2.2 ew
    have hG : nG ≤ 16 := by
      have h1 := RN.2.2.1.2.2.1
      have h2 := RN.2.2.1.2.2.2.1
      omega
    refine br_f (by rw [ew]; decide) ?_
    rw [RN.1.2.2.1]
    refine nm_r (nI_1 nK) (And.intro (vp_in_nI (by omega) (by omega)) ?_)
    rw [nI_clamp (by omega)]
    refine gh_wkX RN.1.2.1 hG (fun q hq => ?_) (fun wk hw => ?_)
    · obtain ⟨i, h1, h2, _⟩ := RG.1 q hq
      exact ⟨i, h1, h2⟩
    · refine br_f (by rw [n3, ew]; decide) (nm_e (nm_r (e' := upd (upd b_num 3 0) 2 (nI (nK + 1))) ?_ ?_))
      · rw [show upd b_num 3 0 2 = nI nK from (pk_un (by decide)).trans n2, nI_1]
      · refine ⟨(pk_un (by decide)).trans n2, ?_⟩
        obtain ⟨⟨a1, a2, a3, a4, a5⟩, b, ⟨c1, c2, c3, c4, c5, c6, c7⟩, ⟨d0, d1, d2, d3, d4, d5, d6, d7, d8, d9⟩⟩ := RN
        refine gh_in (nC := nC) (nG := nG) (nK := nK + 1) (lc := lc) (lg := lg) (lk := lk) (E := E) ⟨⟨⟨a1, a2, rfl, Or.inl rfl, a5⟩, b, ⟨c1, c2, c3, c4, by omega, c6, fun z => absurd z (by decide)⟩, ⟨(pk_un (by decide)).trans ((pk_un (by decide)).trans d0), (pk_un (by decide)).trans ((pk_un (by decide)).trans d1), pk_us, (pk_un (by decide)).trans pk_us, (pk_un (by decide)).trans ((pk_un (by decide)).trans d4), (pk_un (by decide)).trans ((pk_un (by decide)).trans d5), (pk_un (by decide)).trans ((pk_un (by decide)).trans d6), (pk_un (by decide)).trans ((pk_un (by decide)).trans d7), (pk_un (by decide)).trans ((pk_un (by decide)).trans d8), (pk_un (by decide)).trans ((pk_un (by decide)).trans d9)⟩⟩, ⟨fun c hc => ?_, fun z => absurd z (by decide), RK.2.2⟩, RH, RG, ?_⟩
        · by_cases z : c = nK
          · rw [z]; exact (RK.2.1 ew).1
          · exact RK.1 c (by omega)
        · intro s hs hu hws
          rw [gh_nt, hw s hs] at hws
          have hw0 : bt f_woken s = false := gh_nt.mpr (fun z => hws (Or.inl z))
          obtain ⟨e1, e2⟩ := RS s hs hu hw0
          obtain ⟨_, q, hq, eq⟩ := RG.2.2 s hs hu
          have hne : ¬ (a_goalPred s = a_clausePred nK ∧ ¬ a_goalState s = 0) := fun z => hws (Or.inr ⟨q, hq, eq, z⟩)
          by_cases ep : a_clausePred nK = a_goalPred s
          · have e0 : a_goalState s = 0 := by
              by_cases z : a_goalState s = 0
              · exact z
              · exact absurd ⟨ep.symm, z⟩ hne
            have lg := gh_gs_le (kd := a_kind) (fs := a_first) (h := gh_H a_kind a_first a_second E a_goalArg s) (io := a_itemOp) (ia := a_itemA) (ib := a_itemB) (ic := a_itemCount) (cp := a_clausePred) (gp := a_goalPred s) (n := nK)
            rw [e0] at e1
            have g0 : gh_gs a_kind a_first (gh_H a_kind a_first a_second E a_goalArg s) a_itemOp a_itemA a_itemB a_itemCount a_clausePred (a_goalPred s) nK = 0 := ((nI_eq (a := 0) (by omega) (by omega)).mp e1).symm
            rw [gh_gs_y ep, g0, Nat.zero_min]
            refine ⟨e0, fun v hv => ?_⟩
            rw [e2 v hv, g0]
            exact ⟨fun z => absurd z.1 (by decide), fun z => absurd z.1 (by decide)⟩
          · rw [gh_gs_n ep]
            refine ⟨e1, fun v hv => ?_⟩
            rw [e2 v hv, gh_wt_s]
            exact ⟨fun z => ⟨z.1, Or.inl z.2⟩, fun z => ⟨z.1, z.2.elim id (fun y => absurd y.1 ep)⟩⟩
theorem gh_tell {k : Nat} (R : gh_RR nC nG nK lc lg lk E f_cells f_goals f_usedSlots f_woken f_clauses f_writing f_openPairs f_blockedOn f_commits f_lastClause f_broken f_cellLimit f_goalLimit f_clauseLimit a_kind a_first a_second a_ref a_hooks a_order a_goalPred a_goalArg a_goalState a_clausePred a_itemCount a_makeCount a_spawnCount a_itemOp a_itemA a_itemB a_itemC a_names b_seenX b_seenY b_num b_value b_left b_right b_rec b_code) (v1 v2 : Int32) : ∃ r u' v', i_Rel k u' v' ∧ (∀ post : Int32 → SX → Prop, post r u' → wpX_tell post (f_cells, f_goals, f_usedSlots, f_woken, f_clauses, f_writing, f_openPairs, f_blockedOn, f_commits, f_lastClause, f_broken, f_cellLimit, f_goalLimit, f_clauseLimit, a_kind, a_first, a_second, a_ref, a_hooks, a_order, a_goalPred, a_goalArg, a_goalState, a_clausePred, a_itemCount, a_makeCount, a_spawnCount, a_itemOp, a_itemA, a_itemB, a_itemC, a_names) v1 v2) ∧ (∀ post : Int32 → SY → Prop, post r v' → wpY_tell post (b_seenX, b_seenY, b_num, a_kind, a_ref, b_value, b_left, b_right, b_rec, b_code, a_clausePred, a_itemCount) v1 v2) := by
  have hf := R.1.1.1
  have n0 : b_num 0 = nI nC := R.1.2.2.2.1.trans R.1.1.1
  have h64 := R.2.2.1.1.1.1
  by_cases h1 : vp_in v1 nC
  · by_cases h2 : vp_in v2 nC
    · obtain ⟨rx, ry, wk, rf, hk, E', hr, R2, _, hX, hY⟩ := gh_un R h1 h2 h1 h2 rfl rfl
      refine ⟨ry, _, _, gh_in R2, fun post h => ?_, fun post h => hY _ _ post h⟩
      unfold wpX_tell
      dsimp only
      refine gh_icX hf h64 (fun _ => br_f (by decide) ?_) (fun z => absurd h1 z)
      refine gh_icX hf h64 (fun _ => br_f (by decide) ?_) (fun z => absurd h2 z)
      refine hX _ _ ?_
      rcases hr with ⟨e1, e2⟩ | ⟨e1, e2⟩
      · subst e1 e2
        exact br_f (by decide) h
      · subst e1 e2
        exact br_t rfl h
    · refine ⟨-1, _, _, gh_in R, fun post h => ?_, fun post h => ?_⟩
      · unfold wpX_tell
        dsimp only
        refine gh_icX hf h64 (fun _ => br_f (by decide) ?_) (fun z => absurd h1 z)
        exact gh_icX hf h64 (fun z => absurd z h2) (fun _ => br_t rfl h)
      · unfold wpY_tell
        dsimp only
        refine gh_icY n0 h64 (fun _ => br_f (by decide) ?_) (fun z => absurd h1 z)
        exact gh_icY n0 h64 (fun z => absurd z h2) (fun _ => br_t rfl h)
  · refine ⟨-1, _, _, gh_in R, fun post h => ?_, fun post h => ?_⟩
    · unfold wpX_tell
      dsimp only
      exact gh_icX hf h64 (fun z => absurd z h1) (fun _ => br_t rfl h)
    · unfold wpY_tell
      dsimp only
      exact gh_icY n0 h64 (fun z => absurd z h1) (fun _ => br_t rfl h)
theorem gh_term {k : Nat} (R : gh_RR nC nG nK lc lg lk E f_cells f_goals f_usedSlots f_woken f_clauses f_writing f_openPairs f_blockedOn f_commits f_lastClause f_broken f_cellLimit f_goalLimit f_clauseLimit a_kind a_first a_second a_ref a_hooks a_order a_goalPred a_goalArg a_goalState a_clausePred a_itemCount a_makeCount a_spawnCount a_itemOp a_itemA a_itemB a_itemC a_names b_seenX b_seenY b_num b_value b_left b_right b_rec b_code) (v1 v2 v3 : Int32) : ∃ r u' v', i_Rel k u' v' ∧ (∀ post : Int32 → SX → Prop, post r u' → wpX_term post (f_cells, f_goals, f_usedSlots, f_woken, f_clauses, f_writing, f_openPairs, f_blockedOn, f_commits, f_lastClause, f_broken, f_cellLimit, f_goalLimit, f_clauseLimit, a_kind, a_first, a_second, a_ref, a_hooks, a_order, a_goalPred, a_goalArg, a_goalState, a_clausePred, a_itemCount, a_makeCount, a_spawnCount, a_itemOp, a_itemA, a_itemB, a_itemC, a_names) v1 v2 v3) ∧ (∀ post : Int32 → SY → Prop, post r v' → wpY_term post (b_seenX, b_seenY, b_num, a_kind, a_ref, b_value, b_left, b_right, b_rec, b_code, a_clausePred, a_itemCount) v1 v2 v3) := by
  have hf := R.1.1.1
  have n0 : b_num 0 = nI nC := R.1.2.2.2.1.trans R.1.1.1
  have n7 : b_num 7 = nI lc := R.1.2.2.2.2.2.2.2.2.2.2.1.trans R.1.2.1.1
  have h64 := R.2.2.1.1.1.1
  have hcl : nC ≤ lc := R.1.2.2.1.1
  have hlc : lc ≤ 64 := R.1.2.2.1.2.1
  have main : (v1 = 0 ∨ v1 = 1 ∨ v1 = 2) → (v1 = 2 → vp_in v2 nC ∧ vp_in v3 nC) → ∃ r u' v', i_Rel k u' v' ∧ (∀ post : Int32 → SX → Prop, post r u' → wX_term_34 post v1 v2 v3 f_cells f_goals f_usedSlots f_woken f_clauses f_writing f_openPairs f_blockedOn f_commits f_lastClause f_broken f_cellLimit f_goalLimit f_clauseLimit a_kind a_first a_second a_ref a_hooks a_order a_goalPred a_goalArg a_goalState a_clausePred a_itemCount a_makeCount a_spawnCount a_itemOp a_itemA a_itemB a_itemC a_names) ∧ (∀ post : Int32 → SY → Prop, post r v' → wY_term_32 post v1 v2 v3 b_seenX b_seenY b_num a_kind a_ref b_value b_left b_right b_rec b_code a_clausePred a_itemCount) := by
    intro hk hp
    by_cases hl : nC < lc
    · obtain ⟨hk', kd, fs, sc, rf, nm, vl, lf, rt, E', R2, _, hX, hY⟩ := gh_mk (a := v2) (b := v3) (x := v2) (y := v3) R hl hk (fun z => ⟨hp z, hp z, rfl, rfl⟩) (fun _ => rfl)
      refine ⟨_, _, _, gh_in R2, fun post h => ?_, fun post h => hY _ _ post h⟩
      refine br_t ?_ (hX _ _ h)
      rw [hf, R.1.2.1.1]
      exact nI_lt hl (by omega)
    · refine ⟨-2, _, _, gh_in R, fun post h => br_f ?_ h, fun post h => br_f ?_ h⟩
      · rw [hf, R.1.2.1.1]
        exact nI_nlt (by omega) (by omega)
      · rw [n0, n7]
        exact nI_nlt (by omega) (by omega)
  rcases pk_ix v1 (n := 3) (by decide) with z | z | ⟨j, hj, ej⟩
  · exact ⟨-1, _, _, gh_in R, fun post h => br_t z h, fun post h => br_t z h⟩
  · have z2 : 2 < v1 := Int32.lt_of_lt_of_le (show (2 : Int32) < nI 3 by decide) z
    have z0 : ¬ v1 < 0 := fun y => absurd (Int32.lt_trans z2 y) (by decide)
    exact ⟨-1, _, _, gh_in R, fun post h => br_f z0 (br_f (Int32.not_le.mpr z2) h), fun post h => br_f z0 (br_t z2 h)⟩
  · have hk : v1 = 0 ∨ v1 = 1 ∨ v1 = 2 := by
      have : j = 0 ∨ j = 1 ∨ j = 2 := by omega
      rcases this with rfl | rfl | rfl
      · exact Or.inl ej
      · exact Or.inr (Or.inl ej)
      · exact Or.inr (Or.inr ej)
    have z0 : ¬ v1 < 0 := by rw [ej]; exact nI_pos (by omega)
    have z2 : v1 ≤ 2 := by rw [ej]; exact nI_le (b := 2) (by omega) (by decide)
    by_cases e2 : v1 = 2
    · by_cases h1 : vp_in v2 nC
      · by_cases h2 : vp_in v3 nC
        · obtain ⟨r, u', v', I, hX, hY⟩ := main hk (fun _ => ⟨h1, h2⟩)
          refine ⟨r, u', v', I, fun post h => br_f z0 (br_t z2 (br_t e2 ?_)), fun post h => br_f z0 (br_f (Int32.not_lt.mpr z2) (br_t e2 ?_))⟩
          · refine gh_icX hf h64 (fun _ => br_f (by decide) ?_) (fun z => absurd h1 z)
            exact gh_icX hf h64 (fun _ => br_f (by decide) (hX post h)) (fun z => absurd h2 z)
          · refine gh_icY n0 h64 (fun _ => br_f (by decide) ?_) (fun z => absurd h1 z)
            exact gh_icY n0 h64 (fun _ => br_f (by decide) (hY post h)) (fun z => absurd h2 z)
        · refine ⟨-1, _, _, gh_in R, fun post h => br_f z0 (br_t z2 (br_t e2 ?_)), fun post h => br_f z0 (br_f (Int32.not_lt.mpr z2) (br_t e2 ?_))⟩
          · refine gh_icX hf h64 (fun _ => br_f (by decide) ?_) (fun z => absurd h1 z)
            exact gh_icX hf h64 (fun z => absurd z h2) (fun _ => br_t rfl h)
          · refine gh_icY n0 h64 (fun _ => br_f (by decide) ?_) (fun z => absurd h1 z)
            exact gh_icY n0 h64 (fun z => absurd z h2) (fun _ => br_t rfl h)
      · refine ⟨-1, _, _, gh_in R, fun post h => br_f z0 (br_t z2 (br_t e2 ?_)), fun post h => br_f z0 (br_f (Int32.not_lt.mpr z2) (br_t e2 ?_))⟩
        · exact gh_icX hf h64 (fun z => absurd z h1) (fun _ => br_t rfl h)
        · exact gh_icY n0 h64 (fun z => absurd z h1) (fun _ => br_t rfl h)
    · obtain ⟨r, u', v', I, hX, hY⟩ := main hk (fun z => absurd z e2)
      exact ⟨r, u', v', I, fun post h => br_f z0 (br_t z2 (br_f e2 (hX post h))), fun post h => br_f z0 (br_f (Int32.not_lt.mpr z2) (br_f e2 (hY post h)))⟩
theorem gh_post {k : Nat} (R : gh_RR nC nG nK lc lg lk E f_cells f_goals f_usedSlots f_woken f_clauses f_writing f_openPairs f_blockedOn f_commits f_lastClause f_broken f_cellLimit f_goalLimit f_clauseLimit a_kind a_first a_second a_ref a_hooks a_order a_goalPred a_goalArg a_goalState a_clausePred a_itemCount a_makeCount a_spawnCount a_itemOp a_itemA a_itemB a_itemC a_names b_seenX b_seenY b_num b_value b_left b_right b_rec b_code) (v1 v2 v3 v4 : Int32) : ∃ r u' v', i_Rel k u' v' ∧ (∀ post : Int32 → SX → Prop, post r u' → wpX_post post (f_cells, f_goals, f_usedSlots, f_woken, f_clauses, f_writing, f_openPairs, f_blockedOn, f_commits, f_lastClause, f_broken, f_cellLimit, f_goalLimit, f_clauseLimit, a_kind, a_first, a_second, a_ref, a_hooks, a_order, a_goalPred, a_goalArg, a_goalState, a_clausePred, a_itemCount, a_makeCount, a_spawnCount, a_itemOp, a_itemA, a_itemB, a_itemC, a_names) v1 v2 v3 v4) ∧ (∀ post : Int32 → SY → Prop, post r v' → wpY_post post (b_seenX, b_seenY, b_num, a_kind, a_ref, b_value, b_left, b_right, b_rec, b_code, a_clausePred, a_itemCount) v1 v2 v3 v4) := by
  have hf := R.1.1.1
  have n0 : b_num 0 = nI nC := R.1.2.2.2.1.trans R.1.1.1
  have n1 : b_num 1 = nI nG := R.1.2.2.2.2.1.trans R.1.1.2.1
  have n8 : b_num 8 = nI lg := R.1.2.2.2.2.2.2.2.2.2.2.2.1.trans R.1.2.1.2.1
  have h64 := R.2.2.1.1.1.1
  have hgl : nG ≤ lg := R.1.2.2.1.2.2.1
  have hlg : lg ≤ 16 := R.1.2.2.1.2.2.2.1
  by_cases z0 : v1 < 0
  · exact ⟨-1, _, _, gh_in R, fun post h => br_t z0 h, fun post h => br_t z0 h⟩
  by_cases z7 : 7 < v1
  · exact ⟨-1, _, _, gh_in R, fun post h => br_f z0 (br_f (Int32.not_le.mpr z7) h), fun post h => br_f z0 (br_t z7 h)⟩
  have y7 : v1 ≤ 7 := Int32.not_lt.mp z7
  by_cases h1 : vp_in v2 nC
  · by_cases h2 : vp_in v3 nC
    · by_cases h3 : vp_in v4 nC
      · by_cases hl : nG < lg
        · obtain ⟨us, wk, od, gp, ga, gst, nm, rc, R2, _, hX, hY⟩ := gh_po R hl z0 z7 h1 h2 h3 h1 h2 h3 rfl rfl rfl
          refine ⟨_, _, _, gh_in R2, fun post h => br_f z0 (br_t y7 ?_), fun post h => hY _ _ post h⟩
          refine gh_icX hf h64 (fun _ => br_f (by decide) ?_) (fun z => absurd h1 z)
          refine gh_icX hf h64 (fun _ => br_f (by decide) ?_) (fun z => absurd h2 z)
          refine gh_icX hf h64 (fun _ => br_f (by decide) ?_) (fun z => absurd h3 z)
          refine br_t ?_ (hX _ _ ?_)
          · rw [R.1.1.2.1, R.1.2.1.2.1]
            exact nI_lt hl (by omega)
          · show post (nI (nG + 1) - 1) _
            rw [nI_pred]
            exact h
        · refine ⟨-2, _, _, gh_in R, fun post h => br_f z0 (br_t y7 ?_), fun post h => br_f z0 (br_f z7 ?_)⟩
          · refine gh_icX hf h64 (fun _ => br_f (by decide) ?_) (fun z => absurd h1 z)
            refine gh_icX hf h64 (fun _ => br_f (by decide) ?_) (fun z => absurd h2 z)
            refine gh_icX hf h64 (fun _ => br_f (by decide) (br_f ?_ h)) (fun z => absurd h3 z)
            rw [R.1.1.2.1, R.1.2.1.2.1]
            exact nI_nlt (by omega) (by omega)
          · refine gh_icY n0 h64 (fun _ => br_f (by decide) ?_) (fun z => absurd h1 z)
            refine gh_icY n0 h64 (fun _ => br_f (by decide) ?_) (fun z => absurd h2 z)
            refine gh_icY n0 h64 (fun _ => br_f (by decide) (br_f ?_ h)) (fun z => absurd h3 z)
            rw [n1, n8]
            exact nI_nlt (by omega) (by omega)
      · refine ⟨-1, _, _, gh_in R, fun post h => br_f z0 (br_t y7 ?_), fun post h => br_f z0 (br_f z7 ?_)⟩
        · refine gh_icX hf h64 (fun _ => br_f (by decide) ?_) (fun z => absurd h1 z)
          refine gh_icX hf h64 (fun _ => br_f (by decide) ?_) (fun z => absurd h2 z)
          exact gh_icX hf h64 (fun z => absurd z h3) (fun _ => br_t rfl h)
        · refine gh_icY n0 h64 (fun _ => br_f (by decide) ?_) (fun z => absurd h1 z)
          refine gh_icY n0 h64 (fun _ => br_f (by decide) ?_) (fun z => absurd h2 z)
          exact gh_icY n0 h64 (fun z => absurd z h3) (fun _ => br_t rfl h)
    · refine ⟨-1, _, _, gh_in R, fun post h => br_f z0 (br_t y7 ?_), fun post h => br_f z0 (br_f z7 ?_)⟩
      · refine gh_icX hf h64 (fun _ => br_f (by decide) ?_) (fun z => absurd h1 z)
        exact gh_icX hf h64 (fun z => absurd z h2) (fun _ => br_t rfl h)
      · refine gh_icY n0 h64 (fun _ => br_f (by decide) ?_) (fun z => absurd h1 z)
        exact gh_icY n0 h64 (fun z => absurd z h2) (fun _ => br_t rfl h)
  · refine ⟨-1, _, _, gh_in R, fun post h => br_f z0 (br_t y7 ?_), fun post h => br_f z0 (br_f z7 ?_)⟩
    · exact gh_icX hf h64 (fun z => absurd z h1) (fun _ => br_t rfl h)
    · exact gh_icY n0 h64 (fun z => absurd z h1) (fun _ => br_t rfl h)
theorem gh_cancel {k : Nat} (R : gh_RR nC nG nK lc lg lk E f_cells f_goals f_usedSlots f_woken f_clauses f_writing f_openPairs f_blockedOn f_commits f_lastClause f_broken f_cellLimit f_goalLimit f_clauseLimit a_kind a_first a_second a_ref a_hooks a_order a_goalPred a_goalArg a_goalState a_clausePred a_itemCount a_makeCount a_spawnCount a_itemOp a_itemA a_itemB a_itemC a_names b_seenX b_seenY b_num b_value b_left b_right b_rec b_code) (v1 : Int32) : ∃ r u' v', i_Rel k u' v' ∧ (∀ post : Int32 → SX → Prop, post r u' → wpX_cancel post (f_cells, f_goals, f_usedSlots, f_woken, f_clauses, f_writing, f_openPairs, f_blockedOn, f_commits, f_lastClause, f_broken, f_cellLimit, f_goalLimit, f_clauseLimit, a_kind, a_first, a_second, a_ref, a_hooks, a_order, a_goalPred, a_goalArg, a_goalState, a_clausePred, a_itemCount, a_makeCount, a_spawnCount, a_itemOp, a_itemA, a_itemB, a_itemC, a_names) v1) ∧ (∀ post : Int32 → SY → Prop, post r v' → wpY_cancel post (b_seenX, b_seenY, b_num, a_kind, a_ref, b_value, b_left, b_right, b_rec, b_code, a_clausePred, a_itemCount) v1) := by
  have n1 : b_num 1 = nI nG := R.1.2.2.2.2.1.trans R.1.1.2.1
  have hgl : nG ≤ lg := R.1.2.2.1.2.2.1
  have hlg : lg ≤ 16 := R.1.2.2.1.2.2.2.1
  rcases pk_ix v1 (n := nG) (by omega) with z | z | ⟨j, hj, rfl⟩
  · exact ⟨-1, _, _, gh_in R, fun post h => br_t z h, fun post h => br_t z h⟩
  · have z0 : ¬ v1 < 0 := fun y => nI_pos (n := nG) (by omega) (Int32.lt_of_le_of_lt z y)
    refine ⟨-1, _, _, gh_in R, fun post h => br_f z0 (br_f ?_ h), fun post h => br_f z0 (br_f ?_ h)⟩
    · rw [R.1.1.2.1]; exact Int32.not_lt.mpr z
    · rw [n1]; exact Int32.not_lt.mpr z
  · obtain ⟨us, wk, hk, od, nm, rc, R2, _, hX, hY⟩ := gh_rm R hj
    refine ⟨0, _, _, gh_in R2, fun post h => br_f (nI_pos (by omega)) (br_t ?_ (hX _ _ h)), fun post h => hY _ _ post h⟩
    rw [R.1.1.2.1]
    exact nI_lt hj (by omega)
end
theorem i_vc_begin {k : Nat} {u : SX} {v : SY} (I : i_Rel k u v) (hk : k + 5 ≤ 2563) (v1 : Int32) : wpX_begin (fun r u' => wpY_begin (fun r' v' => r' = r ∧ i_Rel (k + 5) u' v') v v1) u v1 := by
  refine gh_el (P := fun u v => wpX_begin (fun r u' => wpY_begin (fun r' v' => r' = r ∧ i_Rel (k + 5) u' v') v v1) u v1) ?_ I
  intros
  rename_i R
  obtain ⟨r, u', v', I', hX, hY⟩ := gh_begin (k := k + 5) R v1
  exact hX _ (hY _ ⟨rfl, I'⟩)
theorem i_vc_term {k : Nat} {u : SX} {v : SY} (I : i_Rel k u v) (hk : k + 5 ≤ 2563) (v1 : Int32) (v2 : Int32) (v3 : Int32) : wpX_term (fun r u' => wpY_term (fun r' v' => r' = r ∧ i_Rel (k + 5) u' v') v v1 v2 v3) u v1 v2 v3 := by
  refine gh_el (P := fun u v => wpX_term (fun r u' => wpY_term (fun r' v' => r' = r ∧ i_Rel (k + 5) u' v') v v1 v2 v3) u v1 v2 v3) ?_ I
  intros
  rename_i R
  obtain ⟨r, u', v', I', hX, hY⟩ := gh_term (k := k + 5) R v1 v2 v3
  exact hX _ (hY _ ⟨rfl, I'⟩)
theorem i_vc_post {k : Nat} {u : SX} {v : SY} (I : i_Rel k u v) (hk : k + 5 ≤ 2563) (v1 : Int32) (v2 : Int32) (v3 : Int32) (v4 : Int32) : wpX_post (fun r u' => wpY_post (fun r' v' => r' = r ∧ i_Rel (k + 5) u' v') v v1 v2 v3 v4) u v1 v2 v3 v4 := by
  refine gh_el (P := fun u v => wpX_post (fun r u' => wpY_post (fun r' v' => r' = r ∧ i_Rel (k + 5) u' v') v v1 v2 v3 v4) u v1 v2 v3 v4) ?_ I
  intros
  rename_i R
  obtain ⟨r, u', v', I', hX, hY⟩ := gh_post (k := k + 5) R v1 v2 v3 v4
  exact hX _ (hY _ ⟨rfl, I'⟩)
theorem i_vc_cancel {k : Nat} {u : SX} {v : SY} (I : i_Rel k u v) (hk : k + 5 ≤ 2563) (v1 : Int32) : wpX_cancel (fun r u' => wpY_cancel (fun r' v' => r' = r ∧ i_Rel (k + 5) u' v') v v1) u v1 := by
  refine gh_el (P := fun u v => wpX_cancel (fun r u' => wpY_cancel (fun r' v' => r' = r ∧ i_Rel (k + 5) u' v') v v1) u v1) ?_ I
  intros
  rename_i R
  obtain ⟨r, u', v', I', hX, hY⟩ := gh_cancel (k := k + 5) R v1
  exact hX _ (hY _ ⟨rfl, I'⟩)
theorem i_vc_tell {k : Nat} {u : SX} {v : SY} (I : i_Rel k u v) (hk : k + 5 ≤ 2563) (v1 : Int32) (v2 : Int32) : wpX_tell (fun r u' => wpY_tell (fun r' v' => r' = r ∧ i_Rel (k + 5) u' v') v v1 v2) u v1 v2 := by
  refine gh_el (P := fun u v => wpX_tell (fun r u' => wpY_tell (fun r' v' => r' = r ∧ i_Rel (k + 5) u' v') v v1 v2) u v1 v2) ?_ I
  intros
  rename_i R
  obtain ⟨r, u', v', I', hX, hY⟩ := gh_tell (k := k + 5) R v1 v2
  exact hX _ (hY _ ⟨rfl, I'⟩)
theorem i_vc_end {k : Nat} {u : SX} {v : SY} (I : i_Rel k u v) (hk : k + 5 ≤ 2563) : wpX_end (fun r u' => wpY_end (fun r' v' => r' = r ∧ i_Rel (k + 5) u' v') v) u := by
  refine gh_el (P := fun u v => wpX_end (fun r u' => wpY_end (fun r' v' => r' = r ∧ i_Rel (k + 5) u' v') v) u) ?_ I
  intros
  rename_i R
  exact gh_end (k := k + 5) R
end
section
/-! goal and waits -/
section
variable {kd fs : Nat → Int32} {h : Nat → Option Nat} {io ia ib ic cp : Nat → Int32} {gp : Int32} {nK : Nat}
theorem gh_cs_i {c w : Nat} (hw : w ≤ 1) : gh_cs kd fs h io ia ib ic cp gp c = w ↔ (cp c = gp ∧ gh_cv kd fs h io ia ib ic c = w) := by
  unfold gh_cs
  by_cases e : cp c = gp
  · rw [if_pos e]; exact ⟨fun z => ⟨e, z⟩, fun z => z.2⟩
  · rw [if_neg e]; exact ⟨fun z => by omega, fun z => absurd z.1 e⟩
theorem gh_fi3 : (gh_fi (fun c => gh_cs kd fs h io ia ib ic cp gp c = 0) nK = none ∧ gh_fi (fun c => gh_cs kd fs h io ia ib ic cp gp c = 1) nK = none ∧ gh_gs kd fs h io ia ib ic cp gp nK = 2) ∨
    (gh_fi (fun c => gh_cs kd fs h io ia ib ic cp gp c = 0) nK = none ∧ (∃ c, c < nK ∧ gh_fi (fun c => gh_cs kd fs h io ia ib ic cp gp c = 1) nK = some c) ∧ gh_gs kd fs h io ia ib ic cp gp nK = 1) ∨
    ((∃ c, c < nK ∧ cp c = gp ∧ gh_cv kd fs h io ia ib ic c = 0 ∧ gh_fi (fun c => gh_cs kd fs h io ia ib ic cp gp c = 0) nK = some c) ∧ gh_gs kd fs h io ia ib ic cp gp nK = 0) := by
  have l := gh_gs_le (kd := kd) (fs := fs) (h := h) (io := io) (ia := ia) (ib := ib) (ic := ic) (cp := cp) (gp := gp) (n := nK)
  rcases gh_fi_c (fun c => gh_cs kd fs h io ia ib ic cp gp c = 0) nK with ⟨e0, n0⟩ | ⟨c, hc, pc, _, e0⟩
  · have g1 : 1 ≤ gh_gs kd fs h io ia ib ic cp gp nK := gh_gs_ge (by omega) (fun c hc e => by
      by_cases z : gh_cv kd fs h io ia ib ic c = 0
      · exact absurd ((gh_cs_i (by omega)).mpr ⟨e, z⟩) (n0 c hc)
      · omega)
    rcases gh_fi_c (fun c => gh_cs kd fs h io ia ib ic cp gp c = 1) nK with ⟨e1, n1⟩ | ⟨c, hc, pc, _, e1⟩
    · have g2 : 2 ≤ gh_gs kd fs h io ia ib ic cp gp nK := gh_gs_ge (by omega) (fun c hc e => by
        by_cases z : gh_cv kd fs h io ia ib ic c = 0
        · exact absurd ((gh_cs_i (by omega)).mpr ⟨e, z⟩) (n0 c hc)
        · by_cases y : gh_cv kd fs h io ia ib ic c = 1
          · exact absurd ((gh_cs_i (by omega)).mpr ⟨e, y⟩) (n1 c hc)
          · omega)
      exact Or.inl ⟨e0, e1, by omega⟩
    · obtain ⟨q1, q2⟩ := (gh_cs_i (by omega)).mp pc
      have := gh_gs_i (kd := kd) (fs := fs) (h := h) (io := io) (ia := ia) (ib := ib) (ic := ic) hc q1
      exact Or.inr (Or.inl ⟨e0, ⟨c, hc, e1⟩, by omega⟩)
  · obtain ⟨q1, q2⟩ := (gh_cs_i (by omega)).mp pc
    have := gh_gs_i (kd := kd) (fs := fs) (h := h) (io := io) (ia := ia) (ib := ib) (ic := ic) hc q1
    exact Or.inr (Or.inr ⟨⟨c, hc, q1, q2, e0⟩, by omega⟩)
theorem gh_fi_eq {P Q : Nat → Prop} (e : ∀ c, P c ↔ Q c) (n : Nat) : gh_fi P n = gh_fi Q n := by
  have : P = Q := funext fun c => propext (e c)
  rw [this]
end
section
variable {f_cells f_goals f_usedSlots f_woken f_clauses f_writing f_openPairs : Int32} {f_blockedOn : Int64} {f_commits f_lastClause f_broken f_cellLimit f_goalLimit f_clauseLimit : Int32} {a_kind a_first a_second a_ref a_hooks a_order a_goalPred a_goalArg a_goalState a_clausePred a_itemCount a_makeCount a_spawnCount a_itemOp a_itemA a_itemB a_itemC a_names : Nat → Int32} {b_seenX b_seenY : Int32} {b_num b_value b_left b_right b_rec b_code : Nat → Int32}
variable {nC nG nK lc lg lk : Nat} {E : Nat → Nat}
theorem gh_set1 {s : Nat} (R : gh_RR nC nG nK lc lg lk E f_cells f_goals f_usedSlots f_woken f_clauses f_writing f_openPairs f_blockedOn f_commits f_lastClause f_broken f_cellLimit f_goalLimit f_clauseLimit a_kind a_first a_second a_ref a_hooks a_order a_goalPred a_goalArg a_goalState a_clausePred a_itemCount a_makeCount a_spawnCount a_itemOp a_itemA a_itemB a_itemC a_names b_seenX b_seenY b_num b_value b_left b_right b_rec b_code) (hs : s < 16) (hu : bt f_usedSlots s = true) : ∃ (wk : Int32) (hk gst : Nat → Int32), gh_RR nC nG nK lc lg lk E f_cells f_goals f_usedSlots wk f_clauses f_writing f_openPairs f_blockedOn f_commits f_lastClause f_broken f_cellLimit f_goalLimit f_clauseLimit a_kind a_first a_second a_ref hk a_order a_goalPred a_goalArg gst a_clausePred a_itemCount a_makeCount a_spawnCount a_itemOp a_itemA a_itemB a_itemC a_names b_seenX b_seenY b_num b_value b_left b_right b_rec b_code ∧ gst s = nI (gh_gs a_kind a_first (gh_H a_kind a_first a_second E a_goalArg s) a_itemOp a_itemA a_itemB a_itemCount a_clausePred (a_goalPred s) nK) ∧ (∀ v, v < nC → (bt (hk v) s = true ↔ (gh_gs a_kind a_first (gh_H a_kind a_first a_second E a_goalArg s) a_itemOp a_itemA a_itemB a_itemCount a_clausePred (a_goalPred s) nK = 1 ∧ gh_wt a_kind a_first (gh_H a_kind a_first a_second E a_goalArg s) a_itemOp a_itemA a_itemB a_itemCount a_clausePred (a_goalPred s) nK v))) ∧
    ∀ (f_blockedOn : Int64) (post : SX → Prop), (∀ B, post (f_cells, f_goals, f_usedSlots, wk, f_clauses, f_writing, f_openPairs, B, f_commits, f_lastClause, f_broken, f_cellLimit, f_goalLimit, f_clauseLimit, a_kind, a_first, a_second, a_ref, hk, a_order, a_goalPred, a_goalArg, gst, a_clausePred, a_itemCount, a_makeCount, a_spawnCount, a_itemOp, a_itemA, a_itemB, a_itemC, a_names)) → wpX_settle post (f_cells, f_goals, f_usedSlots, f_woken, f_clauses, f_writing, f_openPairs, f_blockedOn, f_commits, f_lastClause, f_broken, f_cellLimit, f_goalLimit, f_clauseLimit, a_kind, a_first, a_second, a_ref, a_hooks, a_order, a_goalPred, a_goalArg, a_goalState, a_clausePred, a_itemCount, a_makeCount, a_spawnCount, a_itemOp, a_itemA, a_itemB, a_itemC, a_names) (nI s) := by
  obtain ⟨RN, RK, RH, RG, RS⟩ := R
  have A := (RG.2.2 s hs hu).1
  have W := gh_C1_CW RK.1
  cases hw : bt f_woken s with
  | false =>
    obtain ⟨e1, e2⟩ := RS s hs hu hw
    refine ⟨f_woken, a_hooks, a_goalState, ⟨RN, RK, RH, RG, RS⟩, e1, e2, fun B post h => ?_⟩
    exact gh_seX RN.1.1 RN.1.2.2.1 hs RH.1 A W (fun _ => h _) (fun z => by rw [hw] at z; exact absurd z (by decide))
  | true =>
    have h2 : ∀ i, i < 32 → (bt (f_woken &&& (((1 : Int32) <<< (nI s &&& 31)) ^^^ (-1))) i = true ↔ (bt f_woken i = true ∧ i ≠ s)) := fun i hi => gh_clr (by omega) hi
    have h3 : ∀ v, v < nC → ∀ i, i < 32 → (bt (gh_hkf nC (fun v => gh_gs a_kind a_first (gh_H a_kind a_first a_second E a_goalArg s) a_itemOp a_itemA a_itemB a_itemCount a_clausePred (a_goalPred s) nK = 1 ∧ gh_wt a_kind a_first (gh_H a_kind a_first a_second E a_goalArg s) a_itemOp a_itemA a_itemB a_itemCount a_clausePred (a_goalPred s) nK v) ((1 : Int32) <<< (nI s &&& 31)) (gh_uhf nC (((1 : Int32) <<< (nI s &&& 31)) ^^^ (-1)) a_hooks) v) i = true ↔ ((bt (a_hooks v) i = true ∧ i ≠ s) ∨ (i = s ∧ gh_gs a_kind a_first (gh_H a_kind a_first a_second E a_goalArg s) a_itemOp a_itemA a_itemB a_itemCount a_clausePred (a_goalPred s) nK = 1 ∧ gh_wt a_kind a_first (gh_H a_kind a_first a_second E a_goalArg s) a_itemOp a_itemA a_itemB a_itemCount a_clausePred (a_goalPred s) nK v))) := fun v hv i hi => by
      rw [gh_hkf_b (by omega) hi hv, gh_uhf_b (by omega) hi hv]
    have RS2 := gh_RS_settle RS hs h2 h3
    obtain ⟨e1, e2⟩ := RS2 s hs hu (gh_nt.mpr (fun z => ((h2 s (by omega)).mp z).2 rfl))
    refine ⟨_, _, _, ⟨RN, RK, RH, RG, RS2⟩, e1, e2, fun B post h => ?_⟩
    exact gh_seX RN.1.1 RN.1.2.2.1 hs RH.1 A W (fun z => by rw [hw] at z; exact absurd z (by decide)) (fun _ B' => h B')
/-- what goal answers in the reference, for state and clause -/
theorem gh_stY {j s f : Nat} (R : gh_RR nC nG nK lc lg lk E f_cells f_goals f_usedSlots f_woken f_clauses f_writing f_openPairs f_blockedOn f_commits f_lastClause f_broken f_cellLimit f_goalLimit f_clauseLimit a_kind a_first a_second a_ref a_hooks a_order a_goalPred a_goalArg a_goalState a_clausePred a_itemCount a_makeCount a_spawnCount a_itemOp a_itemA a_itemB a_itemC a_names b_seenX b_seenY b_num b_value b_left b_right b_rec b_code) (hj : j < nG) (hs : s < 16) (hp : a_goalPred s = b_rec (j * 4)) (A : gh_AY nC E b_rec j (gh_G E a_goalArg s)) (hf : f = 4 ∨ f = 5) {post : Int32 → SY → Prop} (h : ∀ sx sy, post (if f = 4 then nI (gh_gs a_kind a_first (gh_H a_kind a_first a_second E a_goalArg s) a_itemOp a_itemA a_itemB a_itemCount a_clausePred (a_goalPred s) nK) else gh_ot (gh_fi (fun c => gh_cs a_kind a_first (gh_H a_kind a_first a_second E a_goalArg s) a_itemOp a_itemA a_itemB a_itemCount a_clausePred (a_goalPred s) c = 0) nK)) (sx, sy, b_num, a_kind, a_ref, b_value, b_left, b_right, b_rec, b_code, a_clausePred, a_itemCount)) : wpY_goal post (b_seenX, b_seenY, b_num, a_kind, a_ref, b_value, b_left, b_right, b_rec, b_code, a_clausePred, a_itemCount) (nI j) (nI f) := by
  obtain ⟨RN, RK, RH, RG, RS⟩ := R
  have n1 : b_num 1 = nI nG := RN.2.2.2.2.1.trans RN.1.2.1
  have n2 : b_num 2 = nI nK := RN.2.2.2.2.2.1.trans RN.1.2.2.1
  have hgl : nG ≤ lg := RN.2.2.1.2.2.1
  have hlg : lg ≤ 16 := RN.2.2.1.2.2.2.1
  have W := gh_C1_CW RK.1
  have f0 : ¬ nI f < 0 := nI_pos (by omega)
  have f5 : nI f ≤ 5 := nI_le (b := 5) (by omega) (by decide)
  refine br_f (nI_pos (by omega)) ?_
  rw [n1]
  refine br_f (nI_ge hj (by omega)) (br_f f0 (br_t f5 (br_f (gh_op (k := 0) (by omega) (by omega) (by omega)) (br_t (nI_lt (a := 3) (by omega) (by omega)) ?_))))
  refine gh_fsY (G := gh_G E a_goalArg s) (w := 0) rfl (by omega) n2 RH.1 RH.2.1 RH.2.2 A (by omega) RK.2.2 W (fun sx sy => ?_)
  refine gh_fsY (G := gh_G E a_goalArg s) (w := 1) rfl (by omega) n2 RH.1 RH.2.1 RH.2.2 A (by omega) RK.2.2 W (fun sx' sy' => ?_)
  have hh := h sx' sy'
  rw [← hp]
  rcases hf with rfl | rfl
  · refine br_f (by decide) ?_
    rcases gh_fi3 (kd := a_kind) (fs := a_first) (h := (gh_H a_kind a_first a_second E a_goalArg s)) (io := a_itemOp) (ia := a_itemA) (ib := a_itemB) (ic := a_itemCount) (cp := a_clausePred) (gp := a_goalPred s) (nK := nK) with ⟨e0, e1, e2⟩ | ⟨e0, ⟨c, hc, e1⟩, e2⟩ | ⟨⟨c, hc, _, _, e0⟩, e2⟩
    · rw [e2] at hh
      rw [show gh_fi (fun c => gh_cs a_kind a_first (gh_hd a_kind a_first a_second E (gh_G E a_goalArg s)) a_itemOp a_itemA a_itemB a_itemCount a_clausePred (a_goalPred s) c = 0) nK = none from e0, show gh_fi (fun c => gh_cs a_kind a_first (gh_hd a_kind a_first a_second E (gh_G E a_goalArg s)) a_itemOp a_itemA a_itemB a_itemCount a_clausePred (a_goalPred s) c = 1) nK = none from e1]
      exact br_t gh_m1neg (br_t gh_m1neg hh)
    · rw [e2] at hh
      have := (W c hc).1
      rw [show gh_fi (fun c => gh_cs a_kind a_first (gh_hd a_kind a_first a_second E (gh_G E a_goalArg s)) a_itemOp a_itemA a_itemB a_itemCount a_clausePred (a_goalPred s) c = 0) nK = none from e0, show gh_fi (fun c => gh_cs a_kind a_first (gh_hd a_kind a_first a_second E (gh_G E a_goalArg s)) a_itemOp a_itemA a_itemB a_itemCount a_clausePred (a_goalPred s) c = 1) nK = some c from e1]
      exact br_t gh_m1neg (br_f (nI_pos (n := c) (by omega)) hh)
    · rw [e2] at hh
      have := (W c hc).1
      rw [show gh_fi (fun c => gh_cs a_kind a_first (gh_hd a_kind a_first a_second E (gh_G E a_goalArg s)) a_itemOp a_itemA a_itemB a_itemCount a_clausePred (a_goalPred s) c = 0) nK = some c from e0]
      exact br_f (nI_pos (n := c) (by omega)) hh
  · exact br_t rfl hh
theorem gh_goal {k : Nat} (R : gh_RR nC nG nK lc lg lk E f_cells f_goals f_usedSlots f_woken f_clauses f_writing f_openPairs f_blockedOn f_commits f_lastClause f_broken f_cellLimit f_goalLimit f_clauseLimit a_kind a_first a_second a_ref a_hooks a_order a_goalPred a_goalArg a_goalState a_clausePred a_itemCount a_makeCount a_spawnCount a_itemOp a_itemA a_itemB a_itemC a_names b_seenX b_seenY b_num b_value b_left b_right b_rec b_code) (v1 v2 : Int32) : wpX_goal (fun r u' => wpY_goal (fun r' v' => r' = r ∧ i_Rel k u' v') (b_seenX, b_seenY, b_num, a_kind, a_ref, b_value, b_left, b_right, b_rec, b_code, a_clausePred, a_itemCount) v1 v2) (f_cells, f_goals, f_usedSlots, f_woken, f_clauses, f_writing, f_openPairs, f_blockedOn, f_commits, f_lastClause, f_broken, f_cellLimit, f_goalLimit, f_clauseLimit, a_kind, a_first, a_second, a_ref, a_hooks, a_order, a_goalPred, a_goalArg, a_goalState, a_clausePred, a_itemCount, a_makeCount, a_spawnCount, a_itemOp, a_itemA, a_itemB, a_itemC, a_names) v1 v2 := by
  have R' := R
  obtain ⟨RN, RK, RH, RG, RS⟩ := R
  have n1 : b_num 1 = nI nG := RN.2.2.2.2.1.trans RN.1.2.1
  have hgl : nG ≤ lg := RN.2.2.1.2.2.1
  have hlg : lg ≤ 16 := RN.2.2.1.2.2.2.1
  have h64 := RH.1.1.1
  have W := gh_C1_CW RK.1
  have I0 : i_Rel k (f_cells, f_goals, f_usedSlots, f_woken, f_clauses, f_writing, f_openPairs, f_blockedOn, f_commits, f_lastClause, f_broken, f_cellLimit, f_goalLimit, f_clauseLimit, a_kind, a_first, a_second, a_ref, a_hooks, a_order, a_goalPred, a_goalArg, a_goalState, a_clausePred, a_itemCount, a_makeCount, a_spawnCount, a_itemOp, a_itemA, a_itemB, a_itemC, a_names) (b_seenX, b_seenY, b_num, a_kind, a_ref, b_value, b_left, b_right, b_rec, b_code, a_clausePred, a_itemCount) := gh_in R'
  rcases pk_ix v1 (n := nG) (by omega) with z | z | ⟨j, hj, rfl⟩
  · exact br_t z (br_t z ⟨rfl, I0⟩)
  · have z0 : ¬ v1 < 0 := fun y => nI_pos (n := nG) (by omega) (Int32.lt_of_le_of_lt z y)
    refine br_f z0 (br_t (by rw [RN.1.2.1]; exact z) (br_f z0 (br_t (by rw [n1]; exact z) ⟨rfl, I0⟩)))
  · have j0 : ¬ nI j < 0 := nI_pos (by omega)
    have jX : ¬ f_goals ≤ nI j := by rw [RN.1.2.1]; exact nI_ge hj (by omega)
    have jY : ¬ b_num 1 ≤ nI j := by rw [n1]; exact nI_ge hj (by omega)
    rcases pk_ix v2 (n := 6) (by decide) with z | z | ⟨f, hf, rfl⟩
    · exact br_f j0 (br_f jX (br_t z (br_f j0 (br_f jY (br_t z ⟨rfl, I0⟩)))))
    · have z9 : 5 < v2 := Int32.lt_of_lt_of_le (show (5 : Int32) < nI 6 by decide) z
      have z0 : ¬ v2 < 0 := fun y => absurd (Int32.lt_trans z9 y) (by decide)
      exact br_f j0 (br_f jX (br_f z0 (br_f (Int32.not_le.mpr z9) (br_f j0 (br_f jY (br_f z0 (br_f (Int32.not_le.mpr z9) ⟨rfl, I0⟩)))))))
    · have f0 : ¬ nI f < 0 := nI_pos (by omega)
      have f5 : nI f ≤ 5 := nI_le (b := 5) (by omega) (by decide)
      obtain ⟨s, hs, ho, hu, hp, A⟩ := RG.1 j hj
      have vs : vp_in (nI s) 16 := vp_in_nI hs (by omega)
      have cs : (nI s).toNatClampNeg = s := nI_clamp (by omega)
      have Ax := (RG.2.2 s hs hu).1
      refine br_f j0 (br_f jX (br_f f0 (br_t f5 (And.intro (vp_in_nI (by omega) (by omega)) ?_))))
      rw [nI_clamp (n := j) (by omega), ho]
      refine nm_e ?_
      by_cases e0 : f = 0
      · subst e0
        refine br_t rfl (And.intro vs ?_)
        rw [cs]
        refine br_f j0 (br_f jY (br_f f0 (br_t f5 (br_t rfl ?_))))
        rw [show nI j * 4 = nI (j * 4) from pk_mul j 4, nI_clamp (by omega)]
        exact And.intro (vp_in_nI (by omega) (by omega)) ⟨hp.symm, I0⟩
      · have ne0 : ¬ nI f = 0 := gh_op (k := 0) (by omega) (by omega) e0
        refine br_f ne0 ?_
        by_cases f3 : 3 < f
        · refine br_t (nI_lt (a := 3) f3 (by omega)) ?_
          obtain ⟨wk, hk, gst, R2, eg, _, hX⟩ := gh_set1 R' hs hu
          refine hX _ _ (fun B => ?_)
          have : f = 4 ∨ f = 5 := by omega
          rcases this with rfl | rfl
          · refine br_t rfl (And.intro vs ?_)
            rw [cs]
            refine gh_stY R2 hj hs hp A (Or.inl rfl) (fun sx sy => ⟨?_, gh_in R2⟩)
            rw [eg]; rfl
          · refine br_f (by decide) (And.intro vs ?_)
            rw [cs, eg]
            have lgs := gh_gs_le (kd := a_kind) (fs := a_first) (h := (gh_H a_kind a_first a_second E a_goalArg s)) (io := a_itemOp) (ia := a_itemA) (ib := a_itemB) (ic := a_itemCount) (cp := a_clausePred) (gp := a_goalPred s) (n := nK)
            refine pk_eq (gh_gs a_kind a_first (gh_H a_kind a_first a_second E a_goalArg s) a_itemOp a_itemA a_itemB a_itemCount a_clausePred (a_goalPred s) nK) 0 (fun g0 => ?_) (fun g0 => ?_)
            · refine gh_ocX R2.1.1.2.2.1 hs R2.2.2.1.1 Ax W (fun B' => ?_)
              refine gh_stY R2 hj hs hp A (Or.inr rfl) (fun sx sy => ⟨?_, gh_in R2⟩)
              rw [if_neg (by decide)]
              exact congrArg gh_ot (gh_fi_eq (fun c => gh_cs_i (by omega)) nK)
            · refine gh_stY R2 hj hs hp A (Or.inr rfl) (fun sx sy => ⟨?_, gh_in R2⟩)
              rw [if_neg (by decide)]
              rcases gh_fi3 (kd := a_kind) (fs := a_first) (h := (gh_H a_kind a_first a_second E a_goalArg s)) (io := a_itemOp) (ia := a_itemA) (ib := a_itemB) (ic := a_itemCount) (cp := a_clausePred) (gp := a_goalPred s) (nK := nK) with ⟨e0, e1, e2⟩ | ⟨e0, ⟨c, hc, e1⟩, e2⟩ | ⟨⟨c, hc, _, _, e0⟩, e2⟩
              · rw [e0]; rfl
              · rw [e0]; rfl
              · exact absurd e2 g0
        · have nf3 : ¬ 3 < nI f := nI_nlt (b := f) (a := 3) (by omega) (by omega)
          refine br_f nf3 ?_
          have ei : nI s * 3 + nI f - 1 = nI (s * 3 + (f - 1)) := by
            rw [gh_ix3]
            exact (pk_sub (b := 1) (by omega)).trans (congrArg nI (by omega))
          rw [ei, nI_clamp (n := s * 3 + (f - 1)) (by omega)]
          refine And.intro (vp_in_nI (by omega) (by omega)) ?_
          refine gh_fX RH.1.1 (Ax (f - 1) (by omega)) ?_
          refine br_f j0 (br_f jY (br_f f0 (br_t f5 (br_f ne0 (br_f nf3 ?_)))))
          obtain ⟨y1, y2⟩ := A (f - 1) (by omega)
          have e5 : j * 4 + 1 + (f - 1) = j * 4 + f := by omega
          rw [e5] at y1 y2
          rw [show nI j * 4 = nI (j * 4) from pk_mul j 4, nI_add, nI_clamp (n := j * 4 + f) (by omega)]
          refine And.intro (vp_in_nI (by omega) (by omega)) (gh_fY RH.1.1 y1 ⟨?_, I0⟩)
          rw [y2]; rfl
/-! waits -/
theorem gh_hb_1 {kd fs : Nat → Int32} {h : Nat → Option Nat} {op a b : Int32} (ho : gh_nine op) {t v : Nat} (k : gh_hb kd fs h op a b t v) : gh_hv kd fs h op a b t = 1 := by
  have k1 : ∀ w x, gh_k1 kd x v → gh_kt kd w x = 1 := fun w x z => by
    rw [z.2]; exact if_pos z.1
  rcases k with ⟨rfl, ⟨rfl, k⟩ | ⟨z, k⟩⟩ | ⟨n10, rfl, k⟩
  · exact k1 1 _ k
  · refine (if_pos rfl).trans ((if_neg z).trans (k1 1 _ k))
  · refine (if_neg n10).trans ((if_pos rfl).trans ?_)
    rcases k with ⟨e, k⟩ | ⟨e, _⟩ | ⟨_, k, _⟩
    · rcases e with rfl | rfl | rfl | rfl
      · exact k1 2 _ k
      · rw [gh_tv_1, k.2]; exact if_pos k.1
      · exact k1 1 _ k
      · exact k1 1 _ k
    · exact absurd e n10
    · exact k
/-- found so far: in clauses below c, or in the first n halves of clause c -/
def gh_ok (kv : Int32) (x : Int32) (P : Prop) : Prop := (x = 0 ∨ x = 1) ∧ (kv = 0 → (x = 1 ↔ P))
theorem gh_wix {g c m v : Nat} {G : Nat → Nat} {Q : Prop} {x4 : Int32} (H : gh_HX nC a_kind a_ref a_first a_second E) (Hy : gh_HY nC a_kind a_first a_second b_left b_right E) (V : gh_VY nC a_kind a_first b_value) (A : gh_AY nC E b_rec g G) (hg : g ≤ 16) (D : gh_CD b_code a_itemOp a_itemA a_itemB a_itemC) (hc : c < 16) (hm : m ≤ 8) (ec : a_itemCount c = nI m) (W : ∀ i, i < m → gh_WI a_itemOp a_itemA a_itemB a_itemC c i) (hv : v < 64) {post : Int32 → SY → Prop} {J : Int32 → Int32 → Int32 → Int32 → (Nat → Int32) → (Nat → Int32) → (Nat → Int32) → (Nat → Int32) → (Nat → Int32) → (Nat → Int32) → (Nat → Int32) → (Nat → Int32) → (Nat → Int32) → (Nat → Int32) → Prop}
    (k : ∀ x sx sy, gh_ok (a_kind v) x (Q ∨ ∃ t, t < m * 2 ∧ gh_hb a_kind a_first (gh_hd a_kind a_first a_second E G) (a_itemOp (c * 8 + t / 2)) (a_itemA (c * 8 + t / 2)) (a_itemB (c * 8 + t / 2)) (t % 2) v) → J x (nI (c + 1)) sx sy b_num a_kind a_ref b_value b_left b_right b_rec b_code a_clausePred a_itemCount) :
    ∀ d q n x sx sy, q + d = m * 2 → d < n → gh_ok (a_kind v) x (Q ∨ ∃ t, t < q ∧ gh_hb a_kind a_first (gh_hd a_kind a_first a_second E G) (a_itemOp (c * 8 + t / 2)) (a_itemA (c * 8 + t / 2)) (a_itemB (c * 8 + t / 2)) (t % 2) v) → wY_waits_67 post J (nI g) (nI v) x4 (nI c) 2 n x (nI q) sx sy b_num a_kind a_ref b_value b_left b_right b_rec b_code a_clausePred a_itemCount := by
  have vc : vp_in (nI c) 16 := vp_in_nI hc (by omega)
  have cc : (nI c).toNatClampNeg = c := nI_clamp (by omega)
  intro d
  induction d with
  | zero =>
    intro q n x sx sy hq hn hx
    obtain ⟨n, rfl⟩ : ∃ n', n = n' + 1 := ⟨n - 1, by omega⟩
    obtain rfl : q = m * 2 := by omega
    refine br_t rfl (And.intro vc ?_)
    rw [cc, ec, show nI m * 2 = nI (m * 2) from pk_mul m 2]
    exact br_t (nI_le (Nat.le_refl _) (by omega)) (nm_r (nI_1 c) (k x sx sy hx))
  | succ d ih =>
    intro q n x sx sy hq hn hx
    obtain ⟨n, rfl⟩ : ∃ n', n = n' + 1 := ⟨n - 1, by omega⟩
    refine br_t rfl (And.intro vc ?_)
    rw [cc, ec, show nI m * 2 = nI (m * 2) from pk_mul m 2]
    refine br_f (nI_ge (by omega) (by omega)) (And.intro gh_20 (And.intro gh_20 ?_))
    rw [gh_it2' (by omega), gh_itr (by omega)]
    have Wi := W (q / 2) (by omega)
    refine gh_vdY H Hy V A hg (by omega) (by omega) D (gh_WI_9 Wi) (fun x hx => ?_) (fun sx' sy' hsn => ?_)
    · obtain ⟨n, h1, h2, _⟩ := gh_WI_us Wi hx
      exact ⟨n, h1, h2⟩
    · have lh := gh_hv_le (kd := a_kind) (fs := a_first) (h := (gh_hd a_kind a_first a_second E G)) (op := a_itemOp (c * 8 + q / 2)) (a := a_itemA (c * 8 + q / 2)) (b := a_itemB (c * 8 + q / 2)) (t := q % 2) (by omega)
      have hb1 := gh_hb_1 (kd := a_kind) (fs := a_first) (h := (gh_hd a_kind a_first a_second E G)) (a := a_itemA (c * 8 + q / 2)) (b := a_itemB (c * 8 + q / 2)) (gh_WI_9 Wi) (t := q % 2) (v := v)
      have split : (∃ t, t < q + 1 ∧ gh_hb a_kind a_first (gh_hd a_kind a_first a_second E G) (a_itemOp (c * 8 + t / 2)) (a_itemA (c * 8 + t / 2)) (a_itemB (c * 8 + t / 2)) (t % 2) v) ↔ ((∃ t, t < q ∧ gh_hb a_kind a_first (gh_hd a_kind a_first a_second E G) (a_itemOp (c * 8 + t / 2)) (a_itemA (c * 8 + t / 2)) (a_itemB (c * 8 + t / 2)) (t % 2) v) ∨ gh_hb a_kind a_first (gh_hd a_kind a_first a_second E G) (a_itemOp (c * 8 + q / 2)) (a_itemA (c * 8 + q / 2)) (a_itemB (c * 8 + q / 2)) (q % 2) v) := by
        constructor
        · rintro ⟨t, ht, z⟩
          by_cases e : t = q
          · rw [e] at z; exact Or.inr z
          · exact Or.inl ⟨t, by omega, z⟩
        · rintro (⟨t, ht, z⟩ | z)
          · exact ⟨t, by omega, z⟩
          · exact ⟨q, by omega, z⟩
      have no : (a_kind v = 0 → ¬ gh_hb a_kind a_first (gh_hd a_kind a_first a_second E G) (a_itemOp (c * 8 + q / 2)) (a_itemA (c * 8 + q / 2)) (a_itemB (c * 8 + q / 2)) (q % 2) v) → wY_waits_67 post J (nI g) (nI v) x4 (nI c) 2 n x (nI (q + 1)) sx' sy' b_num a_kind a_ref b_value b_left b_right b_rec b_code a_clausePred a_itemCount := fun nb => by
        refine ih (q + 1) n x sx' sy' (by omega) (by omega) ⟨hx.1, fun k0 => ?_⟩
        rw [hx.2 k0, split]
        exact ⟨fun z => z.elim Or.inl (fun z => Or.inr (Or.inl z)), fun z => z.elim Or.inl (fun z => z.elim Or.inr (fun y => absurd y (nb k0)))⟩
      have yes : (a_kind v = 0 → gh_hb a_kind a_first (gh_hd a_kind a_first a_second E G) (a_itemOp (c * 8 + q / 2)) (a_itemA (c * 8 + q / 2)) (a_itemB (c * 8 + q / 2)) (q % 2) v) → wY_waits_67 post J (nI g) (nI v) x4 (nI c) 2 n 1 (nI (q + 1)) sx' sy' b_num a_kind a_ref b_value b_left b_right b_rec b_code a_clausePred a_itemCount := fun hb => by
        refine ih (q + 1) n 1 sx' sy' (by omega) (by omega) ⟨Or.inr rfl, fun k0 => ⟨fun _ => Or.inr (split.mpr (Or.inr (hb k0))), fun _ => rfl⟩⟩
      generalize gh_hv a_kind a_first (gh_hd a_kind a_first a_second E G) (a_itemOp (c * 8 + q / 2)) (a_itemA (c * 8 + q / 2)) (a_itemB (c * 8 + q / 2)) (q % 2) = w at lh hb1 hsn
      rcases gh_yc_in lh with ⟨rfl, e⟩ | ⟨rfl, e⟩ | ⟨rfl, e⟩
      · exact br_f (by decide) (nm_r (nI_1 q) (no (fun _ z => absurd (hb1 z) (by decide))))
      · have hs2 := hsn rfl v hv
        refine br_t rfl (br_c (fun a => nm_r (nI_1 q) (no (fun k0 z => ?_))) (fun a => br_c (fun b => nm_r (nI_1 q) (no (fun k0 z => ?_))) (fun b => br_c (fun c => nm_r (nI_1 q) (yes (fun k0 => ?_))) (fun c => br_c (fun d => nm_r (nI_1 q) (yes (fun k0 => ?_))) (fun d => nm_r (nI_1 q) (no (fun k0 z => ?_)))))))
        · exact ((hs2 k0).mpr z).1 a
        · exact ((hs2 k0).mpr z).2.1 b
        · exact (hs2 k0).mp ⟨a, b, Or.inl c⟩
        · exact (hs2 k0).mp ⟨a, b, Or.inr d⟩
        · exact ((hs2 k0).mpr z).2.2.elim c d
      · exact br_f (by decide) (nm_r (nI_1 q) (no (fun _ z => absurd (hb1 z) (by decide))))
theorem gh_hb_cb {g c m v : Nat} {kd fs : Nat → Int32} {h : Nat → Option Nat} {io ia ib : Nat → Int32} : (∃ t, t < m * 2 ∧ gh_hb kd fs h (io (c * 8 + t / 2)) (ia (c * 8 + t / 2)) (ib (c * 8 + t / 2)) (t % 2) v) ↔ gh_cb kd fs h io ia ib c m v := by
  constructor
  · rintro ⟨t, ht, z⟩
    refine ⟨t / 2, by omega, gh_hb_or.mpr ?_⟩
    have : t % 2 = 0 ∨ t % 2 = 1 := by omega
    rcases this with e | e
    · rw [e] at z; exact Or.inl z
    · rw [e] at z; exact Or.inr z
  · rintro ⟨i, hi, z⟩
    rcases gh_hb_or.mp z with z | z
    · refine ⟨i * 2, by omega, ?_⟩
      rw [show i * 2 / 2 = i by omega, show i * 2 % 2 = 0 by omega]
      exact z
    · refine ⟨i * 2 + 1, by omega, ?_⟩
      rw [show (i * 2 + 1) / 2 = i by omega, show (i * 2 + 1) % 2 = 1 by omega]
      exact z
theorem gh_wox {g v : Nat} {G : Nat → Nat} {x4 : Int32} (hK : b_num 2 = nI nK) (H : gh_HX nC a_kind a_ref a_first a_second E) (Hy : gh_HY nC a_kind a_first a_second b_left b_right E) (V : gh_VY nC a_kind a_first b_value) (A : gh_AY nC E b_rec g G) (hg : g ≤ 16) (D : gh_CD b_code a_itemOp a_itemA a_itemB a_itemC) (W : gh_CW nK a_itemCount a_itemOp a_itemA a_itemB a_itemC) (hv : v < 64) {post : Int32 → SY → Prop}
    (k : ∀ x sx sy, gh_ok (a_kind v) x (gh_wt a_kind a_first (gh_hd a_kind a_first a_second E G) a_itemOp a_itemA a_itemB a_itemCount a_clausePred (b_rec (g * 4)) nK v) → ((x = 0 → post 0 (sx, sy, b_num, a_kind, a_ref, b_value, b_left, b_right, b_rec, b_code, a_clausePred, a_itemCount)) ∧ (¬ x = 0 → ((x4 = 1 → (vp_in (nI v) 64 ∧ ((a_kind v = 0 → post 1 (sx, sy, b_num, a_kind, a_ref, b_value, b_left, b_right, b_rec, b_code, a_clausePred, a_itemCount)) ∧ (¬ a_kind v = 0 → post 0 (sx, sy, b_num, a_kind, a_ref, b_value, b_left, b_right, b_rec, b_code, a_clausePred, a_itemCount))))) ∧ (¬ x4 = 1 → post 0 (sx, sy, b_num, a_kind, a_ref, b_value, b_left, b_right, b_rec, b_code, a_clausePred, a_itemCount)))))) :
    ∀ d c n x sx sy, c + d = nK → d < n → gh_ok (a_kind v) x (gh_wt a_kind a_first (gh_hd a_kind a_first a_second E G) a_itemOp a_itemA a_itemB a_itemCount a_clausePred (b_rec (g * 4)) c v) → wY_waits_44 post (nI g) (nI v) x4 n x (nI c) sx sy b_num a_kind a_ref b_value b_left b_right b_rec b_code a_clausePred a_itemCount := by
  have h16 : nK ≤ 16 := by
    rcases Nat.eq_zero_or_pos nK with z | z
    · omega
    · have := (W (nK - 1) (by omega)).1
      omega
  intro d
  induction d with
  | zero =>
    intro c n x sx sy hc hn hx
    obtain ⟨n, rfl⟩ : ∃ n', n = n' + 1 := ⟨n - 1, by omega⟩
    obtain rfl : c = nK := by omega
    refine br_t (by rw [hK]; exact nI_le (Nat.le_refl _) (by omega)) ?_
    rw [nI_clamp (n := v) (by omega)]
    exact k x sx sy hx
  | succ d ih =>
    intro c n x sx sy hc hn hx
    obtain ⟨n, rfl⟩ : ∃ n', n = n' + 1 := ⟨n - 1, by omega⟩
    obtain ⟨c16, m, hm, em, Wc⟩ := W c (by omega)
    refine br_f (by rw [hK]; exact nI_ge (by omega) (by omega)) ?_
    refine gh_csY H Hy V A hg D c16 hm em Wc (fun sx' sy' => ?_)
    have emc : (a_itemCount c).toNatClampNeg = m := by rw [em, nI_clamp (by omega)]
    have lc : gh_cs a_kind a_first (gh_hd a_kind a_first a_second E G) a_itemOp a_itemA a_itemB a_itemCount a_clausePred (b_rec (g * 4)) c ≤ 2 := by
      unfold gh_cs
      split
      · exact gh_cv_le
      · omega
    by_cases z : gh_cs a_kind a_first (gh_hd a_kind a_first a_second E G) a_itemOp a_itemA a_itemB a_itemCount a_clausePred (b_rec (g * 4)) c = 1
    · rw [z]
      obtain ⟨z1, z2⟩ := (gh_cs_i (by omega)).mp z
      refine Exists.intro (m * 2 + 1) (gh_wix (Q := gh_wt a_kind a_first (gh_hd a_kind a_first a_second E G) a_itemOp a_itemA a_itemB a_itemCount a_clausePred (b_rec (g * 4)) c v) H Hy V A hg D c16 hm em Wc hv (fun x' sx2 sy2 hx' => ih (c + 1) n x' sx2 sy2 (by omega) (by omega) ⟨hx'.1, fun k0 => ?_⟩) (m * 2) 0 (m * 2 + 1) x sx' sy' (by omega) (by omega) ⟨hx.1, fun k0 => ?_⟩)
      · rw [hx'.2 k0, gh_hb_cb (g := 0), gh_wt_s, emc]
        exact ⟨fun y => y.elim Or.inl (fun y => Or.inr ⟨z1, z2, y⟩), fun y => y.elim Or.inl (fun y => Or.inr y.2.2)⟩
      · rw [hx.2 k0]
        exact ⟨Or.inl, fun y => y.elim id (fun ⟨_, h0, _⟩ => absurd h0 (Nat.not_lt_zero _))⟩
    · refine Exists.intro 1 (br_f ?_ (nm_r (nI_1 c) (ih (c + 1) n x sx' sy' (by omega) (by omega) ⟨hx.1, fun k0 => ?_⟩)))
      · rcases gh_yc_in lc with ⟨e0, e⟩ | ⟨e0, e⟩ | ⟨e0, e⟩
        · rw [e]; decide
        · exact absurd e0 z
        · rw [e]; decide
      · rw [hx.2 k0, gh_wt_s]
        exact ⟨Or.inl, fun y => y.elim id (fun y => absurd ((gh_cs_i (by omega)).mpr ⟨y.1, y.2.1⟩) z)⟩
theorem gh_waits {k : Nat} (R : gh_RR nC nG nK lc lg lk E f_cells f_goals f_usedSlots f_woken f_clauses f_writing f_openPairs f_blockedOn f_commits f_lastClause f_broken f_cellLimit f_goalLimit f_clauseLimit a_kind a_first a_second a_ref a_hooks a_order a_goalPred a_goalArg a_goalState a_clausePred a_itemCount a_makeCount a_spawnCount a_itemOp a_itemA a_itemB a_itemC a_names b_seenX b_seenY b_num b_value b_left b_right b_rec b_code) (v1 v2 : Int32) : wpX_waits (fun r u' => wpY_waits (fun r' v' => r' = r ∧ i_Rel k u' v') (b_seenX, b_seenY, b_num, a_kind, a_ref, b_value, b_left, b_right, b_rec, b_code, a_clausePred, a_itemCount) v1 v2) (f_cells, f_goals, f_usedSlots, f_woken, f_clauses, f_writing, f_openPairs, f_blockedOn, f_commits, f_lastClause, f_broken, f_cellLimit, f_goalLimit, f_clauseLimit, a_kind, a_first, a_second, a_ref, a_hooks, a_order, a_goalPred, a_goalArg, a_goalState, a_clausePred, a_itemCount, a_makeCount, a_spawnCount, a_itemOp, a_itemA, a_itemB, a_itemC, a_names) v1 v2 := by
  have R' := R
  obtain ⟨RN, RK, RH, RG, RS⟩ := R
  have n0 : b_num 0 = nI nC := RN.2.2.2.1.trans RN.1.1
  have n1 : b_num 1 = nI nG := RN.2.2.2.2.1.trans RN.1.2.1
  have n2 : b_num 2 = nI nK := RN.2.2.2.2.2.1.trans RN.1.2.2.1
  have hgl : nG ≤ lg := RN.2.2.1.2.2.1
  have hlg : lg ≤ 16 := RN.2.2.1.2.2.2.1
  have h64 := RH.1.1.1
  have W := gh_C1_CW RK.1
  have I0 : i_Rel k (f_cells, f_goals, f_usedSlots, f_woken, f_clauses, f_writing, f_openPairs, f_blockedOn, f_commits, f_lastClause, f_broken, f_cellLimit, f_goalLimit, f_clauseLimit, a_kind, a_first, a_second, a_ref, a_hooks, a_order, a_goalPred, a_goalArg, a_goalState, a_clausePred, a_itemCount, a_makeCount, a_spawnCount, a_itemOp, a_itemA, a_itemB, a_itemC, a_names) (b_seenX, b_seenY, b_num, a_kind, a_ref, b_value, b_left, b_right, b_rec, b_code, a_clausePred, a_itemCount) := gh_in R'
  rcases pk_ix v1 (n := nG) (by omega) with z | z | ⟨j, hj, rfl⟩
  · exact br_t z (br_t z ⟨rfl, I0⟩)
  · have z0 : ¬ v1 < 0 := fun y => nI_pos (n := nG) (by omega) (Int32.lt_of_le_of_lt z y)
    refine br_f z0 (br_t (by rw [RN.1.2.1]; exact z) (br_f z0 (br_t (by rw [n1]; exact z) ⟨rfl, I0⟩)))
  · have j0 : ¬ nI j < 0 := nI_pos (by omega)
    have jX : ¬ f_goals ≤ nI j := by rw [RN.1.2.1]; exact nI_ge hj (by omega)
    have jY : ¬ b_num 1 ≤ nI j := by rw [n1]; exact nI_ge hj (by omega)
    refine br_f j0 (br_f jX ?_)
    refine gh_icX RN.1.1 h64 (fun hc => br_f (by decide) ?_) (fun hc => br_t rfl (br_f j0 (br_f jY (gh_icY n0 h64 (fun z => absurd z hc) (fun _ => br_t rfl ⟨rfl, I0⟩)))))
    obtain ⟨s, hs, ho, hu, hp, A⟩ := RG.1 j hj
    refine And.intro (vp_in_nI (by omega) (by omega)) ?_
    rw [nI_clamp (n := j) (by omega), ho]
    refine nm_e ?_
    obtain ⟨wk, hk, gst, R2, eg, eh, hX⟩ := gh_set1 R' hs hu
    refine hX _ _ (fun B => ?_)
    refine gh_fX RH.1.1 hc ?_
    have pn : E v2.toNatClampNeg < nC := gh_Ht_e RH.1.1 (gh_vn hc)
    have toY : ∀ (post : Int32 → SY → Prop), (∀ x sx sy, gh_ok (a_kind (E v2.toNatClampNeg)) x (gh_wt a_kind a_first (gh_H a_kind a_first a_second E a_goalArg s) a_itemOp a_itemA a_itemB a_itemCount a_clausePred (a_goalPred s) nK (E v2.toNatClampNeg)) → ((x = 0 → post 0 (sx, sy, b_num, a_kind, a_ref, b_value, b_left, b_right, b_rec, b_code, a_clausePred, a_itemCount)) ∧ (¬ x = 0 → ((nI (gh_gs a_kind a_first (gh_H a_kind a_first a_second E a_goalArg s) a_itemOp a_itemA a_itemB a_itemCount a_clausePred (a_goalPred s) nK) = 1 → (vp_in (nI (E v2.toNatClampNeg)) 64 ∧ ((a_kind (E v2.toNatClampNeg) = 0 → post 1 (sx, sy, b_num, a_kind, a_ref, b_value, b_left, b_right, b_rec, b_code, a_clausePred, a_itemCount)) ∧ (¬ a_kind (E v2.toNatClampNeg) = 0 → post 0 (sx, sy, b_num, a_kind, a_ref, b_value, b_left, b_right, b_rec, b_code, a_clausePred, a_itemCount))))) ∧ (¬ nI (gh_gs a_kind a_first (gh_H a_kind a_first a_second E a_goalArg s) a_itemOp a_itemA a_itemB a_itemCount a_clausePred (a_goalPred s) nK) = 1 → post 0 (sx, sy, b_num, a_kind, a_ref, b_value, b_left, b_right, b_rec, b_code, a_clausePred, a_itemCount)))))) → wpY_waits post (b_seenX, b_seenY, b_num, a_kind, a_ref, b_value, b_left, b_right, b_rec, b_code, a_clausePred, a_itemCount) (nI j) v2 := by
      intro post h
      refine br_f j0 (br_f jY (gh_icY n0 h64 (fun _ => br_f (by decide) ?_) (fun z => absurd hc z)))
      refine gh_fY RH.1.1 hc ?_
      refine gh_stY R' hj hs hp A (Or.inl rfl) (fun sx sy => ?_)
      rw [hp] at h
      refine Exists.intro (nK + 1) (gh_wox (G := gh_G E a_goalArg s) n2 RH.1 RH.2.1 RH.2.2 A (by omega) RK.2.2 W (by omega) ?_ nK 0 (nK + 1) 0 sx sy (by omega) (by omega) ⟨Or.inl rfl, fun _ => ⟨fun z => absurd z (by decide), fun ⟨_, h0, _⟩ => absurd h0 (Nat.not_lt_zero _)⟩⟩)
      rw [hp]
      exact h
    generalize hv : E v2.toNatClampNeg = v at pn toY
    have vv : vp_in (nI v) 64 := vp_in_nI (by omega) (by omega)
    refine And.intro vv ?_
    rw [nI_clamp (n := v) (by omega)]
    have lgs := gh_gs_le (kd := a_kind) (fs := a_first) (h := (gh_H a_kind a_first a_second E a_goalArg s)) (io := a_itemOp) (ia := a_itemA) (ib := a_itemB) (ic := a_itemCount) (cp := a_clausePred) (gp := a_goalPred s) (n := nK)
    refine br_c (fun k0 => And.intro vv ?_) (fun k0 => ?_)
    · refine br_c (fun hb => ?_) (fun hb => ?_)
      · have hb' := (gh_t0 (by omega)).mp hb
        rw [gh_nt, eh v pn] at hb'
        refine toY _ (fun x sx sy hx => br_c (fun _ => ⟨rfl, gh_in R2⟩) (fun hx0 => br_c (fun g1 => ?_) (fun _ => ⟨rfl, gh_in R2⟩)))
        have x1 : x = 1 := hx.1.resolve_left hx0
        have g1' : gh_gs a_kind a_first (gh_H a_kind a_first a_second E a_goalArg s) a_itemOp a_itemA a_itemB a_itemCount a_clausePred (a_goalPred s) nK = 1 := (nI_eq (b := 1) (by omega) (by omega)).mp g1
        exact absurd ⟨g1', (hx.2 k0).mp x1⟩ hb'
      · have hb' := (gh_t1 (by omega)).mp hb
        obtain ⟨g1, w1⟩ := (eh v pn).mp hb'
        refine toY _ (fun x sx sy hx => ?_)
        have x1 : x = 1 := (hx.2 k0).mpr w1
        rw [x1]
        refine br_f (by decide) (br_t (by rw [g1]; rfl) (And.intro vv (br_t k0 ⟨rfl, gh_in R2⟩)))
    · refine toY _ (fun x sx sy hx => br_c (fun _ => ⟨rfl, gh_in R2⟩) (fun hx0 => br_c (fun g1 => And.intro vv (br_f k0 ⟨rfl, gh_in R2⟩)) (fun _ => ⟨rfl, gh_in R2⟩)))
end
theorem i_vc_goal {k : Nat} {u : SX} {v : SY} (I : i_Rel k u v) (hk : k + 5 ≤ 2563) (v1 : Int32) (v2 : Int32) : wpX_goal (fun r u' => wpY_goal (fun r' v' => r' = r ∧ i_Rel (k + 5) u' v') v v1 v2) u v1 v2 := by
  refine gh_el (P := fun u v => wpX_goal (fun r u' => wpY_goal (fun r' v' => r' = r ∧ i_Rel (k + 5) u' v') v v1 v2) u v1 v2) ?_ I
  intros
  rename_i R
  exact gh_goal (k := k + 5) R v1 v2
theorem i_vc_waits {k : Nat} {u : SX} {v : SY} (I : i_Rel k u v) (hk : k + 5 ≤ 2563) (v1 : Int32) (v2 : Int32) : wpX_waits (fun r u' => wpY_waits (fun r' v' => r' = r ∧ i_Rel (k + 5) u' v') v v1 v2) u v1 v2 := by
  refine gh_el (P := fun u v => wpX_waits (fun r u' => wpY_waits (fun r' v' => r' = r ∧ i_Rel (k + 5) u' v') v v1 v2) u v1 v2) ?_ I
  intros
  rename_i R
  exact gh_waits (k := k + 5) R v1 v2
end
section
/-! item -/
section
variable {io ia ib ix ic mk sp io' ia' ib' ix' ic' mk' sp' : Nat → Int32} {c i : Nat}
theorem gh_HN_cg (k : ∀ j, j < i → io' (c * 8 + j) = io (c * 8 + j) ∧ ia' (c * 8 + j) = ia (c * 8 + j)) {x : Int32} : gh_HN io' ia' c i x ↔ gh_HN io ia c i x := by
  constructor
  · rintro ⟨n, h1, h2, h3⟩
    refine ⟨n, h1, h2, h3.imp id (fun ⟨j, a, b, d⟩ => ⟨j, a, ?_, ?_⟩)⟩
    · rw [← (k j a).1]; exact b
    · rw [← (k j a).2]; exact d
  · rintro ⟨n, h1, h2, h3⟩
    refine ⟨n, h1, h2, h3.imp id (fun ⟨j, a, b, d⟩ => ⟨j, a, ?_, ?_⟩)⟩
    · rw [(k j a).1]; exact b
    · rw [(k j a).2]; exact d
theorem gh_cnt_cg {lo hi : Int32} (k : ∀ j, j < i → io' (c * 8 + j) = io (c * 8 + j)) : gh_cnt io' lo hi c i = gh_cnt io lo hi c i := by
  induction i with
  | zero => rfl
  | succ i ih =>
    show gh_cnt io' lo hi c i + _ = gh_cnt io lo hi c i + _
    rw [ih (fun j hj => k j (by omega)), k i (by omega)]
theorem gh_BN_cg (k : ∀ j, j < i → io' (c * 8 + j) = io (c * 8 + j) ∧ ia' (c * 8 + j) = ia (c * 8 + j)) {x : Int32} : gh_BN io' ia' c i x ↔ gh_BN io ia c i x := by
  unfold gh_BN
  rw [gh_HN_cg k, gh_cnt_cg (fun j hj => (k j hj).1)]
theorem gh_Fit_mono {P Q P' Q' : Int32 → Prop} {o : Nat} {a b d : Int32} (hP : ∀ x, P x → P' x) (hQ : ∀ x, Q x → Q' x) (h : gh_Fit P Q o a b d) : gh_Fit P' Q' o a b d := by
  rcases h with h | ⟨h, h1⟩ | ⟨h, h1, h2⟩ | h | ⟨h, h1, h2⟩ | ⟨h, h1, h2, h3⟩
  · exact Or.inl h
  · exact Or.inr (Or.inl ⟨h, hP _ h1⟩)
  · exact Or.inr (Or.inr (Or.inl ⟨h, hP _ h1, hP _ h2⟩))
  · exact Or.inr (Or.inr (Or.inr (Or.inl h)))
  · exact Or.inr (Or.inr (Or.inr (Or.inr (Or.inl ⟨h, hQ _ h1, hQ _ h2⟩))))
  · exact Or.inr (Or.inr (Or.inr (Or.inr (Or.inr ⟨h, hQ _ h1, hQ _ h2, hQ _ h3⟩))))
theorem gh_WI_cg (k : ∀ j, j ≤ i → io' (c * 8 + j) = io (c * 8 + j) ∧ ia' (c * 8 + j) = ia (c * 8 + j) ∧ ib' (c * 8 + j) = ib (c * 8 + j) ∧ ix' (c * 8 + j) = ix (c * 8 + j)) (h : gh_WI io ia ib ix c i) : gh_WI io' ia' ib' ix' c i := by
  obtain ⟨o, h1, h2, h3⟩ := h
  obtain ⟨k1, k2, k3, k4⟩ := k i (Nat.le_refl _)
  refine ⟨o, h1, by rw [k1]; exact h2, ?_⟩
  rw [k2, k3, k4]
  exact gh_Fit_mono (fun x z => (gh_HN_cg (fun j hj => ⟨(k j (by omega)).1, (k j (by omega)).2.1⟩)).mpr z) (fun x z => (gh_BN_cg (fun j hj => ⟨(k j (by omega)).1, (k j (by omega)).2.1⟩)).mpr z) h3
theorem gh_C1_cg (k : ∀ j, j < 8 → io' (c * 8 + j) = io (c * 8 + j) ∧ ia' (c * 8 + j) = ia (c * 8 + j) ∧ ib' (c * 8 + j) = ib (c * 8 + j) ∧ ix' (c * 8 + j) = ix (c * 8 + j)) (e1 : ic' c = ic c) (e2 : mk' c = mk c) (e3 : sp' c = sp c) (h : gh_C1 io ia ib ix ic mk sp c) : gh_C1 io' ia' ib' ix' ic' mk' sp' c := by
  obtain ⟨h1, m, h2, h3, h4, h5, h6⟩ := h
  refine ⟨h1, m, h2, e1.trans h3, fun i hi => gh_WI_cg (fun j hj => k j (by omega)) (h4 i hi), ?_, ?_⟩
  · rw [e2, h5, gh_cnt_cg (fun j hj => (k j (by omega)).1)]
  · rw [e3, h6, gh_cnt_cg (fun j hj => (k j (by omega)).1)]
theorem gh_cnt_le {lo hi : Int32} : gh_cnt io lo hi c i ≤ i := by
  induction i with
  | zero => exact Nat.le_refl _
  | succ i ih =>
    show gh_cnt io lo hi c i + (if io (c * 8 + i) < lo then 0 else if hi < io (c * 8 + i) then 0 else 1) ≤ i + 1
    repeat' split
    all_goals omega
end
section
variable {f_cells f_goals f_usedSlots f_woken f_clauses f_writing f_openPairs : Int32} {f_blockedOn : Int64} {f_commits f_lastClause f_broken f_cellLimit f_goalLimit f_clauseLimit : Int32} {a_kind a_first a_second a_ref a_hooks a_order a_goalPred a_goalArg a_goalState a_clausePred a_itemCount a_makeCount a_spawnCount a_itemOp a_itemA a_itemB a_itemC a_names : Nat → Int32} {b_seenX b_seenY : Int32} {b_num b_value b_left b_right b_rec b_code : Nat → Int32}
variable {nK m : Nat}
theorem gh_ihX {x : Int32} (OP : ∀ j, j < 3 → (bt f_openPairs j = true ↔ ∃ i, i < m ∧ a_itemOp (nK * 8 + i) = 0 ∧ a_itemA (nK * 8 + i) = nI j)) {post : Int32 → Prop} (h1 : gh_HN a_itemOp a_itemA nK m x → post 1) (h0 : ¬ gh_HN a_itemOp a_itemA nK m x → post 0) : wpX_isHead post (f_cells, f_goals, f_usedSlots, f_woken, f_clauses, f_writing, f_openPairs, f_blockedOn, f_commits, f_lastClause, f_broken, f_cellLimit, f_goalLimit, f_clauseLimit, a_kind, a_first, a_second, a_ref, a_hooks, a_order, a_goalPred, a_goalArg, a_goalState, a_clausePred, a_itemCount, a_makeCount, a_spawnCount, a_itemOp, a_itemA, a_itemB, a_itemC, a_names) x := by
  rcases pk_ix x (n := 9) (by decide) with z | z | ⟨n, hn, rfl⟩
  · refine br_t z (h0 ?_)
    rintro ⟨n, a, rfl, _⟩
    exact nI_pos (by omega) z
  · have z8 : 8 < x := Int32.lt_of_lt_of_le (show (8 : Int32) < nI 9 by decide) z
    have z0 : ¬ x < 0 := fun y => absurd (Int32.lt_trans z8 y) (by decide)
    refine br_f z0 (br_f (Int32.not_le.mpr z8) (h0 ?_))
    rintro ⟨n, a, rfl, _⟩
    exact nI_nlt (b := n) (a := 8) (by omega) (by omega) z8
  · refine br_f (nI_pos (by omega)) (br_t (nI_le (b := 8) (by omega) (by decide)) ?_)
    by_cases n3 : n < 3
    · exact br_f (nI_ge (b := 3) n3 (by decide)) (h1 ⟨n, by omega, rfl, Or.inl n3⟩)
    · refine br_t (nI_le (a := 3) (by omega) (by omega)) ?_
      rw [gh_hf (by omega) (by omega)]
      have hj : (n - 3) / 2 < 3 := by omega
      refine br_c (fun z => h0 ?_) (fun z => h1 ?_)
      · have z' := (gh_t0 (by omega)).mp z
        rw [gh_nt, OP _ hj] at z'
        rintro ⟨n', a, e, b | b⟩
        · have : n = n' := (nI_eq (by omega) (by omega)).mp e
          omega
        · have : n = n' := (nI_eq (by omega) (by omega)).mp e
          subst this
          exact z' b
      · have z' := (gh_t1 (by omega)).mp z
        rw [OP _ hj] at z'
        exact ⟨n, by omega, rfl, Or.inr z'⟩
theorem gh_ibX {x : Int32} (hK : f_clauses = nI nK) (hK16 : nK < 16) (hm : m ≤ 8) (hM : a_makeCount nK = nI (gh_cnt a_itemOp 6 10 nK m)) (OP : ∀ j, j < 3 → (bt f_openPairs j = true ↔ ∃ i, i < m ∧ a_itemOp (nK * 8 + i) = 0 ∧ a_itemA (nK * 8 + i) = nI j)) {post : Int32 → Prop} (h1 : gh_BN a_itemOp a_itemA nK m x → post 1) (h0 : ¬ gh_BN a_itemOp a_itemA nK m x → post 0) : wpX_isBody post (f_cells, f_goals, f_usedSlots, f_woken, f_clauses, f_writing, f_openPairs, f_blockedOn, f_commits, f_lastClause, f_broken, f_cellLimit, f_goalLimit, f_clauseLimit, a_kind, a_first, a_second, a_ref, a_hooks, a_order, a_goalPred, a_goalArg, a_goalState, a_clausePred, a_itemCount, a_makeCount, a_spawnCount, a_itemOp, a_itemA, a_itemB, a_itemC, a_names) x := by
  subst hK
  have lc := gh_cnt_le (io := a_itemOp) (lo := 6) (hi := 10) (c := nK) (i := m)
  unfold wpX_isBody
  dsimp only
  refine gh_ihX OP (fun z => br_f (by decide) (h1 (Or.inl z))) (fun z => br_t rfl ?_)
  rw [nI_clamp (by omega), hM, show 9 + nI (gh_cnt a_itemOp 6 10 nK m) = nI (9 + gh_cnt a_itemOp 6 10 nK m) from nI_add 9 _]
  refine br_c (fun y => h0 ?_) (fun y => And.intro (vp_in_nI hK16 (by omega)) (br_c (fun w => h0 ?_) (fun w => h1 ?_)))
  · rintro (w | ⟨q, hq, rfl⟩)
    · exact z w
    · exact nI_nlt (b := 9) (a := 9 + q) (by omega) (by omega) y
  · rintro (w' | ⟨q, hq, rfl⟩)
    · exact z w'
    · exact nI_ge (b := 9 + gh_cnt a_itemOp 6 10 nK m) (by omega) (by omega) w
  · have x0 : ¬ x < 0 := fun w' => y (Int32.lt_trans w' (by decide))
    obtain ⟨n, hn, rfl⟩ := nI_of x0
    have n9 : ¬ n < 9 := fun w' => y (nI_lt (b := 9) w' (by decide))
    have nm : ¬ 9 + gh_cnt a_itemOp 6 10 nK m ≤ n := fun w' => w (nI_le w' hn)
    exact Or.inr ⟨n - 9, by omega, congrArg nI (by omega)⟩
theorem gh_ofX {o : Nat} {a b d : Int32} (ho : o ≤ 19) (hK : f_clauses = nI nK) (hK16 : nK < 16) (hm : m ≤ 8) (hM : a_makeCount nK = nI (gh_cnt a_itemOp 6 10 nK m)) (OP : ∀ j, j < 3 → (bt f_openPairs j = true ↔ ∃ i, i < m ∧ a_itemOp (nK * 8 + i) = 0 ∧ a_itemA (nK * 8 + i) = nI j)) {post : Int32 → Prop} (h1 : gh_Fit (gh_HN a_itemOp a_itemA nK m) (gh_BN a_itemOp a_itemA nK m) o a b d → post 1) (h0 : ¬ gh_Fit (gh_HN a_itemOp a_itemA nK m) (gh_BN a_itemOp a_itemA nK m) o a b d → post 0) : wpX_operandsFit post (f_cells, f_goals, f_usedSlots, f_woken, f_clauses, f_writing, f_openPairs, f_blockedOn, f_commits, f_lastClause, f_broken, f_cellLimit, f_goalLimit, f_clauseLimit, a_kind, a_first, a_second, a_ref, a_hooks, a_order, a_goalPred, a_goalArg, a_goalState, a_clausePred, a_itemCount, a_makeCount, a_spawnCount, a_itemOp, a_itemA, a_itemB, a_itemC, a_names) (nI o) a b d := by
  have ne : ∀ k, k ≤ 19 → o ≠ k → ¬ nI o = nI k := fun k hk e => gh_op ho hk e
  by_cases e0 : o = 0
  · subst e0
    refine br_t rfl ?_
    rcases pk_ix a (n := 3) (by decide) with z | z | ⟨j, hj, rfl⟩
    · refine br_t z (h0 ?_)
      rintro (⟨_, j, hj, rfl⟩ | ⟨z', _⟩ | ⟨z', _⟩ | z' | ⟨z', _⟩ | ⟨z', _⟩)
      · exact nI_pos (by omega) z
      all_goals omega
    · have z2 : 2 < a := Int32.lt_of_lt_of_le (show (2 : Int32) < nI 3 by decide) z
      have z0 : ¬ a < 0 := fun y => absurd (Int32.lt_trans z2 y) (by decide)
      refine br_f z0 (br_t z2 (h0 ?_))
      rintro (⟨_, j, hj, rfl⟩ | ⟨z', _⟩ | ⟨z', _⟩ | z' | ⟨z', _⟩ | ⟨z', _⟩)
      · exact nI_nlt (b := j) (a := 2) (by omega) (by omega) z2
      all_goals omega
    · exact br_f (nI_pos (by omega)) (br_f (nI_nlt (b := j) (a := 2) (by omega) (by omega)) (h1 (Or.inl ⟨rfl, j, hj, rfl⟩)))
  refine br_f (ne 0 (by omega) e0) ?_
  by_cases e6 : o = 6
  · subst e6
    exact br_t rfl (h1 (Or.inr (Or.inr (Or.inr (Or.inl (Or.inl rfl))))))
  refine br_f (ne 6 (by omega) e6) ?_
  by_cases e7 : o = 7
  · subst e7
    exact br_t rfl (h1 (Or.inr (Or.inr (Or.inr (Or.inl (Or.inr rfl))))))
  refine br_f (ne 7 (by omega) e7) ?_
  by_cases e129 : o = 1 ∨ o = 2 ∨ o = 9
  · have f49 : wX_operandsFit_49 post a f_cells f_goals f_usedSlots f_woken f_clauses f_writing f_openPairs f_blockedOn f_commits f_lastClause f_broken f_cellLimit f_goalLimit f_clauseLimit a_kind a_first a_second a_ref a_hooks a_order a_goalPred a_goalArg a_goalState a_clausePred a_itemCount a_makeCount a_spawnCount a_itemOp a_itemA a_itemB a_itemC a_names := by
      refine gh_ihX OP (fun z => And.intro rfl (h1 (Or.inr (Or.inl ⟨e129, z⟩)))) (fun z => And.intro rfl (h0 ?_))
      rintro (⟨z', _⟩ | ⟨_, z'⟩ | ⟨z', _⟩ | z' | ⟨z', _⟩ | ⟨z', _⟩)
      · omega
      · exact z z'
      all_goals omega
    rcases e129 with rfl | rfl | rfl
    · exact br_t rfl f49
    · exact br_f (by decide) (br_t rfl f49)
    · exact br_f (by decide) (br_f (by decide) (br_t rfl f49))
  refine br_f (ne 1 (by omega) (by omega)) (br_f (ne 2 (by omega) (by omega)) (br_f (ne 9 (by omega) (by omega)) ?_))
  by_cases e34 : o = 3 ∨ o = 4 ∨ o = 5 ∨ o = 10
  · have f66 : wX_operandsFit_66 post a b f_cells f_goals f_usedSlots f_woken f_clauses f_writing f_openPairs f_blockedOn f_commits f_lastClause f_broken f_cellLimit f_goalLimit f_clauseLimit a_kind a_first a_second a_ref a_hooks a_order a_goalPred a_goalArg a_goalState a_clausePred a_itemCount a_makeCount a_spawnCount a_itemOp a_itemA a_itemB a_itemC a_names := by
      have no : ¬ (gh_HN a_itemOp a_itemA nK m a ∧ gh_HN a_itemOp a_itemA nK m b) → ¬ gh_Fit (gh_HN a_itemOp a_itemA nK m) (gh_BN a_itemOp a_itemA nK m) o a b d := by
        intro nn
        rintro (⟨z', _⟩ | ⟨z', _⟩ | ⟨_, z'⟩ | z' | ⟨z', _⟩ | ⟨z', _⟩)
        · omega
        · omega
        · exact nn z'
        all_goals omega
      refine gh_ihX OP (fun z => br_f (by decide) ?_) (fun z => br_t rfl (h0 (no (fun y => z y.1))))
      exact gh_ihX OP (fun y => br_f (by decide) (h1 (Or.inr (Or.inr (Or.inl ⟨e34, z, y⟩))))) (fun y => br_t rfl (h0 (no (fun w => y w.2))))
    by_cases e10 : o = 10
    · subst e10
      exact br_f (by decide) (br_t rfl f66)
    · exact br_t (nI_le (b := 5) (by omega) (by decide)) f66
  refine br_f (nI_ge (a := 5) (by omega) (by omega)) (br_f (ne 10 (by omega) (by omega)) ?_)
  by_cases e12 : 12 ≤ o
  · have no : ¬ (gh_BN a_itemOp a_itemA nK m a ∧ gh_BN a_itemOp a_itemA nK m b ∧ gh_BN a_itemOp a_itemA nK m d) → ¬ gh_Fit (gh_HN a_itemOp a_itemA nK m) (gh_BN a_itemOp a_itemA nK m) o a b d := by
      intro nn
      rintro (⟨z', _⟩ | ⟨z', _⟩ | ⟨z', _⟩ | z' | ⟨z', _⟩ | ⟨_, z'⟩)
      · omega
      · omega
      · omega
      · omega
      · omega
      · exact nn z'
    have l12 : (12 : Int32) ≤ nI o := nI_le (a := 12) e12 (by omega)
    have f0 : ¬ (gh_BN a_itemOp a_itemA nK m a ∧ gh_BN a_itemOp a_itemA nK m b) → wX_operandsFit_108 post (nI o) d f_cells f_goals f_usedSlots f_woken f_clauses f_writing f_openPairs f_blockedOn f_commits f_lastClause f_broken f_cellLimit f_goalLimit f_clauseLimit a_kind a_first a_second a_ref a_hooks a_order a_goalPred a_goalArg a_goalState a_clausePred a_itemCount a_makeCount a_spawnCount a_itemOp a_itemA a_itemB a_itemC a_names := fun nn => by
      show wX_operandsFit_109 post (nI o) d 0 f_cells f_goals f_usedSlots f_woken f_clauses f_writing f_openPairs f_blockedOn f_commits f_lastClause f_broken f_cellLimit f_goalLimit f_clauseLimit a_kind a_first a_second a_ref a_hooks a_order a_goalPred a_goalArg a_goalState a_clausePred a_itemCount a_makeCount a_spawnCount a_itemOp a_itemA a_itemB a_itemC a_names
      exact br_t l12 (br_t rfl (h0 (no (fun z => nn ⟨z.1, z.2.1⟩))))
    refine gh_ibX hK hK16 hm hM OP (fun za => br_f (by decide) ?_) (fun za => br_t rfl (f0 (fun z => za z.1)))
    refine gh_ibX hK hK16 hm hM OP (fun zb => br_f (by decide) ?_) (fun zb => br_t rfl (f0 (fun z => zb z.2)))
    refine br_t l12 (br_f (by decide) ?_)
    exact gh_ibX hK hK16 hm hM OP (fun zd => br_f (by decide) (h1 (Or.inr (Or.inr (Or.inr (Or.inr (Or.inr ⟨e12, za, zb, zd⟩))))))) (fun zd => br_t rfl (h0 (no (fun z => zd z.2.2))))
  · have e811 : o = 8 ∨ o = 11 := by omega
    have no : ¬ (gh_BN a_itemOp a_itemA nK m a ∧ gh_BN a_itemOp a_itemA nK m b) → ¬ gh_Fit (gh_HN a_itemOp a_itemA nK m) (gh_BN a_itemOp a_itemA nK m) o a b d := by
      intro nn
      rintro (⟨z', _⟩ | ⟨z', _⟩ | ⟨z', _⟩ | z' | ⟨_, z'⟩ | ⟨z', _⟩)
      · omega
      · omega
      · omega
      · omega
      · exact nn z'
      · omega
    have l12 : ¬ (12 : Int32) ≤ nI o := nI_ge (b := 12) (by omega) (by decide)
    have f0 : ¬ (gh_BN a_itemOp a_itemA nK m a ∧ gh_BN a_itemOp a_itemA nK m b) → wX_operandsFit_108 post (nI o) d f_cells f_goals f_usedSlots f_woken f_clauses f_writing f_openPairs f_blockedOn f_commits f_lastClause f_broken f_cellLimit f_goalLimit f_clauseLimit a_kind a_first a_second a_ref a_hooks a_order a_goalPred a_goalArg a_goalState a_clausePred a_itemCount a_makeCount a_spawnCount a_itemOp a_itemA a_itemB a_itemC a_names := fun nn => by
      show wX_operandsFit_109 post (nI o) d 0 f_cells f_goals f_usedSlots f_woken f_clauses f_writing f_openPairs f_blockedOn f_commits f_lastClause f_broken f_cellLimit f_goalLimit f_clauseLimit a_kind a_first a_second a_ref a_hooks a_order a_goalPred a_goalArg a_goalState a_clausePred a_itemCount a_makeCount a_spawnCount a_itemOp a_itemA a_itemB a_itemC a_names
      exact br_f l12 (And.intro rfl (h0 (no nn)))
    refine gh_ibX hK hK16 hm hM OP (fun za => br_f (by decide) ?_) (fun za => br_t rfl (f0 (fun z => za z.1)))
    refine gh_ibX hK hK16 hm hM OP (fun zb => br_f (by decide) ?_) (fun zb => br_t rfl (f0 (fun z => zb z.2)))
    exact br_f l12 (And.intro rfl (h1 (Or.inr (Or.inr (Or.inr (Or.inr (Or.inl ⟨e811, za, zb⟩)))))))
/-! the reference: counts and names -/
theorem gh_cox {c : Nat} {lo hi : Int32} (hc : c < 16) (hm : m ≤ 8) (ec : a_itemCount c = nI m) (D : gh_CD b_code a_itemOp a_itemA a_itemB a_itemC) {post : Int32 → Prop} (k : post (nI (gh_cnt a_itemOp lo hi c m))) :
    ∀ d i n, i + d = m → d < n → wY_countOps_6 post (nI c) lo hi b_seenX b_seenY b_num a_kind a_ref b_value b_left b_right b_rec b_code a_clausePred a_itemCount n (nI (gh_cnt a_itemOp lo hi c i)) (nI i) := by
  have vc : vp_in (nI c) 16 := vp_in_nI hc (by omega)
  have cc : (nI c).toNatClampNeg = c := nI_clamp (by omega)
  intro d
  induction d with
  | zero =>
    intro i n hid hn
    obtain ⟨n, rfl⟩ : ∃ n', n = n' + 1 := ⟨n - 1, by omega⟩
    obtain rfl : i = m := by omega
    refine And.intro vc ?_
    rw [cc, ec]
    exact br_t (nI_le (Nat.le_refl _) (by omega)) k
  | succ d ih =>
    intro i n hid hn
    obtain ⟨n, rfl⟩ : ∃ n', n = n' + 1 := ⟨n - 1, by omega⟩
    refine And.intro vc ?_
    rw [cc, ec, gh_ix8, show nI (c * 8 + i) * 4 = nI ((c * 8 + i) * 4) from pk_mul _ 4]
    have v5 : vp_in (nI ((c * 8 + i) * 4)) 512 := vp_in_nI (by omega) (by omega)
    refine br_f (nI_ge (by omega) (by omega)) (And.intro v5 ?_)
    rw [nI_clamp (n := (c * 8 + i) * 4) (by omega), (D (c * 8 + i) (by omega)).1]
    have es : gh_cnt a_itemOp lo hi c (i + 1) = gh_cnt a_itemOp lo hi c i + (if a_itemOp (c * 8 + i) < lo then 0 else if hi < a_itemOp (c * 8 + i) then 0 else 1) := rfl
    have t := ih (i + 1) n (by omega) (by omega)
    rw [es] at t
    refine br_c (fun a => nm_r (nI_1 i) ?_) (fun a => And.intro v5 (br_c (fun b => nm_r (nI_1 i) ?_) (fun b => nm_r (nI_1 _) (nm_r (nI_1 i) ?_))))
    · rw [if_pos a] at t; exact t
    · rw [if_neg a, if_pos b] at t; exact t
    · rw [if_neg a, if_neg b] at t; exact t
theorem gh_coY {c : Nat} {lo hi : Int32} (hc : c < 16) (hm : m ≤ 8) (ec : a_itemCount c = nI m) (D : gh_CD b_code a_itemOp a_itemA a_itemB a_itemC) {post : Int32 → Prop} (k : post (nI (gh_cnt a_itemOp lo hi c m))) : wpY_countOps post (b_seenX, b_seenY, b_num, a_kind, a_ref, b_value, b_left, b_right, b_rec, b_code, a_clausePred, a_itemCount) (nI c) lo hi :=
  Exists.intro (m + 1) (gh_cox hc hm ec D k m 0 (m + 1) (by omega) (by omega))
theorem gh_inx {n : Nat} (h3 : 3 ≤ n) (h8 : n ≤ 8) (hK : b_num 2 = nI nK) (hK16 : nK < 16) (hm : m ≤ 8) (ec : a_itemCount nK = nI m) (D : gh_CD b_code a_itemOp a_itemA a_itemB a_itemC) {post : Int32 → Prop} (h1 : gh_HN a_itemOp a_itemA nK m (nI n) → post 1) (h0 : ¬ gh_HN a_itemOp a_itemA nK m (nI n) → post 0) :
    ∀ d i f x, i + d = m → d < f → ((x = 0 ∧ ∀ j, j < i → ¬ (a_itemOp (nK * 8 + j) = 0 ∧ a_itemA (nK * 8 + j) = nI ((n - 3) / 2))) ∨ (x = 1 ∧ gh_HN a_itemOp a_itemA nK m (nI n))) → wY_isName_43 post (nI n) (nI (nK * 32)) b_seenX b_seenY b_num a_kind a_ref b_value b_left b_right b_rec b_code a_clausePred a_itemCount f x (nI i) := by
  intro d
  induction d with
  | zero =>
    intro i f x hi hn hx
    obtain ⟨f, rfl⟩ : ∃ n', f = n' + 1 := ⟨f - 1, by omega⟩
    obtain rfl : i = m := by omega
    refine br_f (nI_nlt (b := 3) (by omega) (by omega)) (br_f (nI_nlt (a := 8) (by omega) (by omega)) ?_)
    rw [hK, nI_clamp (n := nK) (by omega), ec]
    refine And.intro (vp_in_nI hK16 (by omega)) (br_t (nI_le (Nat.le_refl _) (by omega)) ?_)
    rcases hx with ⟨rfl, hx⟩ | ⟨rfl, hx⟩
    · refine And.intro rfl (h0 ?_)
      rintro ⟨n', a, e, b | ⟨j, hj, b⟩⟩
      · have : n = n' := (nI_eq (by omega) (by omega)).mp e
        omega
      · have : n = n' := (nI_eq (by omega) (by omega)).mp e
        subst this
        exact hx j hj b
    · exact And.intro rfl (h1 hx)
  | succ d ih =>
    intro i f x hi hn hx
    obtain ⟨f, rfl⟩ : ∃ n', f = n' + 1 := ⟨f - 1, by omega⟩
    refine br_f (nI_nlt (b := 3) (by omega) (by omega)) (br_f (nI_nlt (a := 8) (by omega) (by omega)) ?_)
    rw [hK, nI_clamp (n := nK) (by omega), ec, gh_hdv h3 h8, show nI i * 4 = nI (i * 4) from pk_mul _ 4, nI_add, nI_1 (nK * 32 + i * 4), show nK * 32 + i * 4 = (nK * 8 + i) * 4 by omega]
    refine And.intro (vp_in_nI hK16 (by omega)) (br_f (nI_ge (by omega) (by omega)) (And.intro (vp_in_nI (by omega) (by omega)) ?_))
    rw [nI_clamp (n := (nK * 8 + i) * 4) (by omega), nI_clamp (n := (nK * 8 + i) * 4 + 1) (by omega), (D (nK * 8 + i) (by omega)).1, (D (nK * 8 + i) (by omega)).2.1]
    have keep : ¬ (a_itemOp (nK * 8 + i) = 0 ∧ a_itemA (nK * 8 + i) = nI ((n - 3) / 2)) → wY_isName_43 post (nI n) (nI (nK * 32)) b_seenX b_seenY b_num a_kind a_ref b_value b_left b_right b_rec b_code a_clausePred a_itemCount f x (nI (i + 1)) := fun z => by
      refine ih (i + 1) f x (by omega) (by omega) (hx.imp (fun y => ⟨y.1, fun j hj => ?_⟩) id)
      by_cases e : j = i
      · rw [e]; exact z
      · exact y.2 j (by omega)
    refine br_c (fun a => And.intro (vp_in_nI (by omega) (by omega)) (And.intro gh_20 (br_c (fun b => nm_r (nI_1 i) ?_) (fun b => nm_r (nI_1 i) ?_)))) (fun a => nm_r (nI_1 i) ?_)
    · exact ih (i + 1) f 1 (by omega) (by omega) (Or.inr ⟨rfl, n, h8, rfl, Or.inr ⟨i, by omega, a, b⟩⟩)
    · exact keep (fun z => b z.2)
    · exact keep (fun z => a z.1)
theorem gh_inY {x : Int32} {md : Nat} (hmd : md ≤ 8) (hK : b_num 2 = nI nK) (hK16 : nK < 16) (hm : m ≤ 8) (ec : a_itemCount nK = nI m) (D : gh_CD b_code a_itemOp a_itemA a_itemB a_itemC) {post : Int32 → Prop} (h1 : (gh_HN a_itemOp a_itemA nK m x ∨ ∃ q, q < md ∧ x = nI (9 + q)) → post 1) (h0 : ¬ (gh_HN a_itemOp a_itemA nK m x ∨ ∃ q, q < md ∧ x = nI (9 + q)) → post 0) : wpY_isName post (b_seenX, b_seenY, b_num, a_kind, a_ref, b_value, b_left, b_right, b_rec, b_code, a_clausePred, a_itemCount) x (nI md) := by
  have e32 : b_num 2 * 32 = nI (nK * 32) := by rw [hK]; exact pk_mul nK 32
  by_cases z : x < 0
  · refine br_t z (br_t (Int32.lt_trans z (by decide)) ?_)
    show wY_isName_28 post x 0 b_seenX b_seenY b_num a_kind a_ref b_value b_left b_right b_rec b_code a_clausePred a_itemCount
    refine nm_r e32 (Exists.intro 1 (br_t (Int32.lt_trans z (by decide)) (And.intro rfl (h0 ?_))))
    rintro (⟨n, a, rfl, _⟩ | ⟨q, a, rfl⟩)
    · exact nI_pos (by omega) z
    · exact nI_pos (by omega) z
  · obtain ⟨n, hn, rfl⟩ := nI_of z
    refine br_f z ?_
    by_cases n3 : n < 3
    · refine br_t (nI_le (b := 2) (by omega) (by decide)) ?_
      show wY_isName_28 post (nI n) 1 b_seenX b_seenY b_num a_kind a_ref b_value b_left b_right b_rec b_code a_clausePred a_itemCount
      exact nm_r e32 (Exists.intro 1 (br_t (nI_lt (b := 3) n3 (by decide)) (And.intro rfl (h1 (Or.inl ⟨n, by omega, rfl, Or.inl n3⟩)))))
    · refine br_f (nI_ge (a := 2) (by omega) (by omega)) ?_
      by_cases n9 : n < 9
      · refine br_t (nI_lt (b := 9) n9 (by decide)) ?_
        show wY_isName_28 post (nI n) 0 b_seenX b_seenY b_num a_kind a_ref b_value b_left b_right b_rec b_code a_clausePred a_itemCount
        refine nm_r e32 (Exists.intro (m + 1) (gh_inx (by omega) (by omega) hK hK16 hm ec D (fun y => h1 (Or.inl y)) (fun y => h0 (fun w => w.elim y ?_)) m 0 (m + 1) 0 (by omega) (by omega) (Or.inl ⟨rfl, fun j hj => absurd hj (Nat.not_lt_zero _)⟩)))
        rintro ⟨q, a, e⟩
        have : n = 9 + q := (nI_eq hn (by omega)).mp e
        omega
      · refine br_f (nI_nlt (b := 9) (by omega) hn) ?_
        rw [show nI n - 9 = nI (n - 9) from pk_sub (b := 9) (by omega)]
        refine br_c (fun y => ?_) (fun y => ?_)
        · have y' : md ≤ n - 9 := (nI_leI (by omega) (by omega)).mp y
          show wY_isName_28 post (nI n) 0 b_seenX b_seenY b_num a_kind a_ref b_value b_left b_right b_rec b_code a_clausePred a_itemCount
          refine nm_r e32 (Exists.intro 1 (br_f (nI_nlt (b := 3) (by omega) hn) (br_t (nI_lt (a := 8) (by omega) hn) (And.intro rfl (h0 ?_)))))
          rintro (⟨n', a, e, _⟩ | ⟨q, a, e⟩)
          · have : n = n' := (nI_eq hn (by omega)).mp e
            omega
          · have : n = 9 + q := (nI_eq hn (by omega)).mp e
            omega
        · have y' : n - 9 < md := by
            by_cases w : md ≤ n - 9
            · exact absurd (nI_le w (by omega)) y
            · omega
          show wY_isName_28 post (nI n) 1 b_seenX b_seenY b_num a_kind a_ref b_value b_left b_right b_rec b_code a_clausePred a_itemCount
          exact nm_r e32 (Exists.intro 1 (br_f (nI_nlt (b := 3) (by omega) hn) (br_t (nI_lt (a := 8) (by omega) hn) (And.intro rfl (h1 (Or.inr ⟨n - 9, y', congrArg nI (by omega)⟩))))))
end
end
section
/-! item: the call -/
section
variable {f_cells f_goals f_usedSlots f_woken f_clauses f_writing f_openPairs : Int32} {f_blockedOn : Int64} {f_commits f_lastClause f_broken f_cellLimit f_goalLimit f_clauseLimit : Int32} {a_kind a_first a_second a_ref a_hooks a_order a_goalPred a_goalArg a_goalState a_clausePred a_itemCount a_makeCount a_spawnCount a_itemOp a_itemA a_itemB a_itemC a_names : Nat → Int32} {b_seenX b_seenY : Int32} {b_num b_value b_left b_right b_rec b_code : Nat → Int32}
variable {nC nG nK lc lg lk m : Nat} {E : Nat → Nat}
/-- the component's counts behind a new item -/
theorem gh_i131 {o : Nat} (ho : o ≤ 19) (hK : f_clauses = nI nK) (hK16 : nK < 16) {cn sn : Nat} (hM : a_makeCount nK = nI cn) (hS : a_spawnCount nK = nI sn) (hcn : cn ≤ 8) {post : Int32 → SX → Prop}
    (h : post (if o < 6 then 0 else if o ≤ 10 then nI (9 + cn) else 0) (f_cells, f_goals, f_usedSlots, f_woken, f_clauses, f_writing, f_openPairs, f_blockedOn, f_commits, f_lastClause, f_broken, f_cellLimit, f_goalLimit, f_clauseLimit, a_kind, a_first, a_second, a_ref, a_hooks, a_order, a_goalPred, a_goalArg, a_goalState, a_clausePred, a_itemCount, (if o < 6 then a_makeCount else if o ≤ 10 then upd a_makeCount nK (nI (cn + 1)) else a_makeCount), (if o < 12 then a_spawnCount else upd a_spawnCount nK (nI (sn + 1))), a_itemOp, a_itemA, a_itemB, a_itemC, a_names)) : wX_item_131 post (nI o) f_cells f_goals f_usedSlots f_woken f_clauses f_writing f_openPairs f_blockedOn f_commits f_lastClause f_broken f_cellLimit f_goalLimit f_clauseLimit a_kind a_first a_second a_ref a_hooks a_order a_goalPred a_goalArg a_goalState a_clausePred a_itemCount a_makeCount a_spawnCount a_itemOp a_itemA a_itemB a_itemC a_names := by
  subst hK
  have vk : vp_in (nI nK) 16 := vp_in_nI hK16 (by omega)
  have ck : (nI nK).toNatClampNeg = nK := nI_clamp (by omega)
  have f150 : ∀ sp : Nat → Int32, post (if o < 6 then 0 else if o ≤ 10 then nI (9 + cn) else 0) (f_cells, f_goals, f_usedSlots, f_woken, (nI nK), f_writing, f_openPairs, f_blockedOn, f_commits, f_lastClause, f_broken, f_cellLimit, f_goalLimit, f_clauseLimit, a_kind, a_first, a_second, a_ref, a_hooks, a_order, a_goalPred, a_goalArg, a_goalState, a_clausePred, a_itemCount, (if o < 6 then a_makeCount else if o ≤ 10 then upd a_makeCount nK (nI (cn + 1)) else a_makeCount), sp, a_itemOp, a_itemA, a_itemB, a_itemC, a_names) → wX_item_150 post (nI o) f_cells f_goals f_usedSlots f_woken (nI nK) f_writing f_openPairs f_blockedOn f_commits f_lastClause f_broken f_cellLimit f_goalLimit f_clauseLimit a_kind a_first a_second a_ref a_hooks a_order a_goalPred a_goalArg a_goalState a_clausePred a_itemCount a_makeCount sp a_itemOp a_itemA a_itemB a_itemC a_names := by
    intro sp h
    by_cases h6 : o < 6
    · rw [if_pos h6, if_pos h6] at h
      exact br_t (nI_lt (b := 6) h6 (by decide)) h
    · rw [if_neg h6, if_neg h6] at h
      refine br_f (nI_nlt (b := 6) (by omega) (by omega)) ?_
      by_cases h10 : o ≤ 10
      · rw [if_pos h10, if_pos h10] at h
        refine br_t (nI_le (b := 10) h10 (by decide)) (And.intro vk (And.intro vk ?_))
        rw [ck, hM, nI_1]
        refine nm_e (And.intro vk ?_)
        rw [pk_us, show 8 + nI (cn + 1) = nI (9 + cn) from (nI_add 8 (cn + 1)).trans (congrArg nI (by omega))]
        exact h
      · rw [if_neg h10, if_neg h10] at h
        exact br_f (nI_ge (a := 10) (by omega) (by omega)) h
  by_cases h12 : o < 12
  · rw [if_pos h12] at h
    exact br_t (nI_lt (b := 12) h12 (by decide)) (f150 _ h)
  · rw [if_neg h12] at h
    refine br_f (nI_nlt (b := 12) (by omega) (by omega)) (And.intro vk (And.intro vk ?_))
    rw [ck, hS, nI_1]
    exact nm_e (f150 _ h)
/-- the reference, behind its tests of names -/
theorem gh_y191 {o cn : Nat} {a b d : Int32} (ho : o ≤ 19) (hK16 : nK < 16) (hm : m < 8) (ec : a_itemCount nK = nI m) (hcn : cn ≤ 8) {post : Int32 → SY → Prop}
    (h : post (if o < 6 then 0 else if o ≤ 10 then nI (9 + cn) else 0) (b_seenX, b_seenY, b_num, a_kind, a_ref, b_value, b_left, b_right, b_rec, (upd (upd (upd (upd b_code ((nK * 8 + m) * 4) (nI o)) ((nK * 8 + m) * 4 + 1) a) ((nK * 8 + m) * 4 + 2) b) ((nK * 8 + m) * 4 + 3) d), a_clausePred, (upd a_itemCount nK (nI (m + 1))))) : wY_item_191 post (nI o) a b d (nI nK) (nI cn) (nI ((nK * 8 + m) * 4)) b_seenX b_seenY b_num a_kind a_ref b_value b_left b_right b_rec b_code a_clausePred a_itemCount := by
  have vk : vp_in (nI nK) 16 := vp_in_nI hK16 (by omega)
  have ck : (nI nK).toNatClampNeg = nK := nI_clamp (by omega)
  refine And.intro vk ?_
  rw [ck, ec]
  refine br_t (nI_lt (b := 8) hm (by decide)) ?_
  rw [nI_1 ((nK * 8 + m) * 4), show nI ((nK * 8 + m) * 4) + 2 = nI ((nK * 8 + m) * 4 + 2) from nI_add _ 2, show nI ((nK * 8 + m) * 4) + 3 = nI ((nK * 8 + m) * 4 + 3) from nI_add _ 3, nI_clamp (n := (nK * 8 + m) * 4) (by omega), nI_clamp (n := (nK * 8 + m) * 4 + 1) (by omega), nI_clamp (n := (nK * 8 + m) * 4 + 2) (by omega), nI_clamp (n := (nK * 8 + m) * 4 + 3) (by omega), nI_1 m]
  refine And.intro (vp_in_nI (by omega) (by omega)) (nm_e (And.intro (vp_in_nI (by omega) (by omega)) (nm_e (And.intro (vp_in_nI (by omega) (by omega)) (nm_e (And.intro (vp_in_nI (by omega) (by omega)) (nm_e (And.intro vk (And.intro vk (nm_e ?_))))))))))
  by_cases h6 : o < 6
  · rw [if_pos h6] at h
    exact br_t (nI_lt (b := 6) h6 (by decide)) h
  · rw [if_neg h6] at h
    refine br_f (nI_nlt (b := 6) (by omega) (by omega)) ?_
    by_cases h10 : o ≤ 10
    · rw [if_pos h10] at h
      refine br_f (nI_nlt (b := o) (a := 10) (by omega) (by omega)) ?_
      rw [show 9 + nI cn = nI (9 + cn) from nI_add 9 cn]
      exact h
    · rw [if_neg h10] at h
      exact br_t (nI_lt (a := 10) (by omega) (by omega)) h
/-- the reference's tests of names -/
theorem gh_yfit {o : Nat} {a b d x7 : Int32} (ho : o ≤ 19) (hK : b_num 2 = nI nK) (hK16 : nK < 16) (hm : m ≤ 8) (ec : a_itemCount nK = nI m) (D : gh_CD b_code a_itemOp a_itemA a_itemB a_itemC) (h0a : o = 0 → ∃ j, j < 3 ∧ a = nI j) {post : Int32 → SY → Prop}
    (h1 : gh_Fit (gh_HN a_itemOp a_itemA nK m) (gh_BN a_itemOp a_itemA nK m) o a b d → wY_item_191 post (nI o) a b d (nI nK) (nI (gh_cnt a_itemOp 6 10 nK m)) x7 b_seenX b_seenY b_num a_kind a_ref b_value b_left b_right b_rec b_code a_clausePred a_itemCount) (h0 : ¬ gh_Fit (gh_HN a_itemOp a_itemA nK m) (gh_BN a_itemOp a_itemA nK m) o a b d → post (-1) (b_seenX, b_seenY, b_num, a_kind, a_ref, b_value, b_left, b_right, b_rec, b_code, a_clausePred, a_itemCount)) :
    ((nI o < 3 → wY_item_81 post (nI o) a b d (nI nK) (nI (gh_cnt a_itemOp 6 10 nK m)) x7 b_seenX b_seenY b_num a_kind a_ref b_value b_left b_right b_rec b_code a_clausePred a_itemCount) ∧ (¬ nI o < 3 → ((nI o ≤ 5 → wY_item_87 post (nI o) a b d (nI nK) (nI (gh_cnt a_itemOp 6 10 nK m)) x7 b_seenX b_seenY b_num a_kind a_ref b_value b_left b_right b_rec b_code a_clausePred a_itemCount) ∧ (¬ nI o ≤ 5 → wY_item_81 post (nI o) a b d (nI nK) (nI (gh_cnt a_itemOp 6 10 nK m)) x7 b_seenX b_seenY b_num a_kind a_ref b_value b_left b_right b_rec b_code a_clausePred a_itemCount)))) := by
  have ne : ∀ k, k ≤ 19 → o ≠ k → ¬ nI o = nI k := fun k hk e => gh_op ho hk e
  have lc := gh_cnt_le (io := a_itemOp) (lo := 6) (hi := 10) (c := nK) (i := m)
  have head : ∀ (x : Int32) (P : Int32 → Prop), (gh_HN a_itemOp a_itemA nK m x → P 1) → (¬ gh_HN a_itemOp a_itemA nK m x → P 0) → wpY_isName P (b_seenX, b_seenY, b_num, a_kind, a_ref, b_value, b_left, b_right, b_rec, b_code, a_clausePred, a_itemCount) x 0 := fun x P p1 p0 =>
    gh_inY (md := 0) (by omega) hK hK16 hm ec D (fun z => p1 (z.elim id (fun ⟨q, hq, _⟩ => absurd hq (Nat.not_lt_zero _)))) (fun z => p0 (fun y => z (Or.inl y)))
  have body : ∀ (x : Int32) (P : Int32 → Prop), (gh_BN a_itemOp a_itemA nK m x → P 1) → (¬ gh_BN a_itemOp a_itemA nK m x → P 0) → wpY_isName P (b_seenX, b_seenY, b_num, a_kind, a_ref, b_value, b_left, b_right, b_rec, b_code, a_clausePred, a_itemCount) x (nI (gh_cnt a_itemOp 6 10 nK m)) := fun x P p1 p0 =>
    gh_inY (md := gh_cnt a_itemOp 6 10 nK m) (by omega) hK hK16 hm ec D p1 p0
  -- from 140 on
  have f140 : (¬ (o = 1 ∨ o = 2 ∨ o = 9 ∨ o = 3 ∨ o = 4 ∨ o = 5 ∨ o = 10)) ∨ gh_Fit (gh_HN a_itemOp a_itemA nK m) (gh_BN a_itemOp a_itemA nK m) o a b d → wY_item_140 post (nI o) a b d (nI nK) (nI (gh_cnt a_itemOp 6 10 nK m)) x7 b_seenX b_seenY b_num a_kind a_ref b_value b_left b_right b_rec b_code a_clausePred a_itemCount := by
    intro hc
    by_cases e12 : 12 ≤ o
    · have no : ¬ (gh_BN a_itemOp a_itemA nK m a ∧ gh_BN a_itemOp a_itemA nK m b ∧ gh_BN a_itemOp a_itemA nK m d) → ¬ gh_Fit (gh_HN a_itemOp a_itemA nK m) (gh_BN a_itemOp a_itemA nK m) o a b d := by
        intro nn
        rintro (⟨z', _⟩ | ⟨z', _⟩ | ⟨z', _⟩ | z' | ⟨z', _⟩ | ⟨_, z'⟩)
        · omega
        · omega
        · omega
        · omega
        · omega
        · exact nn z'
      refine br_f (ne 8 (by omega) (by omega)) (br_f (nI_nlt (b := 11) (by omega) (by omega)) ?_)
      refine body a _ (fun za => br_f (by decide) ?_) (fun za => br_t rfl (h0 (no (fun z => za z.1))))
      refine body b _ (fun zb => br_f (by decide) ?_) (fun zb => br_t rfl (h0 (no (fun z => zb z.2.1))))
      refine br_f (nI_nlt (b := 12) (by omega) (by omega)) ?_
      exact body d _ (fun zd => br_f (by decide) (h1 (Or.inr (Or.inr (Or.inr (Or.inr (Or.inr ⟨e12, za, zb, zd⟩))))))) (fun zd => br_t rfl (h0 (no (fun z => zd z.2.2))))
    · have l12 : nI o < 12 := nI_lt (b := 12) (by omega) (by decide)
      by_cases e811 : o = 8 ∨ o = 11
      · have no : ¬ (gh_BN a_itemOp a_itemA nK m a ∧ gh_BN a_itemOp a_itemA nK m b) → ¬ gh_Fit (gh_HN a_itemOp a_itemA nK m) (gh_BN a_itemOp a_itemA nK m) o a b d := by
          intro nn
          rintro (⟨z', _⟩ | ⟨z', _⟩ | ⟨z', _⟩ | z' | ⟨_, z'⟩ | ⟨z', _⟩)
          · omega
          · omega
          · omega
          · omega
          · exact nn z'
          · omega
        have f152 : wY_item_152 post (nI o) a b d (nI nK) (nI (gh_cnt a_itemOp 6 10 nK m)) x7 b_seenX b_seenY b_num a_kind a_ref b_value b_left b_right b_rec b_code a_clausePred a_itemCount := by
          refine body a _ (fun za => br_f (by decide) ?_) (fun za => br_t rfl (h0 (no (fun z => za z.1))))
          refine body b _ (fun zb => br_f (by decide) ?_) (fun zb => br_t rfl (h0 (no (fun z => zb z.2))))
          exact br_t l12 (h1 (Or.inr (Or.inr (Or.inr (Or.inr (Or.inl ⟨e811, za, zb⟩))))))
        rcases e811 with rfl | rfl
        · exact br_t rfl f152
        · exact br_f (by decide) (br_f (by decide) f152)
      · have fit : gh_Fit (gh_HN a_itemOp a_itemA nK m) (gh_BN a_itemOp a_itemA nK m) o a b d := by
          rcases hc with hc | hc
          · have : o = 0 ∨ o = 6 ∨ o = 7 := by omega
            rcases this with e | e | e
            · exact Or.inl ⟨e, h0a e⟩
            · exact Or.inr (Or.inr (Or.inr (Or.inl (Or.inl e))))
            · exact Or.inr (Or.inr (Or.inr (Or.inl (Or.inr e))))
          · exact hc
        exact br_f (ne 8 (by omega) (by omega)) (br_t (nI_lt (b := 11) (by omega) (by decide)) (br_t l12 (h1 fit)))
  by_cases e34 : o = 3 ∨ o = 4 ∨ o = 5 ∨ o = 10
  · have no : ¬ (gh_HN a_itemOp a_itemA nK m a ∧ gh_HN a_itemOp a_itemA nK m b) → ¬ gh_Fit (gh_HN a_itemOp a_itemA nK m) (gh_BN a_itemOp a_itemA nK m) o a b d := by
      intro nn
      rintro (⟨z', _⟩ | ⟨z', _⟩ | ⟨_, z'⟩ | z' | ⟨z', _⟩ | ⟨z', _⟩)
      · omega
      · omega
      · exact nn z'
      all_goals omega
    have f87 : wY_item_87 post (nI o) a b d (nI nK) (nI (gh_cnt a_itemOp 6 10 nK m)) x7 b_seenX b_seenY b_num a_kind a_ref b_value b_left b_right b_rec b_code a_clausePred a_itemCount := by
      show wY_item_92 post (nI o) a b d (nI nK) (nI (gh_cnt a_itemOp 6 10 nK m)) x7 1 b_seenX b_seenY b_num a_kind a_ref b_value b_left b_right b_rec b_code a_clausePred a_itemCount
      refine br_f (by decide) ?_
      refine head a _ (fun za => br_f (by decide) (br_f (by decide) ?_)) (fun za => br_t rfl (h0 (no (fun z => za z.1))))
      exact head b _ (fun zb => br_f (by decide) (f140 (Or.inr (Or.inr (Or.inr (Or.inl ⟨e34, za, zb⟩)))))) (fun zb => br_t rfl (h0 (no (fun z => zb z.2))))
    by_cases e10 : o = 10
    · subst e10
      exact br_f (by decide) (br_f (by decide) (br_t rfl f87))
    · exact br_f (nI_nlt (b := 3) (by omega) (by omega)) (br_t (nI_le (b := 5) (by omega) (by decide)) f87)
  · have f81 : wY_item_81 post (nI o) a b d (nI nK) (nI (gh_cnt a_itemOp 6 10 nK m)) x7 b_seenX b_seenY b_num a_kind a_ref b_value b_left b_right b_rec b_code a_clausePred a_itemCount := by
      refine br_f (ne 10 (by omega) (by omega)) (br_t rfl ?_)
      by_cases e129 : o = 1 ∨ o = 2 ∨ o = 9
      · have f115 : wY_item_115 post (nI o) a b d (nI nK) (nI (gh_cnt a_itemOp 6 10 nK m)) x7 0 b_seenX b_seenY b_num a_kind a_ref b_value b_left b_right b_rec b_code a_clausePred a_itemCount := by
          refine head a _ (fun za => br_f (by decide) (br_t rfl (f140 (Or.inr (Or.inr (Or.inl ⟨e129, za⟩)))))) (fun za => br_t rfl (h0 ?_))
          rintro (⟨z', _⟩ | ⟨_, z'⟩ | ⟨z', _⟩ | z' | ⟨z', _⟩ | ⟨z', _⟩)
          · omega
          · exact za z'
          all_goals omega
        rcases e129 with rfl | rfl | rfl
        · exact br_t rfl f115
        · exact br_f (by decide) (br_t rfl f115)
        · exact br_f (by decide) (br_f (by decide) (br_t rfl f115))
      · exact br_f (ne 1 (by omega) (by omega)) (br_f (ne 2 (by omega) (by omega)) (br_f (ne 9 (by omega) (by omega)) (br_t rfl (f140 (Or.inl (by omega))))))
    by_cases e3 : o < 3
    · exact br_t (nI_lt (b := 3) e3 (by decide)) f81
    · exact br_f (nI_nlt (b := 3) (by omega) (by omega)) (br_f (nI_ge (a := 5) (by omega) (by omega)) f81)
theorem gh_item {k : Nat} (R : gh_RR nC nG nK lc lg lk E f_cells f_goals f_usedSlots f_woken f_clauses f_writing f_openPairs f_blockedOn f_commits f_lastClause f_broken f_cellLimit f_goalLimit f_clauseLimit a_kind a_first a_second a_ref a_hooks a_order a_goalPred a_goalArg a_goalState a_clausePred a_itemCount a_makeCount a_spawnCount a_itemOp a_itemA a_itemB a_itemC a_names b_seenX b_seenY b_num b_value b_left b_right b_rec b_code) (v1 v2 v3 v4 : Int32) : ∃ r u' v', i_Rel k u' v' ∧ (∀ post : Int32 → SX → Prop, post r u' → wpX_item post (f_cells, f_goals, f_usedSlots, f_woken, f_clauses, f_writing, f_openPairs, f_blockedOn, f_commits, f_lastClause, f_broken, f_cellLimit, f_goalLimit, f_clauseLimit, a_kind, a_first, a_second, a_ref, a_hooks, a_order, a_goalPred, a_goalArg, a_goalState, a_clausePred, a_itemCount, a_makeCount, a_spawnCount, a_itemOp, a_itemA, a_itemB, a_itemC, a_names) v1 v2 v3 v4) ∧ (∀ post : Int32 → SY → Prop, post r v' → wpY_item post (b_seenX, b_seenY, b_num, a_kind, a_ref, b_value, b_left, b_right, b_rec, b_code, a_clausePred, a_itemCount) v1 v2 v3 v4) := by
  have R' := R
  obtain ⟨RN, RK, RH, RG, RS⟩ := R
  have n2 : b_num 2 = nI nK := RN.2.2.2.2.2.1.trans RN.1.2.2.1
  have n3 : b_num 3 = f_writing := RN.2.2.2.2.2.2.1
  have hL : lk ≤ 16 := RN.2.2.1.2.2.2.2.2.1
  have hK := RN.1.2.2.1
  rcases RN.1.2.2.2.1 with ew | ew
  · exact ⟨-1, _, _, gh_in R', fun post h => br_t ew h, fun post h => br_t (n3.trans ew) h⟩
  have hl : nK < lk := RN.2.2.1.2.2.2.2.2.2 ew
  have hK16 : nK < 16 := by omega
  have w0 : ¬ f_writing = 0 := by rw [ew]; decide
  have y0 : ¬ b_num 3 = 0 := by rw [n3]; exact w0
  obtain ⟨C, OP⟩ := RK.2.1 ew
  obtain ⟨_, m, hm, em, WW, hM, hS⟩ := C
  rw [em, nI_clamp (n := m) (by omega)] at OP
  have D := RK.2.2
  have lc := gh_cnt_le (io := a_itemOp) (lo := 6) (hi := 10) (c := nK) (i := m)
  rcases pk_ix v1 (n := 20) (by decide) with z | z | ⟨o, ho', rfl⟩
  · exact ⟨-1, _, _, gh_in R', fun post h => br_f w0 (br_t z h), fun post h => br_f y0 (br_t z h)⟩
  · have z2 : 19 < v1 := Int32.lt_of_lt_of_le (show (19 : Int32) < nI 20 by decide) z
    have z0 : ¬ v1 < 0 := fun y => absurd (Int32.lt_trans z2 y) (by decide)
    exact ⟨-1, _, _, gh_in R', fun post h => br_f w0 (br_f z0 (br_f (Int32.not_le.mpr z2) h)), fun post h => br_f y0 (br_f z0 (br_t z2 h))⟩
  have ho : o ≤ 19 := by omega
  have o0 : ¬ nI o < 0 := nI_pos (by omega)
  have o19 : nI o ≤ 19 := nI_le (b := 19) ho (by decide)
  have y19 : ¬ 19 < nI o := nI_nlt (b := o) (a := 19) ho (by omega)
  have toX : ∀ (post : Int32 → SX → Prop), (gh_Fit (gh_HN a_itemOp a_itemA nK m) (gh_BN a_itemOp a_itemA nK m) o v2 v3 v4 → (vp_in f_clauses 16 ∧ ((a_itemCount f_clauses.toNatClampNeg < 8 → (vp_in f_clauses 16 ∧ (∀ x5_41 : Int32, x5_41 = (f_clauses * 8) + a_itemCount f_clauses.toNatClampNeg → (vp_in x5_41 128 ∧ ∀ a_itemOp_43 : Nat → Int32, a_itemOp_43 = upd a_itemOp x5_41.toNatClampNeg (nI o) → (vp_in x5_41 128 ∧ ∀ a_itemA_45 : Nat → Int32, a_itemA_45 = upd a_itemA x5_41.toNatClampNeg v2 → (vp_in x5_41 128 ∧ ∀ a_itemB_47 : Nat → Int32, a_itemB_47 = upd a_itemB x5_41.toNatClampNeg v3 → (vp_in x5_41 128 ∧ ∀ a_itemC_49 : Nat → Int32, a_itemC_49 = upd a_itemC x5_41.toNatClampNeg v4 → (vp_in f_clauses 16 ∧ (vp_in f_clauses 16 ∧ ∀ a_itemCount_52 : Nat → Int32, a_itemCount_52 = upd a_itemCount f_clauses.toNatClampNeg (a_itemCount f_clauses.toNatClampNeg + 1) → ((nI o = 0 → ∀ f_openPairs_64 : Int32, f_openPairs_64 = f_openPairs ||| ((1 : Int32) <<< (v2 &&& 31)) → wX_item_131 post (nI o) f_cells f_goals f_usedSlots f_woken f_clauses f_writing f_openPairs_64 f_blockedOn f_commits f_lastClause f_broken f_cellLimit f_goalLimit f_clauseLimit a_kind a_first a_second a_ref a_hooks a_order a_goalPred a_goalArg a_goalState a_clausePred a_itemCount_52 a_makeCount a_spawnCount a_itemOp_43 a_itemA_45 a_itemB_47 a_itemC_49 a_names) ∧ (¬ nI o = 0 → wX_item_131 post (nI o) f_cells f_goals f_usedSlots f_woken f_clauses f_writing f_openPairs f_blockedOn f_commits f_lastClause f_broken f_cellLimit f_goalLimit f_clauseLimit a_kind a_first a_second a_ref a_hooks a_order a_goalPred a_goalArg a_goalState a_clausePred a_itemCount_52 a_makeCount a_spawnCount a_itemOp_43 a_itemA_45 a_itemB_47 a_itemC_49 a_names))))))))))) ∧ (¬ a_itemCount f_clauses.toNatClampNeg < 8 → post (-2) (f_cells, f_goals, f_usedSlots, f_woken, f_clauses, f_writing, f_openPairs, f_blockedOn, f_commits, f_lastClause, f_broken, f_cellLimit, f_goalLimit, f_clauseLimit, a_kind, a_first, a_second, a_ref, a_hooks, a_order, a_goalPred, a_goalArg, a_goalState, a_clausePred, a_itemCount, a_makeCount, a_spawnCount, a_itemOp, a_itemA, a_itemB, a_itemC, a_names))))) → (¬ gh_Fit (gh_HN a_itemOp a_itemA nK m) (gh_BN a_itemOp a_itemA nK m) o v2 v3 v4 → post (-1) (f_cells, f_goals, f_usedSlots, f_woken, f_clauses, f_writing, f_openPairs, f_blockedOn, f_commits, f_lastClause, f_broken, f_cellLimit, f_goalLimit, f_clauseLimit, a_kind, a_first, a_second, a_ref, a_hooks, a_order, a_goalPred, a_goalArg, a_goalState, a_clausePred, a_itemCount, a_makeCount, a_spawnCount, a_itemOp, a_itemA, a_itemB, a_itemC, a_names)) → wpX_item post (f_cells, f_goals, f_usedSlots, f_woken, f_clauses, f_writing, f_openPairs, f_blockedOn, f_commits, f_lastClause, f_broken, f_cellLimit, f_goalLimit, f_clauseLimit, a_kind, a_first, a_second, a_ref, a_hooks, a_order, a_goalPred, a_goalArg, a_goalState, a_clausePred, a_itemCount, a_makeCount, a_spawnCount, a_itemOp, a_itemA, a_itemB, a_itemC, a_names) (nI o) v2 v3 v4 := by
    intro post p1 p0
    refine br_f w0 (br_f o0 (br_t o19 ?_))
    exact gh_ofX ho hK hK16 hm hM OP (fun z => br_f (by decide) (p1 z)) (fun z => br_t rfl (p0 z))
  have toY : ∀ (post : Int32 → SY → Prop), (gh_Fit (gh_HN a_itemOp a_itemA nK m) (gh_BN a_itemOp a_itemA nK m) o v2 v3 v4 → wY_item_191 post (nI o) v2 v3 v4 (nI nK) (nI (gh_cnt a_itemOp 6 10 nK m)) (nI ((nK * 8 + m) * 4)) b_seenX b_seenY b_num a_kind a_ref b_value b_left b_right b_rec b_code a_clausePred a_itemCount) → (¬ gh_Fit (gh_HN a_itemOp a_itemA nK m) (gh_BN a_itemOp a_itemA nK m) o v2 v3 v4 → post (-1) (b_seenX, b_seenY, b_num, a_kind, a_ref, b_value, b_left, b_right, b_rec, b_code, a_clausePred, a_itemCount)) → wpY_item post (b_seenX, b_seenY, b_num, a_kind, a_ref, b_value, b_left, b_right, b_rec, b_code, a_clausePred, a_itemCount) (nI o) v2 v3 v4 := by
    intro post p1 p0
    refine br_f y0 (br_f o0 (br_f y19 ?_))
    have go : (o = 0 → ∃ j, j < 3 ∧ v2 = nI j) → wY_item_34 post (nI o) v2 v3 v4 b_seenX b_seenY b_num a_kind a_ref b_value b_left b_right b_rec b_code a_clausePred a_itemCount := by
      intro h0a
      refine nm_r n2 (gh_coY hK16 hm em D (And.intro (vp_in_nI hK16 (by omega)) ?_))
      rw [nI_clamp (n := nK) (by omega), em, gh_ix8]
      exact nm_r (pk_mul _ 4) (gh_yfit ho n2 hK16 hm em D h0a p1 p0)
    by_cases e0 : o = 0
    · subst e0
      refine br_t rfl ?_
      rcases pk_ix v2 (n := 3) (by decide) with z | z | ⟨j, hj, ej⟩
      · refine br_t z (p0 ?_)
        rintro (⟨_, j, hj, rfl⟩ | ⟨z', _⟩ | ⟨z', _⟩ | z' | ⟨z', _⟩ | ⟨z', _⟩)
        · exact nI_pos (by omega) z
        all_goals omega
      · have z2 : 2 < v2 := Int32.lt_of_lt_of_le (show (2 : Int32) < nI 3 by decide) z
        have z0 : ¬ v2 < 0 := fun y => absurd (Int32.lt_trans z2 y) (by decide)
        refine br_f z0 (br_f (Int32.not_le.mpr z2) (p0 ?_))
        rintro (⟨_, j, hj, rfl⟩ | ⟨z', _⟩ | ⟨z', _⟩ | z' | ⟨z', _⟩ | ⟨z', _⟩)
        · exact nI_nlt (b := j) (a := 2) (by omega) (by omega) z2
        all_goals omega
      · refine br_f (by rw [ej]; exact nI_pos (by omega)) (br_t (by rw [ej]; exact nI_le (b := 2) (by omega) (by decide)) (go (fun _ => ⟨j, hj, ej⟩)))
    · exact br_f (gh_op (k := 0) ho (by omega) e0) (go (fun z => absurd z e0))
  by_cases fit : gh_Fit (gh_HN a_itemOp a_itemA nK m) (gh_BN a_itemOp a_itemA nK m) o v2 v3 v4
  · by_cases m8 : m < 8
    · -- the item is written
      have eOP : ∃ op : Int32, (o = 0 → op = f_openPairs ||| ((1 : Int32) <<< (v2 &&& 31))) ∧ (¬ o = 0 → op = f_openPairs) ∧ (∀ j, j < 3 → (bt op j = true ↔ ∃ i, i < m + 1 ∧ upd a_itemOp (nK * 8 + m) (nI o) (nK * 8 + i) = 0 ∧ upd a_itemA (nK * 8 + m) v2 (nK * 8 + i) = nI j)) := by
        have old : ∀ j, (∃ i, i < m + 1 ∧ upd a_itemOp (nK * 8 + m) (nI o) (nK * 8 + i) = 0 ∧ upd a_itemA (nK * 8 + m) v2 (nK * 8 + i) = nI j) ↔ ((∃ i, i < m ∧ a_itemOp (nK * 8 + i) = 0 ∧ a_itemA (nK * 8 + i) = nI j) ∨ (nI o = 0 ∧ v2 = nI j)) := by
          intro j
          constructor
          · rintro ⟨i, hi, h1, h2⟩
            by_cases e : i = m
            · rw [e, pk_us] at h1
              rw [e, pk_us] at h2
              exact Or.inr ⟨h1, h2⟩
            · rw [pk_un (by omega)] at h1 h2
              exact Or.inl ⟨i, by omega, h1, h2⟩
          · rintro (⟨i, hi, h1, h2⟩ | ⟨h1, h2⟩)
            · exact ⟨i, by omega, (pk_un (by omega)).trans h1, (pk_un (by omega)).trans h2⟩
            · exact ⟨m, by omega, pk_us.trans h1, pk_us.trans h2⟩
        by_cases e0 : o = 0
        · subst e0
          have ⟨ja, hja, eja⟩ : ∃ j, j < 3 ∧ v2 = nI j := by
            rcases fit with ⟨_, z⟩ | ⟨z', _⟩ | ⟨z', _⟩ | z' | ⟨z', _⟩ | ⟨z', _⟩
            · exact z
            all_goals omega
          refine ⟨_, fun _ => rfl, fun z => absurd rfl z, fun j hj => ?_⟩
          rw [old j, eja, gh_set (by omega) (by omega), OP j hj]
          exact ⟨fun z => z.imp id (fun z => ⟨rfl, by rw [z]⟩), fun z => z.imp id (fun z => ((nI_eq (by omega) (by omega)).mp z.2).symm)⟩
        · refine ⟨f_openPairs, fun z => absurd z e0, fun _ => rfl, fun j hj => ?_⟩
          rw [old j, OP j hj]
          exact ⟨Or.inl, fun z => z.elim id (fun z => absurd z.1 (gh_op (k := 0) ho (by omega) e0))⟩
      obtain ⟨op, op1, op2, op3⟩ := eOP
      refine ⟨(if o < 6 then 0 else if o ≤ 10 then nI (9 + gh_cnt a_itemOp 6 10 nK m) else 0), (f_cells, f_goals, f_usedSlots, f_woken, f_clauses, f_writing, op, f_blockedOn, f_commits, f_lastClause, f_broken, f_cellLimit, f_goalLimit, f_clauseLimit, a_kind, a_first, a_second, a_ref, a_hooks, a_order, a_goalPred, a_goalArg, a_goalState, a_clausePred, (upd a_itemCount nK (nI (m + 1))), (if o < 6 then a_makeCount else if o ≤ 10 then upd a_makeCount nK (nI (gh_cnt a_itemOp 6 10 nK m + 1)) else a_makeCount), (if o < 12 then a_spawnCount else upd a_spawnCount nK (nI (gh_cnt a_itemOp 12 19 nK m + 1))), (upd a_itemOp (nK * 8 + m) (nI o)), (upd a_itemA (nK * 8 + m) v2), (upd a_itemB (nK * 8 + m) v3), (upd a_itemC (nK * 8 + m) v4), a_names), (b_seenX, b_seenY, b_num, a_kind, a_ref, b_value, b_left, b_right, b_rec, (upd (upd (upd (upd b_code ((nK * 8 + m) * 4) (nI o)) ((nK * 8 + m) * 4 + 1) v2) ((nK * 8 + m) * 4 + 2) v3) ((nK * 8 + m) * 4 + 3) v4), a_clausePred, (upd a_itemCount nK (nI (m + 1)))), ?_, fun post h => ?_, fun post h => ?_⟩
      · -- the relation
        have same : ∀ q, q < nK * 8 + m → upd a_itemOp (nK * 8 + m) (nI o) q = a_itemOp q ∧ upd a_itemA (nK * 8 + m) v2 q = a_itemA q ∧ upd a_itemB (nK * 8 + m) v3 q = a_itemB q ∧ upd a_itemC (nK * 8 + m) v4 q = a_itemC q := fun q hq => ⟨pk_un (by omega), pk_un (by omega), pk_un (by omega), pk_un (by omega)⟩
        have mk0 : ∀ c, c < nK → (if o < 6 then a_makeCount else if o ≤ 10 then upd a_makeCount nK (nI (gh_cnt a_itemOp 6 10 nK m + 1)) else a_makeCount) c = a_makeCount c := fun c hc => by
          repeat' split
          · rfl
          · exact pk_un (by omega)
          · rfl
        have sp0 : ∀ c, c < nK → (if o < 12 then a_spawnCount else upd a_spawnCount nK (nI (gh_cnt a_itemOp 12 19 nK m + 1))) c = a_spawnCount c := fun c hc => by
          split
          · rfl
          · exact pk_un (by omega)
        have cs : ∀ lo hi, gh_cnt (upd a_itemOp (nK * 8 + m) (nI o)) lo hi nK (m + 1) = gh_cnt a_itemOp lo hi nK m + (if nI o < lo then 0 else if hi < nI o then 0 else 1) := fun lo hi => by
          show gh_cnt (upd a_itemOp (nK * 8 + m) (nI o)) lo hi nK m + (if upd a_itemOp (nK * 8 + m) (nI o) (nK * 8 + m) < lo then 0 else if hi < upd a_itemOp (nK * 8 + m) (nI o) (nK * 8 + m) then 0 else 1) = _
          rw [gh_cnt_cg (fun j hj => (same (nK * 8 + j) (by omega)).1), pk_us]
        refine gh_in (nC := nC) (nG := nG) (nK := nK) (lc := _) (lg := lg) (lk := lk) (E := E) ⟨RN, ⟨fun c hc => ?_, fun _ => ⟨⟨hK16, m + 1, by omega, pk_us, fun i hi => ?_, ?_, ?_⟩, ?_⟩, ?_⟩, RH, RG, gh_RS_cl RS (fun c hc => gh_C1_8 (RK.1 c hc)) (fun c hc => ⟨rfl, pk_un (by omega)⟩) (fun q hq => ⟨(same q (by omega)).1, (same q (by omega)).2.1, (same q (by omega)).2.2.1⟩)⟩
        · exact gh_C1_cg (fun j hj => same _ (by omega)) (pk_un (by omega)) (mk0 c hc) (sp0 c hc) (RK.1 c hc)
        · by_cases e : i = m
          · subst e
            refine ⟨o, ho, pk_us, ?_⟩
            rw [pk_us, pk_us, pk_us]
            exact gh_Fit_mono (fun x z => (gh_HN_cg (fun j hj => ⟨(same _ (by omega)).1, (same _ (by omega)).2.1⟩)).mpr z) (fun x z => (gh_BN_cg (fun j hj => ⟨(same _ (by omega)).1, (same _ (by omega)).2.1⟩)).mpr z) fit
          · exact gh_WI_cg (fun j hj => same _ (by omega)) (WW i (by omega))
        · rw [cs]
          by_cases h6 : o < 6
          · have l6 : nI o < 6 := nI_lt (b := 6) h6 (by decide)
            rw [if_pos h6, if_pos l6]
            exact hM
          · have l6 : ¬ nI o < 6 := nI_nlt (a := o) (b := 6) (by omega) (by omega)
            rw [if_neg h6, if_neg l6]
            by_cases h10 : o ≤ 10
            · have l10 : ¬ 10 < nI o := nI_nlt (b := o) (a := 10) h10 (by omega)
              rw [if_pos h10, if_neg l10, pk_us]
            · have l10 : 10 < nI o := nI_lt (a := 10) (by omega) (by omega)
              rw [if_neg h10, if_pos l10]
              exact hM
        · rw [cs]
          by_cases h12 : o < 12
          · have l12 : nI o < 12 := nI_lt (b := 12) h12 (by decide)
            rw [if_pos h12, if_pos l12]
            exact hS
          · have l12 : ¬ nI o < 12 := nI_nlt (a := o) (b := 12) (by omega) (by omega)
            rw [if_neg h12, if_neg l12, if_neg y19, pk_us]
        · intro j hj
          rw [pk_us, nI_clamp (n := m + 1) (by omega)]
          exact op3 j hj
        · intro q hq
          obtain ⟨d0, d1, d2, d3⟩ := D q hq
          by_cases e : q = nK * 8 + m
          · subst e
            refine ⟨?_, ?_, ?_, ?_⟩
            · rw [pk_un (by omega), pk_un (by omega), pk_un (by omega), pk_us, pk_us]
            · rw [pk_un (by omega), pk_un (by omega), pk_us, pk_us]
            · rw [pk_un (by omega), pk_us, pk_us]
            · rw [pk_us, pk_us]
          · refine ⟨?_, ?_, ?_, ?_⟩
            · rw [pk_un (by omega), pk_un (by omega), pk_un (by omega), pk_un (by omega), pk_un e]; exact d0
            · rw [pk_un (by omega), pk_un (by omega), pk_un (by omega), pk_un (by omega), pk_un e]; exact d1
            · rw [pk_un (by omega), pk_un (by omega), pk_un (by omega), pk_un (by omega), pk_un e]; exact d2
            · rw [pk_un (by omega), pk_un (by omega), pk_un (by omega), pk_un (by omega), pk_un e]; exact d3
      · -- the component's walk
        refine toX post (fun _ => ?_) (fun z => absurd fit z)
        subst hK
        have vk : vp_in (nI nK) 16 := vp_in_nI hK16 (by omega)
        have v8 : vp_in (nI (nK * 8 + m)) 128 := vp_in_nI (by omega) (by omega)
        refine And.intro vk ?_
        rw [nI_clamp (n := nK) (by omega), em, nI_1 m]
        refine br_t (nI_lt (b := 8) m8 (by decide)) (And.intro vk (nm_r (gh_ix8 nK m) ?_))
        rw [nI_clamp (n := nK * 8 + m) (by omega)]
        refine And.intro v8 (nm_e (And.intro v8 (nm_e (And.intro v8 (nm_e (And.intro v8 (nm_e (And.intro vk (And.intro vk (nm_e ?_))))))))))
        by_cases e0 : o = 0
        · subst e0
          refine br_t rfl (nm_r (op1 rfl).symm ?_)
          exact gh_i131 ho rfl hK16 hM hS (by omega) h
        · have e := op2 e0
          rw [e] at h
          exact br_f (gh_op (k := 0) ho (by omega) e0) (gh_i131 ho rfl hK16 hM hS (by omega) h)
      · refine toY post (fun _ => ?_) (fun z => absurd fit z)
        exact gh_y191 ho hK16 m8 em (by omega) h
    · refine ⟨-2, _, _, gh_in R', fun post h => toX post (fun _ => ?_) (fun z => absurd fit z), fun post h => toY post (fun _ => ?_) (fun z => absurd fit z)⟩
      · subst hK
        rw [nI_clamp (n := nK) (by omega), em]
        exact And.intro (vp_in_nI hK16 (by omega)) (br_f (nI_nlt (b := 8) (by omega) (by omega)) h)
      · refine And.intro (vp_in_nI hK16 (by omega)) ?_
        rw [nI_clamp (n := nK) (by omega), em]
        exact br_f (nI_nlt (b := 8) (by omega) (by omega)) h
  · exact ⟨-1, _, _, gh_in R', fun post h => toX post (fun z => absurd z fit) (fun _ => h), fun post h => toY post (fun z => absurd z fit) (fun _ => h)⟩
end
theorem i_vc_item {k : Nat} {u : SX} {v : SY} (I : i_Rel k u v) (hk : k + 5 ≤ 2563) (v1 : Int32) (v2 : Int32) (v3 : Int32) (v4 : Int32) : wpX_item (fun r u' => wpY_item (fun r' v' => r' = r ∧ i_Rel (k + 5) u' v') v v1 v2 v3 v4) u v1 v2 v3 v4 := by
  refine gh_el (P := fun u v => wpX_item (fun r u' => wpY_item (fun r' v' => r' = r ∧ i_Rel (k + 5) u' v') v v1 v2 v3 v4) u v1 v2 v3 v4) ?_ I
  intros
  rename_i R
  obtain ⟨r, u', v', I', hX, hY⟩ := gh_item (k := k + 5) R v1 v2 v3 v4
  exact hX _ (hY _ ⟨rfl, I'⟩)
end
section
/-! names during a commit -/
theorem gh_cnt_mono {io : Nat → Int32} {lo hi : Int32} {c i : Nat} : ∀ {n : Nat}, i ≤ n → gh_cnt io lo hi c i ≤ gh_cnt io lo hi c n := by
  intro n
  induction n with
  | zero => intro z; obtain rfl : i = 0 := by omega
            exact Nat.le_refl _
  | succ n ih =>
    intro z
    by_cases e : i = n + 1
    · rw [e]; exact Nat.le_refl _
    · exact Nat.le_trans (ih (by omega)) (Nat.le_add_right _ _)
/-- the goal that is committed: ends of its arguments -/
def gh_g16 (E : Nat → Nat) (rc : Nat → Int32) : Nat → Nat := fun j => E (rc (65 + j)).toNatClampNeg
def gh_num (kd fs sc : Nat → Int32) (E : Nat → Nat) (rc : Nat → Int32) (x : Int32) : Prop := ∃ p, gh_hd kd fs sc E (gh_g16 E rc) x.toNatClampNeg = some p ∧ kd p = 1
def gh_CI (nC : Nat) (kd fs sc : Nat → Int32) (E : Nat → Nat) (nm rc io ia ib : Nat → Int32) (c m base i : Nat) : Prop :=
  nC = base + gh_cnt io 6 10 c i ∧
  (∀ j, j < 3 → vp_in (rc (65 + j)) nC ∧ vp_in (nm j) nC ∧ E (nm j).toNatClampNeg = gh_g16 E rc j) ∧
  (∀ j, j < 3 → (∃ q, q < m ∧ io (c * 8 + q) = 0 ∧ ia (c * 8 + q) = nI j) → kd (gh_g16 E rc j) = 2 ∧ (vp_in (nm (3 + 2 * j)) nC ∧ E (nm (3 + 2 * j)).toNatClampNeg = E (fs (gh_g16 E rc j)).toNatClampNeg) ∧ (vp_in (nm (4 + 2 * j)) nC ∧ E (nm (4 + 2 * j)).toNatClampNeg = E (sc (gh_g16 E rc j)).toNatClampNeg)) ∧
  (∀ q, q < gh_cnt io 6 10 c i → nm (9 + q) = nI (base + q)) ∧
  (∀ q, i ≤ q → q < m → (io (c * 8 + q) = 9 → gh_num kd fs sc E rc (ia (c * 8 + q))) ∧ (io (c * 8 + q) = 10 → gh_num kd fs sc E rc (ia (c * 8 + q)) ∧ gh_num kd fs sc E rc (ib (c * 8 + q))))
section
variable {nC nC' : Nat} {kd rf fs sc kd' fs' sc' nm nm' rc rc' io ia ib : Nat → Int32} {E E' : Nat → Nat} {c m base i : Nat}
theorem gh_num_xt (H : gh_HX nC kd rf fs sc E) (T : gh_XT nC nC' kd kd' fs fs' sc sc' E E') (hr : ∀ j, j < 3 → vp_in (rc (65 + j)) nC ∧ rc' (65 + j) = rc (65 + j)) {x : Int32} (h : gh_num kd fs sc E rc x) : gh_num kd' fs' sc' E' rc' x := by
  obtain ⟨p, hp, kp⟩ := h
  obtain ⟨t1, t2, t3, t4⟩ := T
  have hG : ∀ j, j < 3 → gh_g16 E rc j < nC := fun j hj => gh_Ht_e H.1 (gh_vn (hr j hj).1)
  have pn : p < nC := gh_hd_lt H hG hp
  have k1 : ¬ (1 : Int32) = 0 := by decide
  have k2 : ¬ (2 : Int32) = 0 := by decide
  refine ⟨p, ?_, by rw [(t2 p pn).1]; exact kp⟩
  have gE : ∀ j, j < 3 → ¬ kd (gh_g16 E rc j) = 0 → gh_g16 E' rc' j = gh_g16 E rc j := fun j hj hk => by
    unfold gh_g16
    rw [(hr j hj).2]
    exact t3 _ (gh_vn (hr j hj).1) hk
  unfold gh_hd at hp ⊢
  by_cases n3 : x.toNatClampNeg < 3
  · rw [if_pos n3] at hp ⊢
    have e := Option.some.inj hp
    rw [gE _ n3 (by rw [e, kp]; exact k1)]
    exact hp
  · rw [if_neg n3] at hp ⊢
    by_cases w : x.toNatClampNeg < 9 ∧ kd (gh_g16 E rc ((x.toNatClampNeg - 3) / 2)) = 2
    · rw [if_pos w] at hp
      have hj : (x.toNatClampNeg - 3) / 2 < 3 := by omega
      have hg := hG _ hj
      have e1 := gE _ hj (by rw [w.2]; exact k2)
      obtain ⟨u1, u2, u3⟩ := t2 _ hg
      obtain ⟨p1, p2⟩ := H.2 _ hg w.2
      rw [if_pos ⟨w.1, by rw [e1, u1]; exact w.2⟩, e1, u2, u3]
      have e := Option.some.inj hp
      by_cases y : x.toNatClampNeg % 2 = 0
      · rw [if_pos y] at e ⊢
        rw [t3 _ (gh_vn p2) (by rw [e, kp]; exact k1), e]
      · rw [if_neg y] at e ⊢
        rw [t3 _ (gh_vn p1) (by rw [e, kp]; exact k1), e]
    · rw [if_neg w] at hp
      exact absurd hp (by simp)
theorem gh_CI_xt (H : gh_HX nC kd rf fs sc E) (I : gh_CI nC kd fs sc E nm rc io ia ib c m base i) (T : gh_XT nC nC' kd kd' fs fs' sc sc' E E') (hr : ∀ q, 64 ≤ q → rc' q = rc q) (hn : ∀ q, q < 9 + gh_cnt io 6 10 c i → nm' q = nm q) (hC : nC' = base + gh_cnt io 6 10 c (i + 1)) (hq : ∀ q, gh_cnt io 6 10 c i ≤ q → q < gh_cnt io 6 10 c (i + 1) → nm' (9 + q) = nI (base + q)) : gh_CI nC' kd' fs' sc' E' nm' rc' io ia ib c m base (i + 1) := by
  obtain ⟨c1, c2, c3, c4, c5⟩ := I
  have T' := T
  obtain ⟨t1, t2, t3, t4⟩ := T
  have hr3 : ∀ j, j < 3 → vp_in (rc (65 + j)) nC ∧ rc' (65 + j) = rc (65 + j) := fun j hj => ⟨(c2 j hj).1, hr _ (by omega)⟩
  have k2 : ¬ (2 : Int32) = 0 := by decide
  refine ⟨hC, fun j hj => ?_, fun j hj hp => ?_, fun q h => ?_, fun q h1 h2 => ?_⟩
  · obtain ⟨a, b, d⟩ := c2 j hj
    unfold gh_g16 at d ⊢
    rw [(hr3 j hj).2, hn j (by omega)]
    exact ⟨gh_vmono a t1, gh_vmono b t1, t4 _ _ (gh_vn b) (gh_vn a) d⟩
  · obtain ⟨a, ⟨b1, b2⟩, ⟨d1, d2⟩⟩ := c3 j hj hp
    have hg : gh_g16 E rc j < nC := gh_Ht_e H.1 (gh_vn (c2 j hj).1)
    have e : gh_g16 E' rc' j = gh_g16 E rc j := by
      unfold gh_g16
      rw [(hr3 j hj).2]
      exact t3 _ (gh_vn (c2 j hj).1) (by show ¬ kd (gh_g16 E rc j) = 0; rw [a]; exact k2)
    obtain ⟨u1, u2, u3⟩ := t2 _ hg
    obtain ⟨p1, p2⟩ := H.2 _ hg a
    rw [e, u1, u2, u3, hn _ (by omega), hn _ (by omega)]
    exact ⟨a, ⟨gh_vmono b1 t1, t4 _ _ (gh_vn b1) (gh_vn p1) b2⟩, ⟨gh_vmono d1 t1, t4 _ _ (gh_vn d1) (gh_vn p2) d2⟩⟩
  · by_cases z : q < gh_cnt io 6 10 c i
    · rw [hn _ (by omega)]
      exact c4 q z
    · exact hq q (by omega) h
  · obtain ⟨a, b⟩ := c5 q (by omega) h2
    exact ⟨fun z => gh_num_xt H T' hr3 (a z), fun z => ⟨gh_num_xt H T' hr3 (b z).1, gh_num_xt H T' hr3 (b z).2⟩⟩
/-- a head name -/
theorem gh_CI_head (I : gh_CI nC kd fs sc E nm rc io ia ib c m base i) (hi : i < m) {x : Int32} (h : gh_HN io ia c i x) : ∃ n p, n ≤ 8 ∧ x = nI n ∧ vp_in (nm n) nC ∧ gh_hd kd fs sc E (gh_g16 E rc) n = some p ∧ E (nm n).toNatClampNeg = p := by
  obtain ⟨c1, c2, c3, c4, c5⟩ := I
  obtain ⟨n, hn, rfl, hp⟩ := h
  by_cases n3 : n < 3
  · exact ⟨n, _, hn, rfl, (c2 n n3).2.1, if_pos n3, (c2 n n3).2.2⟩
  · rcases hp with hp | ⟨q, hq, q1, q2⟩
    · exact absurd hp n3
    · have hj : (n - 3) / 2 < 3 := by omega
      obtain ⟨a, ⟨b1, b2⟩, ⟨d1, d2⟩⟩ := c3 _ hj ⟨q, by omega, q1, q2⟩
      by_cases y : n % 2 = 0
      · have e : 4 + 2 * ((n - 3) / 2) = n := by omega
        rw [e] at d1 d2
        refine ⟨n, _, hn, rfl, d1, ?_, d2⟩
        unfold gh_hd
        rw [if_neg n3, if_pos ⟨by omega, a⟩, if_pos y]
      · have e : 3 + 2 * ((n - 3) / 2) = n := by omega
        rw [e] at b1 b2
        refine ⟨n, _, hn, rfl, b1, ?_, b2⟩
        unfold gh_hd
        rw [if_neg n3, if_pos ⟨by omega, a⟩, if_neg y]
end
section
variable {f_cells f_goals f_usedSlots f_woken f_clauses f_writing f_openPairs : Int32} {f_blockedOn : Int64} {f_commits f_lastClause f_broken f_cellLimit f_goalLimit f_clauseLimit : Int32} {a_kind a_first a_second a_ref a_hooks a_order a_goalPred a_goalArg a_goalState a_clausePred a_itemCount a_makeCount a_spawnCount a_itemOp a_itemA a_itemB a_itemC a_names : Nat → Int32} {b_seenX b_seenY : Int32} {b_num b_value b_left b_right b_rec b_code : Nat → Int32}
variable {nC : Nat} {E : Nat → Nat} {c m base i : Nat}
theorem gh_CI_AY (I : gh_CI nC a_kind a_first a_second E a_names b_rec a_itemOp a_itemA a_itemB c m base i) : gh_AY nC E b_rec 16 (gh_g16 E b_rec) := fun j hj => ⟨(I.2.1 j hj).1, rfl⟩
/-- a body name: its cell in the component, and what the reference finds -/
theorem gh_CI_body (H : gh_HX nC a_kind a_ref a_first a_second E) (Hy : gh_HY nC a_kind a_first a_second b_left b_right E) (I : gh_CI nC a_kind a_first a_second E a_names b_rec a_itemOp a_itemA a_itemB c m base i) (hi : i < m) (hm : m ≤ 8) {x : Int32} (h : gh_BN a_itemOp a_itemA c i x) :
    ∃ n z, n < 17 ∧ x = nI n ∧ vp_in (a_names n) nC ∧ E (a_names n).toNatClampNeg = z ∧ z < nC ∧ E z = z ∧ ∀ (b_seenX b_seenY : Int32) (post : Int32 → Prop), post (nI z) → wpY_find post (b_seenX, b_seenY, b_num, a_kind, a_ref, b_value, b_left, b_right, b_rec, b_code, a_clausePred, a_itemCount) 16 x (nI base) := by
  have I' := I
  obtain ⟨c1, c2, c3, c4, c5⟩ := I
  rcases h with h | ⟨q, hq, rfl⟩
  · obtain ⟨n, p, hn, rfl, v, hp, e⟩ := gh_CI_head I' hi h
    refine ⟨n, p, by omega, rfl, v, e, ?_, ?_, fun sx sy post hpost => ?_⟩
    · rw [← e]; exact gh_Ht_e H.1 (gh_vn v)
    · rw [← e]; exact gh_Ht_ee H.1 (gh_vn v)
    · refine gh_fdY (g := 16) (G := gh_g16 E b_rec) H Hy (gh_CI_AY I') (by omega) hn ?_
      rw [hp]
      exact hpost
  · have lc := gh_cnt_le (io := a_itemOp) (lo := 6) (hi := 10) (c := c) (i := i)
    have h64 := H.1.1
    have e := c4 q hq
    have v : vp_in (a_names (9 + q)) nC := by rw [e]; exact vp_in_nI (by omega) (by omega)
    have cq : (nI (base + q)).toNatClampNeg = base + q := nI_clamp (by omega)
    refine ⟨9 + q, E (base + q), by omega, rfl, v, by rw [e, cq], gh_Ht_e H.1 (by omega), gh_Ht_ee H.1 (by omega), fun sx sy post hpost => ?_⟩
    exact gh_fdY9 H.1 (by omega) hpost
/-! the names are loaded -/
def gh_lna (kd fs sc : Nat → Int32) (nm : Nat → Int32) (j : Nat) (x : Int32) (p : Nat) : Nat → Int32 :=
  upd (upd (upd nm j x) (3 + 2 * j) (if kd p = 2 then fs p else nI p)) (4 + 2 * j) (if kd p = 2 then sc p else nI p)
theorem gh_lnx {s j n : Nat} (H : gh_Ht nC a_kind a_ref E) (A : gh_Ar nC a_goalArg s) (hs : s < 16) (hj : j < 3) {post : SX → Prop} (h : wX_loadNames_2 post (nI s) f_cells f_goals f_usedSlots f_woken f_clauses f_writing f_openPairs f_blockedOn f_commits f_lastClause f_broken f_cellLimit f_goalLimit f_clauseLimit n (nI (j + 1)) a_kind a_first a_second a_ref a_hooks a_order a_goalPred a_goalArg a_goalState a_clausePred a_itemCount a_makeCount a_spawnCount a_itemOp a_itemA a_itemB a_itemC (gh_lna a_kind a_first a_second a_names j (a_goalArg (s * 3 + j)) (E (a_goalArg (s * 3 + j)).toNatClampNeg))) : wX_loadNames_2 post (nI s) f_cells f_goals f_usedSlots f_woken f_clauses f_writing f_openPairs f_blockedOn f_commits f_lastClause f_broken f_cellLimit f_goalLimit f_clauseLimit (n + 1) (nI j) a_kind a_first a_second a_ref a_hooks a_order a_goalPred a_goalArg a_goalState a_clausePred a_itemCount a_makeCount a_spawnCount a_itemOp a_itemA a_itemB a_itemC a_names := by
  have h64 := H.1
  refine br_f (nI_ge (b := 3) hj (by decide)) ?_
  rw [gh_ix3]
  refine And.intro (vp_in_nI (by omega) (by omega)) ?_
  rw [nI_clamp (n := s * 3 + j) (by omega)]
  refine nm_e ?_
  refine gh_fX H (A j hj) ?_
  have pn : E (a_goalArg (s * 3 + j)).toNatClampNeg < nC := gh_Ht_e H (gh_vn (A j hj))
  generalize E (a_goalArg (s * 3 + j)).toNatClampNeg = p at h pn
  have vp : vp_in (nI p) 64 := vp_in_nI (by omega) (by omega)
  have e3 : 3 + 2 * nI j = nI (3 + 2 * j) := by
    rw [show (2 : Int32) * nI j = nI (2 * j) from pk_mul 2 j]
    exact nI_add 3 _
  have e4 : 4 + 2 * nI j = nI (4 + 2 * j) := by
    rw [show (2 : Int32) * nI j = nI (2 * j) from pk_mul 2 j]
    exact nI_add 4 _
  refine And.intro (vp_in_nI (by omega) (by omega)) ?_
  rw [nI_clamp (n := j) (by omega)]
  refine nm_e (And.intro vp ?_)
  rw [nI_clamp (n := p) (by omega)]
  unfold gh_lna at h
  by_cases k2 : a_kind p = 2
  · rw [if_pos k2, if_pos k2] at h
    refine br_t k2 (And.intro vp ?_)
    unfold wX_loadNames_64
    rw [e3, e4, nI_clamp (n := 3 + 2 * j) (by omega), nI_clamp (n := 4 + 2 * j) (by omega), nI_clamp (n := p) (by omega)]
    exact And.intro (vp_in_nI (by omega) (by omega)) (nm_e (And.intro vp (br_t k2 (And.intro vp (And.intro (vp_in_nI (by omega) (by omega)) (nm_e (nm_r (nI_1 j) h)))))))
  · rw [if_neg k2, if_neg k2] at h
    refine br_f k2 ?_
    unfold wX_loadNames_64
    rw [e3, e4, nI_clamp (n := 3 + 2 * j) (by omega), nI_clamp (n := 4 + 2 * j) (by omega), nI_clamp (n := p) (by omega)]
    exact And.intro (vp_in_nI (by omega) (by omega)) (nm_e (And.intro vp (br_f k2 (And.intro (vp_in_nI (by omega) (by omega)) (nm_e (nm_r (nI_1 j) h))))))
theorem gh_lnX {s : Nat} (H : gh_Ht nC a_kind a_ref E) (A : gh_Ar nC a_goalArg s) (hs : s < 16) {post : SX → Prop} (h : post (f_cells, f_goals, f_usedSlots, f_woken, f_clauses, f_writing, f_openPairs, f_blockedOn, f_commits, f_lastClause, f_broken, f_cellLimit, f_goalLimit, f_clauseLimit, a_kind, a_first, a_second, a_ref, a_hooks, a_order, a_goalPred, a_goalArg, a_goalState, a_clausePred, a_itemCount, a_makeCount, a_spawnCount, a_itemOp, a_itemA, a_itemB, a_itemC, ((gh_lna a_kind a_first a_second (gh_lna a_kind a_first a_second (gh_lna a_kind a_first a_second a_names 0 (a_goalArg (s * 3 + 0)) (E (a_goalArg (s * 3 + 0)).toNatClampNeg)) 1 (a_goalArg (s * 3 + 1)) (E (a_goalArg (s * 3 + 1)).toNatClampNeg)) 2 (a_goalArg (s * 3 + 2)) (E (a_goalArg (s * 3 + 2)).toNatClampNeg))))) : wpX_loadNames post (f_cells, f_goals, f_usedSlots, f_woken, f_clauses, f_writing, f_openPairs, f_blockedOn, f_commits, f_lastClause, f_broken, f_cellLimit, f_goalLimit, f_clauseLimit, a_kind, a_first, a_second, a_ref, a_hooks, a_order, a_goalPred, a_goalArg, a_goalState, a_clausePred, a_itemCount, a_makeCount, a_spawnCount, a_itemOp, a_itemA, a_itemB, a_itemC, a_names) (nI s) :=
  Exists.intro 4 (gh_lnx (j := 0) H A hs (by omega) (gh_lnx (j := 1) H A hs (by omega) (gh_lnx (j := 2) H A hs (by omega) (br_t (by decide) h))))
theorem gh_ln3 {s : Nat} : (∀ j, j < 3 → (gh_lna a_kind a_first a_second (gh_lna a_kind a_first a_second (gh_lna a_kind a_first a_second a_names 0 (a_goalArg (s * 3 + 0)) (E (a_goalArg (s * 3 + 0)).toNatClampNeg)) 1 (a_goalArg (s * 3 + 1)) (E (a_goalArg (s * 3 + 1)).toNatClampNeg)) 2 (a_goalArg (s * 3 + 2)) (E (a_goalArg (s * 3 + 2)).toNatClampNeg)) j = a_goalArg (s * 3 + j)) ∧ (∀ j, j < 3 → a_kind (gh_G E a_goalArg s j) = 2 → (gh_lna a_kind a_first a_second (gh_lna a_kind a_first a_second (gh_lna a_kind a_first a_second a_names 0 (a_goalArg (s * 3 + 0)) (E (a_goalArg (s * 3 + 0)).toNatClampNeg)) 1 (a_goalArg (s * 3 + 1)) (E (a_goalArg (s * 3 + 1)).toNatClampNeg)) 2 (a_goalArg (s * 3 + 2)) (E (a_goalArg (s * 3 + 2)).toNatClampNeg)) (3 + 2 * j) = a_first (gh_G E a_goalArg s j) ∧ (gh_lna a_kind a_first a_second (gh_lna a_kind a_first a_second (gh_lna a_kind a_first a_second a_names 0 (a_goalArg (s * 3 + 0)) (E (a_goalArg (s * 3 + 0)).toNatClampNeg)) 1 (a_goalArg (s * 3 + 1)) (E (a_goalArg (s * 3 + 1)).toNatClampNeg)) 2 (a_goalArg (s * 3 + 2)) (E (a_goalArg (s * 3 + 2)).toNatClampNeg)) (4 + 2 * j) = a_second (gh_G E a_goalArg s j)) := by
  have un : ∀ {f : Nat → Int32} {k j : Nat} {x : Int32}, j ≠ k → upd f k x j = f j := fun h => pk_un h
  refine ⟨fun j hj => ?_, fun j hj k2 => ?_⟩
  · have : j = 0 ∨ j = 1 ∨ j = 2 := by omega
    unfold gh_lna
    rcases this with rfl | rfl | rfl
    · rw [un (by decide), un (by decide), un (by decide), un (by decide), un (by decide), un (by decide), un (by decide), un (by decide), pk_us]
    · rw [un (by decide), un (by decide), un (by decide), un (by decide), un (by decide), pk_us]
    · rw [un (by decide), un (by decide), pk_us]
  · have : j = 0 ∨ j = 1 ∨ j = 2 := by omega
    unfold gh_G at k2 ⊢
    unfold gh_lna
    rcases this with rfl | rfl | rfl
    · refine ⟨?_, ?_⟩
      · rw [un (by decide), un (by decide), un (by decide), un (by decide), un (by decide), un (by decide), un (by decide), pk_us, if_pos k2]
      · rw [un (by decide), un (by decide), un (by decide), un (by decide), un (by decide), un (by decide), pk_us, if_pos k2]
    · refine ⟨?_, ?_⟩
      · rw [un (by decide), un (by decide), un (by decide), un (by decide), pk_us, if_pos k2]
      · rw [un (by decide), un (by decide), un (by decide), pk_us, if_pos k2]
    · refine ⟨?_, ?_⟩
      · rw [un (by decide), pk_us, if_pos k2]
      · rw [pk_us, if_pos k2]
end
end
section
/-! commit -/
def gh_sB (u : SX) (B : Int64) : SX := match u with
  | (f_cells, f_goals, f_usedSlots, f_woken, f_clauses, f_writing, f_openPairs, f_blockedOn, f_commits, f_lastClause, f_broken, f_cellLimit, f_goalLimit, f_clauseLimit, a_kind, a_first, a_second, a_ref, a_hooks, a_order, a_goalPred, a_goalArg, a_goalState, a_clausePred, a_itemCount, a_makeCount, a_spawnCount, a_itemOp, a_itemA, a_itemB, a_itemC, a_names) => (f_cells, f_goals, f_usedSlots, f_woken, f_clauses, f_writing, f_openPairs, B, f_commits, f_lastClause, f_broken, f_cellLimit, f_goalLimit, f_clauseLimit, a_kind, a_first, a_second, a_ref, a_hooks, a_order, a_goalPred, a_goalArg, a_goalState, a_clausePred, a_itemCount, a_makeCount, a_spawnCount, a_itemOp, a_itemA, a_itemB, a_itemC, a_names)
def gh_sS (v : SY) (sx sy : Int32) : SY := match v with
  | (b_seenX, b_seenY, b_num, a_kind, a_ref, b_value, b_left, b_right, b_rec, b_code, a_clausePred, a_itemCount) => (sx, sy, b_num, a_kind, a_ref, b_value, b_left, b_right, b_rec, b_code, a_clausePred, a_itemCount)
section
variable {f_cells f_goals f_usedSlots f_woken f_clauses f_writing f_openPairs : Int32} {f_blockedOn : Int64} {f_commits f_lastClause f_broken f_cellLimit f_goalLimit f_clauseLimit : Int32} {a_kind a_first a_second a_ref a_hooks a_order a_goalPred a_goalArg a_goalState a_clausePred a_itemCount a_makeCount a_spawnCount a_itemOp a_itemA a_itemB a_itemC a_names : Nat → Int32} {b_seenX b_seenY : Int32} {b_num b_value b_left b_right b_rec b_code : Nat → Int32}
variable {nC nG nK lc lg lk : Nat} {E : Nat → Nat}
theorem gh_tmY {kk : Nat} {x y : Int32} (hk : kk ≤ 2) (n0 : b_num 0 = nI nC) (h64 : nC ≤ 64) (hp : kk = 2 → vp_in x nC ∧ vp_in y nC) {post : Int32 → SY → Prop} (h : wY_term_32 post (nI kk) x y b_seenX b_seenY b_num a_kind a_ref b_value b_left b_right b_rec b_code a_clausePred a_itemCount) : wpY_term post (b_seenX, b_seenY, b_num, a_kind, a_ref, b_value, b_left, b_right, b_rec, b_code, a_clausePred, a_itemCount) (nI kk) x y := by
  refine br_f (nI_pos (by omega)) (br_f (nI_nlt (b := kk) (a := 2) hk (by omega)) ?_)
  by_cases e : kk = 2
  · subst e
    obtain ⟨h1, h2⟩ := hp rfl
    refine br_t rfl ?_
    refine gh_icY n0 h64 (fun _ => br_f (by decide) ?_) (fun z => absurd h1 z)
    exact gh_icY n0 h64 (fun _ => br_f (by decide) h) (fun z => absurd h2 z)
  · exact br_f (gh_op (k := 2) (by omega) (by omega) e) h
theorem gh_RN_broken (R : gh_RN nC nG nK lc lg lk f_cells f_goals f_clauses f_writing f_commits f_lastClause f_broken f_cellLimit f_goalLimit f_clauseLimit b_num) : gh_RN nC nG nK lc lg lk f_cells f_goals f_clauses f_writing f_commits f_lastClause 1 f_cellLimit f_goalLimit f_clauseLimit (upd b_num 6 1) := by
  obtain ⟨⟨a1, a2, a3, a4, a5⟩, b, c, ⟨d0, d1, d2, d3, d4, d5, d6, d7, d8, d9⟩⟩ := R
  exact ⟨⟨a1, a2, a3, a4, Or.inr rfl⟩, b, c, ⟨(pk_un (by decide)).trans d0, (pk_un (by decide)).trans d1, (pk_un (by decide)).trans d2, (pk_un (by decide)).trans d3, (pk_un (by decide)).trans d4, (pk_un (by decide)).trans d5, pk_us, (pk_un (by decide)).trans d7, (pk_un (by decide)).trans d8, (pk_un (by decide)).trans d9⟩⟩
theorem gh_RN_commit {x y : Int32} (R : gh_RN nC nG nK lc lg lk f_cells f_goals f_clauses f_writing f_commits f_lastClause f_broken f_cellLimit f_goalLimit f_clauseLimit b_num) : gh_RN nC nG nK lc lg lk f_cells f_goals f_clauses f_writing x y f_broken f_cellLimit f_goalLimit f_clauseLimit (upd (upd b_num 4 x) 5 y) := by
  obtain ⟨a, b, c, ⟨d0, d1, d2, d3, d4, d5, d6, d7, d8, d9⟩⟩ := R
  exact ⟨a, b, c, ⟨(pk_un (by decide)).trans ((pk_un (by decide)).trans d0), (pk_un (by decide)).trans ((pk_un (by decide)).trans d1), (pk_un (by decide)).trans ((pk_un (by decide)).trans d2), (pk_un (by decide)).trans ((pk_un (by decide)).trans d3), (pk_un (by decide)).trans pk_us, pk_us, (pk_un (by decide)).trans ((pk_un (by decide)).trans d6), (pk_un (by decide)).trans ((pk_un (by decide)).trans d7), (pk_un (by decide)).trans ((pk_un (by decide)).trans d8), (pk_un (by decide)).trans ((pk_un (by decide)).trans d9)⟩⟩
end
theorem gh_cnt_s {io : Nat → Int32} {lo hi : Int32} {c i : Nat} : gh_cnt io lo hi c (i + 1) = gh_cnt io lo hi c i + (if io (c * 8 + i) < lo then 0 else if hi < io (c * 8 + i) then 0 else 1) := rfl
theorem gh_cnt_lo {io : Nat → Int32} {lo hi : Int32} {c i : Nat} (h : io (c * 8 + i) < lo) : gh_cnt io lo hi c (i + 1) = gh_cnt io lo hi c i := by rw [gh_cnt_s, if_pos h]; rfl
theorem gh_cnt_hi {io : Nat → Int32} {lo hi : Int32} {c i : Nat} (h0 : ¬ io (c * 8 + i) < lo) (h : hi < io (c * 8 + i)) : gh_cnt io lo hi c (i + 1) = gh_cnt io lo hi c i := by rw [gh_cnt_s, if_neg h0, if_pos h]; rfl
theorem gh_cnt_in {io : Nat → Int32} {lo hi : Int32} {c i : Nat} (h0 : ¬ io (c * 8 + i) < lo) (h : ¬ hi < io (c * 8 + i)) : gh_cnt io lo hi c (i + 1) = gh_cnt io lo hi c i + 1 := by rw [gh_cnt_s, if_neg h0, if_neg h]
theorem gh_cml {k c m base nK lc lg lk : Nat} (hc : c < nK) (m8 : m ≤ 8) : ∀ (d i nC nG : Nat) (E : Nat → Nat) (f_cells f_goals f_usedSlots f_woken f_clauses f_writing f_openPairs : Int32) (f_blockedOn : Int64) (f_commits f_lastClause f_broken f_cellLimit f_goalLimit f_clauseLimit : Int32) (a_kind a_first a_second a_ref a_hooks a_order a_goalPred a_goalArg a_goalState a_clausePred a_itemCount a_makeCount a_spawnCount a_itemOp a_itemA a_itemB a_itemC a_names : Nat → Int32) (b_seenX b_seenY : Int32) (b_num b_value b_left b_right b_rec b_code : Nat → Int32), i + d = m → gh_RR nC nG nK lc lg lk E f_cells f_goals f_usedSlots f_woken f_clauses f_writing f_openPairs f_blockedOn f_commits f_lastClause f_broken f_cellLimit f_goalLimit f_clauseLimit a_kind a_first a_second a_ref a_hooks a_order a_goalPred a_goalArg a_goalState a_clausePred a_itemCount a_makeCount a_spawnCount a_itemOp a_itemA a_itemB a_itemC a_names b_seenX b_seenY b_num b_value b_left b_right b_rec b_code → a_itemCount c = nI m → gh_CI nC a_kind a_first a_second E a_names b_rec a_itemOp a_itemA a_itemB c m base i → base + gh_cnt a_itemOp 6 10 c m ≤ lc → (∃ g0, nG = g0 + gh_cnt a_itemOp 12 19 c i ∧ g0 + gh_cnt a_itemOp 12 19 c m ≤ lg) →
    ∃ u' v', i_Rel k u' v' ∧ (∀ (f_blockedOn : Int64) (post : SX → Prop) (n : Nat), d < n → post (gh_sB u' f_blockedOn) → wX_commit_21 post (nI c) n (nI (9 + gh_cnt a_itemOp 6 10 c i)) (nI i) f_cells f_goals f_usedSlots f_woken f_clauses f_writing f_openPairs f_blockedOn f_commits f_lastClause f_broken f_cellLimit f_goalLimit f_clauseLimit a_kind a_first a_second a_ref a_hooks a_order a_goalPred a_goalArg a_goalState a_clausePred a_itemCount a_makeCount a_spawnCount a_itemOp a_itemA a_itemB a_itemC a_names) ∧ (∀ (b_seenX b_seenY : Int32) (post : SY → Prop) (n : Nat), d < n → post (gh_sS v' b_seenX b_seenY) → wY_commit_48 post (nI c) (nI base) n (nI i) b_seenX b_seenY b_num a_kind a_ref b_value b_left b_right b_rec b_code a_clausePred a_itemCount) := by
  intro d
  induction d with
  | zero =>
    intro i nC nG E f_cells f_goals f_usedSlots f_woken f_clauses f_writing f_openPairs f_blockedOn f_commits f_lastClause f_broken f_cellLimit f_goalLimit f_clauseLimit a_kind a_first a_second a_ref a_hooks a_order a_goalPred a_goalArg a_goalState a_clausePred a_itemCount a_makeCount a_spawnCount a_itemOp a_itemA a_itemB a_itemC a_names b_seenX b_seenY b_num b_value b_left b_right b_rec b_code hi R em CI hroom hgoal
    obtain rfl : i = m := by omega
    have R' := R
    obtain ⟨RN, RK, RH, RG, RS⟩ := R
    have c16 := (RK.1 c hc).1
    have n4 : b_num 4 = f_commits := RN.2.2.2.2.2.2.2.1
    have vc : vp_in (nI c) 16 := vp_in_nI c16 (by omega)
    refine ⟨(f_cells, f_goals, f_usedSlots, f_woken, f_clauses, f_writing, f_openPairs, f_blockedOn, (f_commits + 1), (nI c), f_broken, f_cellLimit, f_goalLimit, f_clauseLimit, a_kind, a_first, a_second, a_ref, a_hooks, a_order, a_goalPred, a_goalArg, a_goalState, a_clausePred, a_itemCount, a_makeCount, a_spawnCount, a_itemOp, a_itemA, a_itemB, a_itemC, a_names), (b_seenX, b_seenY, (upd (upd b_num 4 (f_commits + 1)) 5 (nI c)), a_kind, a_ref, b_value, b_left, b_right, b_rec, b_code, a_clausePred, a_itemCount), gh_in (nC := nC) (nG := nG) (nK := nK) (lc := lc) (lg := lg) (lk := lk) (E := E) ⟨gh_RN_commit RN, RK, RH, RG, RS⟩, fun B post n hn h => ?_, fun sx sy post n hn h => ?_⟩
    · obtain ⟨n, rfl⟩ : ∃ n', n = n' + 1 := ⟨n - 1, by omega⟩
      refine And.intro vc ?_
      rw [nI_clamp (n := c) (by omega), em]
      exact br_t (nI_le (Nat.le_refl _) (by omega)) (nm_e h)
    · obtain ⟨n, rfl⟩ : ∃ n', n = n' + 1 := ⟨n - 1, by omega⟩
      refine And.intro vc ?_
      rw [nI_clamp (n := c) (by omega), em, n4]
      exact br_t (nI_le (Nat.le_refl _) (by omega)) (nm_e (nm_e h))
  | succ d ih =>
    intro i nC nG E f_cells f_goals f_usedSlots f_woken f_clauses f_writing f_openPairs f_blockedOn f_commits f_lastClause f_broken f_cellLimit f_goalLimit f_clauseLimit a_kind a_first a_second a_ref a_hooks a_order a_goalPred a_goalArg a_goalState a_clausePred a_itemCount a_makeCount a_spawnCount a_itemOp a_itemA a_itemB a_itemC a_names b_seenX b_seenY b_num b_value b_left b_right b_rec b_code hi R em CI hroom hgoal
    have R' := R
    obtain ⟨RN, RK, RH, RG, RS⟩ := R
    have hx := RH.1
    have H := hx.1
    have Hy := RH.2.1
    have V := RH.2.2
    have h64 := H.1
    have hlc : lc ≤ 64 := RN.2.2.1.2.1
    have hlg : lg ≤ 16 := RN.2.2.1.2.2.2.1
    have n0 : b_num 0 = nI nC := RN.2.2.2.1.trans RN.1.1
    obtain ⟨c16, m', hm', em', WW, _⟩ := RK.1 c hc
    obtain rfl : m = m' := (nI_eq (by omega) (by omega)).mp (em.symm.trans em')
    have him : i < m := by omega
    obtain ⟨o, ho, eo, fit⟩ := WW i him
    obtain ⟨d0, d1, d2, d3⟩ := RK.2.2 (c * 8 + i) (by omega)
    have vc : vp_in (nI c) 16 := vp_in_nI c16 (by omega)
    have cc : (nI c).toNatClampNeg = c := nI_clamp (by omega)
    have v8 : vp_in (nI (c * 8 + i)) 128 := vp_in_nI (by omega) (by omega)
    have c8 : (nI (c * 8 + i)).toNatClampNeg = c * 8 + i := nI_clamp (by omega)
    have lcn := gh_cnt_le (io := a_itemOp) (lo := 6) (hi := 10) (c := c) (i := i)
    have mono6 := gh_cnt_mono (io := a_itemOp) (lo := 6) (hi := 10) (c := c) (i := i + 1) (n := m) (by omega)
    have mono12 := gh_cnt_mono (io := a_itemOp) (lo := 12) (hi := 19) (c := c) (i := i + 1) (n := m) (by omega)
    obtain ⟨g0, eg, lg0⟩ := hgoal
    have eC := CI.1
    -- the reference's entry
    have Yin : ∀ (b_seenX b_seenY : Int32) (post : SY → Prop) (n : Nat), ((nI o < 8 → wY_commit_121 post (wY_commit_48 post (nI c) (nI base) n) (nI c) (nI base) (nI i) (nI ((c * 8 + i) * 4)) (nI o) (a_itemA (c * 8 + i)) (a_itemB (c * 8 + i)) (-1) b_seenX b_seenY b_num a_kind a_ref b_value b_left b_right b_rec b_code a_clausePred a_itemCount) ∧ (¬ nI o < 8 → wpY_find (fun r_169 => wY_commit_121 post (wY_commit_48 post (nI c) (nI base) n) (nI c) (nI base) (nI i) (nI ((c * 8 + i) * 4)) (nI o) (a_itemA (c * 8 + i)) (a_itemB (c * 8 + i)) r_169 b_seenX b_seenY b_num a_kind a_ref b_value b_left b_right b_rec b_code a_clausePred a_itemCount) (b_seenX, b_seenY, b_num, a_kind, a_ref, b_value, b_left, b_right, b_rec, b_code, a_clausePred, a_itemCount) 16 (a_itemA (c * 8 + i)) (nI base))) → wY_commit_48 post (nI c) (nI base) (n + 1) (nI i) b_seenX b_seenY b_num a_kind a_ref b_value b_left b_right b_rec b_code a_clausePred a_itemCount := by
      intro b_seenX b_seenY post n h
      refine And.intro vc ?_
      rw [cc, em, gh_ix8]
      refine br_f (nI_ge (by omega) (by omega)) (nm_r (pk_mul (c * 8 + i) 4) ?_)
      rw [nI_1 ((c * 8 + i) * 4), show nI ((c * 8 + i) * 4) + 2 = nI ((c * 8 + i) * 4 + 2) from nI_add _ 2, nI_clamp (n := (c * 8 + i) * 4) (by omega), nI_clamp (n := (c * 8 + i) * 4 + 1) (by omega), nI_clamp (n := (c * 8 + i) * 4 + 2) (by omega), d0, d1, d2, eo]
      exact And.intro (vp_in_nI (by omega) (by omega)) (nm_e (And.intro (vp_in_nI (by omega) (by omega)) (nm_e (And.intro (vp_in_nI (by omega) (by omega)) (nm_e h)))))
    -- no make
    have o19 : ¬ (19 : Int32) < nI o := nI_nlt (b := o) (a := 19) ho (by omega)
    have fin0 : ∀ (nG' : Nat) (E' : Nat → Nat) (f_goals' f_usedSlots' f_woken' f_broken' : Int32) (a_ref' a_hooks' a_order' a_goalPred' a_goalArg' a_goalState' b_num' b_rec' : Nat → Int32), gh_RR nC nG' nK lc lg lk E' f_cells f_goals' f_usedSlots' f_woken' f_clauses f_writing f_openPairs f_blockedOn f_commits f_lastClause f_broken' f_cellLimit f_goalLimit f_clauseLimit a_kind a_first a_second a_ref' a_hooks' a_order' a_goalPred' a_goalArg' a_goalState' a_clausePred a_itemCount a_makeCount a_spawnCount a_itemOp a_itemA a_itemB a_itemC a_names b_seenX b_seenY b_num' b_value b_left b_right b_rec' b_code → gh_XT nC nC a_kind a_kind a_first a_first a_second a_second E E' → (∀ q, 64 ≤ q → b_rec' q = b_rec q) → gh_cnt a_itemOp 6 10 c (i + 1) = gh_cnt a_itemOp 6 10 c i → nG' = g0 + gh_cnt a_itemOp 12 19 c (i + 1) →
        (∀ (f_blockedOn : Int64) (post : SX → Prop) (n : Nat), wX_commit_21 post (nI c) n (nI (9 + gh_cnt a_itemOp 6 10 c i)) (nI (i + 1)) f_cells f_goals' f_usedSlots' f_woken' f_clauses f_writing f_openPairs f_blockedOn f_commits f_lastClause f_broken' f_cellLimit f_goalLimit f_clauseLimit a_kind a_first a_second a_ref' a_hooks' a_order' a_goalPred' a_goalArg' a_goalState' a_clausePred a_itemCount a_makeCount a_spawnCount a_itemOp a_itemA a_itemB a_itemC a_names → wX_commit_21 post (nI c) (n + 1) (nI (9 + gh_cnt a_itemOp 6 10 c i)) (nI i) f_cells f_goals f_usedSlots f_woken f_clauses f_writing f_openPairs f_blockedOn f_commits f_lastClause f_broken f_cellLimit f_goalLimit f_clauseLimit a_kind a_first a_second a_ref a_hooks a_order a_goalPred a_goalArg a_goalState a_clausePred a_itemCount a_makeCount a_spawnCount a_itemOp a_itemA a_itemB a_itemC a_names) →
        (∀ (b_seenX b_seenY : Int32) (post : SY → Prop) (n : Nat), wY_commit_48 post (nI c) (nI base) n (nI (i + 1)) b_seenX b_seenY b_num' a_kind a_ref' b_value b_left b_right b_rec' b_code a_clausePred a_itemCount → wY_commit_48 post (nI c) (nI base) (n + 1) (nI i) b_seenX b_seenY b_num a_kind a_ref b_value b_left b_right b_rec b_code a_clausePred a_itemCount) →
        ∃ u' v', i_Rel k u' v' ∧ (∀ (f_blockedOn : Int64) (post : SX → Prop) (n : Nat), d + 1 < n → post (gh_sB u' f_blockedOn) → wX_commit_21 post (nI c) n (nI (9 + gh_cnt a_itemOp 6 10 c i)) (nI i) f_cells f_goals f_usedSlots f_woken f_clauses f_writing f_openPairs f_blockedOn f_commits f_lastClause f_broken f_cellLimit f_goalLimit f_clauseLimit a_kind a_first a_second a_ref a_hooks a_order a_goalPred a_goalArg a_goalState a_clausePred a_itemCount a_makeCount a_spawnCount a_itemOp a_itemA a_itemB a_itemC a_names) ∧ (∀ (b_seenX b_seenY : Int32) (post : SY → Prop) (n : Nat), d + 1 < n → post (gh_sS v' b_seenX b_seenY) → wY_commit_48 post (nI c) (nI base) n (nI i) b_seenX b_seenY b_num a_kind a_ref b_value b_left b_right b_rec b_code a_clausePred a_itemCount) := by
      intro nG' E' f_goals' f_usedSlots' f_woken' f_broken' a_ref' a_hooks' a_order' a_goalPred' a_goalArg' a_goalState' b_num' b_rec' R2 XT hr ec en hX hY
      have CI2 := gh_CI_xt (rc' := b_rec') (nm' := a_names) hx CI XT hr (fun q _ => rfl) (by rw [ec]; exact eC) (fun q h1 h2 => by omega)
      obtain ⟨u', v', I', iX, iY⟩ := ih (i + 1) nC nG' E' _ _ _ _ _ _ _ 0 _ _ _ _ _ _ _ _ _ _ _ _ _ _ _ _ _ _ _ _ _ _ _ _ 0 0 _ _ _ _ _ _ (by omega) R2 em CI2 hroom ⟨g0, en, lg0⟩
      rw [ec] at iX
      refine ⟨u', v', I', fun B post n hn h => ?_, fun sx sy post n hn h => ?_⟩
      · obtain ⟨n, rfl⟩ : ∃ n', n = n' + 1 := ⟨n - 1, by omega⟩
        exact hX B post n (iX B post n (by omega) h)
      · obtain ⟨n, rfl⟩ : ∃ n', n = n' + 1 := ⟨n - 1, by omega⟩
        exact hY sx sy post n (iY sx sy post n (by omega) h)
    -- a make
    have fin1 : ∀ (E' : Nat → Nat) (hf kd fs sc rf nm vl lf rt : Nat → Int32), 6 ≤ o → o ≤ 10 → gh_RR (nC + 1) nG nK lc lg lk E' (nI (nC + 1)) f_goals f_usedSlots f_woken f_clauses f_writing f_openPairs f_blockedOn f_commits f_lastClause f_broken f_cellLimit f_goalLimit f_clauseLimit kd fs sc rf hf a_order a_goalPred a_goalArg a_goalState a_clausePred a_itemCount a_makeCount a_spawnCount a_itemOp a_itemA a_itemB a_itemC a_names b_seenX b_seenY nm vl lf rt b_rec b_code → gh_XT nC (nC + 1) a_kind kd a_first fs a_second sc E E' →
        (∀ (f_blockedOn : Int64) (post : Int32 → SX → Prop), post (nI nC) ((nI (nC + 1)), f_goals, f_usedSlots, f_woken, f_clauses, f_writing, f_openPairs, f_blockedOn, f_commits, f_lastClause, f_broken, f_cellLimit, f_goalLimit, f_clauseLimit, kd, fs, sc, rf, hf, a_order, a_goalPred, a_goalArg, a_goalState, a_clausePred, a_itemCount, a_makeCount, a_spawnCount, a_itemOp, a_itemA, a_itemB, a_itemC, a_names) → wpX_makeItem post (f_cells, f_goals, f_usedSlots, f_woken, f_clauses, f_writing, f_openPairs, f_blockedOn, f_commits, f_lastClause, f_broken, f_cellLimit, f_goalLimit, f_clauseLimit, a_kind, a_first, a_second, a_ref, a_hooks, a_order, a_goalPred, a_goalArg, a_goalState, a_clausePred, a_itemCount, a_makeCount, a_spawnCount, a_itemOp, a_itemA, a_itemB, a_itemC, a_names) (nI (c * 8 + i))) →
        (∀ (b_seenX b_seenY : Int32) (post : SY → Prop) (n : Nat), wY_commit_48 post (nI c) (nI base) n (nI (i + 1)) b_seenX b_seenY nm kd rf vl lf rt b_rec b_code a_clausePred a_itemCount → wY_commit_48 post (nI c) (nI base) (n + 1) (nI i) b_seenX b_seenY b_num a_kind a_ref b_value b_left b_right b_rec b_code a_clausePred a_itemCount) →
        ∃ u' v', i_Rel k u' v' ∧ (∀ (f_blockedOn : Int64) (post : SX → Prop) (n : Nat), d + 1 < n → post (gh_sB u' f_blockedOn) → wX_commit_21 post (nI c) n (nI (9 + gh_cnt a_itemOp 6 10 c i)) (nI i) f_cells f_goals f_usedSlots f_woken f_clauses f_writing f_openPairs f_blockedOn f_commits f_lastClause f_broken f_cellLimit f_goalLimit f_clauseLimit a_kind a_first a_second a_ref a_hooks a_order a_goalPred a_goalArg a_goalState a_clausePred a_itemCount a_makeCount a_spawnCount a_itemOp a_itemA a_itemB a_itemC a_names) ∧ (∀ (b_seenX b_seenY : Int32) (post : SY → Prop) (n : Nat), d + 1 < n → post (gh_sS v' b_seenX b_seenY) → wY_commit_48 post (nI c) (nI base) n (nI i) b_seenX b_seenY b_num a_kind a_ref b_value b_left b_right b_rec b_code a_clausePred a_itemCount) := by
      intro E' hf kd fs sc rf nm vl lf rt o6 o10 R2 XT hX hY
      have l6 : ¬ nI o < 6 := nI_nlt (a := o) (b := 6) o6 (by omega)
      have l10 : ¬ 10 < nI o := nI_nlt (b := o) (a := 10) o10 (by omega)
      have l12 : nI o < 12 := nI_lt (b := 12) (by omega) (by decide)
      have ec : gh_cnt a_itemOp 6 10 c (i + 1) = gh_cnt a_itemOp 6 10 c i + 1 := gh_cnt_in (by rw [eo]; exact l6) (by rw [eo]; exact l10)
      have es : gh_cnt a_itemOp 12 19 c (i + 1) = gh_cnt a_itemOp 12 19 c i := gh_cnt_lo (by rw [eo]; exact l12)
      have CI2 := gh_CI_xt (rc' := b_rec) (nm' := upd a_names (9 + gh_cnt a_itemOp 6 10 c i) (nI nC)) hx CI XT (fun q _ => rfl) (fun q hq => pk_un (by omega)) (by rw [ec, eC]; omega) (fun q h1 h2 => by
        have : q = gh_cnt a_itemOp 6 10 c i := by omega
        rw [this, pk_us, eC])
      obtain ⟨u', v', I', iX, iY⟩ := ih (i + 1) (nC + 1) nG E' _ _ _ _ _ _ _ 0 _ _ _ _ _ _ _ _ _ _ _ _ _ _ _ _ _ _ _ _ _ _ _ (upd a_names (9 + gh_cnt a_itemOp 6 10 c i) (nI nC)) 0 0 _ _ _ _ _ _ (by omega) R2 em CI2 hroom ⟨g0, by rw [es]; exact eg, lg0⟩
      rw [ec] at iX
      refine ⟨u', v', I', fun B post n hn h => ?_, fun sx sy post n hn h => ?_⟩
      · obtain ⟨n, rfl⟩ : ∃ n', n = n' + 1 := ⟨n - 1, by omega⟩
        refine And.intro vc ?_
        rw [cc, em]
        refine br_f (nI_ge (by omega) (by omega)) (nm_r (gh_ix8 c i) (And.intro v8 ?_))
        rw [c8, eo]
        refine nm_e (br_f l6 (br_f l10 (hX B _ ?_)))
        refine And.intro (vp_in_nI (by omega) (by omega)) ?_
        rw [nI_clamp (n := 9 + gh_cnt a_itemOp 6 10 c i) (by omega)]
        exact nm_e (nm_r (nI_1 _) (nm_r (nI_1 i) (iX B post n (by omega) h)))
      · obtain ⟨n, rfl⟩ : ∃ n', n = n' + 1 := ⟨n - 1, by omega⟩
        exact hY sx sy post n (iY sx sy post n (by omega) h)
    have body := fun (x : Int32) (hb : gh_BN a_itemOp a_itemA c i x) => gh_CI_body (b_num := b_num) (b_value := b_value) (b_code := b_code) (a_clausePred := a_clausePred) (a_itemCount := a_itemCount) hx Hy CI him m8 hb
    by_cases o6 : o < 6
    · -- a test
      have l6 : nI o < 6 := nI_lt (b := 6) o6 (by decide)
      have l12 : nI o < 12 := nI_lt (b := 12) (by omega) (by decide)
      have es : gh_cnt a_itemOp 12 19 c (i + 1) = gh_cnt a_itemOp 12 19 c i := gh_cnt_lo (by rw [eo]; exact l12)
      refine fin0 nG E f_goals f_usedSlots f_woken f_broken a_ref a_hooks a_order a_goalPred a_goalArg a_goalState b_num b_rec R' gh_XT_rf (fun _ _ => rfl) (gh_cnt_lo (by rw [eo]; exact l6)) (by rw [es]; exact eg) (fun B post n h => ?_) (fun sx sy post n h => ?_)
      · refine And.intro vc ?_
        rw [cc, em]
        refine br_f (nI_ge (by omega) (by omega)) (nm_r (gh_ix8 c i) (And.intro v8 ?_))
        rw [c8, eo]
        exact nm_e (br_t l6 (br_t (nI_lt (b := 11) (by omega) (by decide)) (nm_r (nI_1 i) h)))
      · refine Yin sx sy post n ?_
        have : o = 0 ∨ o = 1 ∨ o = 2 ∨ o = 3 ∨ o = 4 ∨ o = 5 := by omega
        rcases this with rfl | rfl | rfl | rfl | rfl | rfl <;> exact br_t (by decide) (br_t (by decide) (br_t (by decide) (br_f (by decide) (br_f (by decide) (br_f (by decide) (br_f (by decide) (br_f (by decide) (br_f (by decide) (br_f (by decide) (br_t (by decide) (nm_r (nI_1 i) h)))))))))))
    by_cases o10 : o ≤ 10
    · have l6 : ¬ nI o < 6 := nI_nlt (a := o) (b := 6) (by omega) (by omega)
      have l10 : ¬ 10 < nI o := nI_nlt (b := o) (a := 10) o10 (by omega)
      have ec : gh_cnt a_itemOp 6 10 c (i + 1) = gh_cnt a_itemOp 6 10 c i + 1 := gh_cnt_in (by rw [eo]; exact l6) (by rw [eo]; exact l10)
      have hl : nC < lc := by omega
      by_cases e6 : o = 6
      · subst e6
        obtain ⟨hf, kd, fs, sc, rf, nm, vl, lf, rt, E', R2, XT, hX, hY⟩ := gh_mk (k := 0) (a := 0) (b := 0) (x := 0) (y := 0) R' hl (Or.inl rfl) (fun z => absurd z (by decide)) (fun z => absurd z (by decide))
        refine fin1 E' hf kd fs sc rf nm vl lf rt (by omega) (by omega) R2 XT (fun B post h => ?_) (fun sx sy post n h => ?_)
        · refine And.intro v8 ?_
          rw [c8, eo]
          exact nm_e (br_t rfl (hX B _ h))
        · refine Yin sx sy post n (br_t (by decide) (br_t (by decide) (br_t (by decide) (br_t rfl ?_))))
          refine gh_tmY (kk := 0) (by omega) n0 h64 (fun z => absurd z (by decide)) (hY sx sy _ ?_)
          exact br_f (by decide) (br_f (by decide) (br_f (by decide) (br_f (by decide) (br_f (by decide) (br_f (by decide) (br_t (by decide) (nm_r (nI_1 i) h)))))))
      by_cases e7 : o = 7
      · subst e7
        obtain ⟨hf, kd, fs, sc, rf, nm, vl, lf, rt, E', R2, XT, hX, hY⟩ := gh_mk (k := 1) (a := a_itemA (c * 8 + i)) (b := 0) (x := a_itemA (c * 8 + i)) (y := 0) R' hl (Or.inr (Or.inl rfl)) (fun z => absurd z (by decide)) (fun _ => rfl)
        refine fin1 E' hf kd fs sc rf nm vl lf rt (by omega) (by omega) R2 XT (fun B post h => ?_) (fun sx sy post n h => ?_)
        · refine And.intro v8 ?_
          rw [c8, eo]
          exact nm_e (br_f (by decide) (br_t rfl (And.intro v8 (hX B _ h))))
        · refine Yin sx sy post n (br_t (by decide) (br_t (by decide) (br_t (by decide) (br_f (by decide) (br_t rfl ?_)))))
          refine gh_tmY (kk := 1) (by omega) n0 h64 (fun z => absurd z (by decide)) (hY sx sy _ ?_)
          exact br_f (by decide) (br_f (by decide) (br_f (by decide) (br_f (by decide) (br_f (by decide) (br_t (by decide) (nm_r (nI_1 i) h))))))
      by_cases e8 : o = 8
      · subst e8
        have ⟨fa, fb⟩ : gh_BN a_itemOp a_itemA c i (a_itemA (c * 8 + i)) ∧ gh_BN a_itemOp a_itemA c i (a_itemB (c * 8 + i)) := by
          rcases fit with ⟨z, _⟩ | ⟨z, _⟩ | ⟨z, _⟩ | z | ⟨_, z⟩ | ⟨z, _⟩
          · omega
          · omega
          · omega
          · omega
          · exact z
          · omega
        obtain ⟨na, za, na17, ea, va, Ea, zan, Eza, fYa⟩ := body _ fa
        obtain ⟨nb, zb, nb17, eb, vb, Eb, zbn, Ezb, fYb⟩ := body _ fb
        obtain ⟨hf, kd, fs, sc, rf, nm, vl, lf, rt, E', R2, XT, hX, hY⟩ := gh_mk (k := 2) (a := a_names na) (b := a_names nb) (x := nI za) (y := nI zb) R' hl (Or.inr (Or.inr rfl)) (fun _ => ⟨⟨va, vb⟩, ⟨vp_in_nI zan (by omega), vp_in_nI zbn (by omega)⟩, by rw [nI_clamp (by omega), Eza, Ea], by rw [nI_clamp (by omega), Ezb, Eb]⟩) (fun z => absurd z (by decide))
        refine fin1 E' hf kd fs sc rf nm vl lf rt (by omega) (by omega) R2 XT (fun B post h => ?_) (fun sx sy post n h => ?_)
        · refine And.intro v8 ?_
          rw [c8, eo, ea, eb, nI_clamp (n := na) (by omega), nI_clamp (n := nb) (by omega)]
          exact nm_e (br_f (by decide) (br_f (by decide) (br_t rfl (And.intro v8 (And.intro (vp_in_nI na17 (by omega)) (And.intro v8 (And.intro (vp_in_nI nb17 (by omega)) (hX B _ h))))))))
        · refine Yin sx sy post n (br_f (by decide) (fYa sx sy _ (br_f (by decide) (br_f (by decide) (fYb sx sy _ (br_t (by decide) (br_f (by decide) (br_f (by decide) (br_t rfl ?_)))))))))
          refine gh_tmY (kk := 2) (by omega) n0 h64 (fun _ => ⟨vp_in_nI zan (by omega), vp_in_nI zbn (by omega)⟩) (hY sx sy _ ?_)
          exact br_f (by decide) (br_f (by decide) (br_f (by decide) (br_f (by decide) (br_t (by decide) (nm_r (nI_1 i) h)))))
      by_cases e9 : o = 9
      · subst e9
        have fa : gh_HN a_itemOp a_itemA c i (a_itemA (c * 8 + i)) := by
          rcases fit with ⟨z, _⟩ | ⟨_, z⟩ | ⟨z, _⟩ | z | ⟨z, _⟩ | ⟨z, _⟩
          · omega
          · exact z
          all_goals omega
        obtain ⟨na, p, na8, ea, va, hp, Ea⟩ := gh_CI_head CI him fa
        obtain ⟨p', hp', kp⟩ := (CI.2.2.2.2 i (Nat.le_refl _) him).1 eo
        rw [ea, nI_clamp (n := na) (by omega), hp] at hp'
        obtain rfl := Option.some.inj hp'
        have pn : p < nC := by rw [← Ea]; exact gh_Ht_e H (gh_vn va)
        have vp : vp_in (nI p) 64 := vp_in_nI (by omega) (by omega)
        have cp : (nI p).toNatClampNeg = p := nI_clamp (by omega)
        obtain ⟨hf, kd, fs, sc, rf, nm, vl, lf, rt, E', R2, XT, hX, hY⟩ := gh_mk (k := 1) (a := a_first p + a_itemB (c * 8 + i)) (b := 0) (x := b_value p + a_itemB (c * 8 + i)) (y := 0) R' hl (Or.inr (Or.inl rfl)) (fun z => absurd z (by decide)) (fun _ => by rw [(V p pn).1 kp])
        refine fin1 E' hf kd fs sc rf nm vl lf rt (by omega) (by omega) R2 XT (fun B post h => ?_) (fun sx sy post n h => ?_)
        · refine And.intro v8 ?_
          rw [c8, eo, ea, nI_clamp (n := na) (by omega)]
          refine nm_e (br_f (by decide) (br_f (by decide) (br_f (by decide) (And.intro v8 (And.intro (vp_in_nI (by omega) (by omega)) ?_)))))
          refine gh_fX H va ?_
          rw [Ea, cp]
          exact br_t rfl (And.intro vp (And.intro v8 (hX B _ h)))
        · refine Yin sx sy post n (br_f (by decide) ?_)
          rw [ea]
          refine gh_fdY (g := 16) (G := gh_g16 E b_rec) hx Hy (gh_CI_AY CI) (by omega) na8 ?_
          rw [hp]
          refine br_f (by decide) (br_t rfl (br_t (by decide) (br_f (by decide) (br_f (by decide) (br_f (by decide) (br_t rfl (br_f (nI_pos (n := p) (by omega)) (And.intro vp ?_))))))))
          rw [show (gh_ot (some p)).toNatClampNeg = p from cp]
          refine gh_tmY (kk := 1) (by omega) n0 h64 (fun z => absurd z (by decide)) (hY sx sy _ ?_)
          exact br_f (by decide) (br_f (by decide) (br_f (by decide) (br_t (by decide) (nm_r (nI_1 i) h))))
      · have e10 : o = 10 := by omega
        subst e10
        have ⟨fa, fb⟩ : gh_HN a_itemOp a_itemA c i (a_itemA (c * 8 + i)) ∧ gh_HN a_itemOp a_itemA c i (a_itemB (c * 8 + i)) := by
          rcases fit with ⟨z, _⟩ | ⟨z, _⟩ | ⟨_, z⟩ | z | ⟨z, _⟩ | ⟨z, _⟩
          · omega
          · omega
          · exact z
          all_goals omega
        obtain ⟨na, p, na8, ea, va, hp, Ea⟩ := gh_CI_head CI him fa
        obtain ⟨nb, q, nb8, eb, vb, hq, Eb⟩ := gh_CI_head CI him fb
        obtain ⟨⟨p', hp', kp⟩, ⟨q', hq', kq⟩⟩ := (CI.2.2.2.2 i (Nat.le_refl _) him).2 eo
        rw [ea, nI_clamp (n := na) (by omega), hp] at hp'
        obtain rfl := Option.some.inj hp'
        rw [eb, nI_clamp (n := nb) (by omega), hq] at hq'
        obtain rfl := Option.some.inj hq'
        have pn : p < nC := by rw [← Ea]; exact gh_Ht_e H (gh_vn va)
        have qn : q < nC := by rw [← Eb]; exact gh_Ht_e H (gh_vn vb)
        have vp : vp_in (nI p) 64 := vp_in_nI (by omega) (by omega)
        have vq : vp_in (nI q) 64 := vp_in_nI (by omega) (by omega)
        have cp : (nI p).toNatClampNeg = p := nI_clamp (by omega)
        have cq : (nI q).toNatClampNeg = q := nI_clamp (by omega)
        obtain ⟨hf, kd, fs, sc, rf, nm, vl, lf, rt, E', R2, XT, hX, hY⟩ := gh_mk (k := 1) (a := a_first p + a_first q) (b := 0) (x := b_value p + b_value q) (y := 0) R' hl (Or.inr (Or.inl rfl)) (fun z => absurd z (by decide)) (fun _ => by rw [(V p pn).1 kp, (V q qn).1 kq])
        refine fin1 E' hf kd fs sc rf nm vl lf rt (by omega) (by omega) R2 XT (fun B post h => ?_) (fun sx sy post n h => ?_)
        · refine And.intro v8 ?_
          rw [c8, eo, ea, eb, nI_clamp (n := na) (by omega), nI_clamp (n := nb) (by omega)]
          refine nm_e (br_f (by decide) (br_f (by decide) (br_f (by decide) (And.intro v8 (And.intro (vp_in_nI (by omega) (by omega)) ?_)))))
          refine gh_fX H va ?_
          refine br_f (by decide) (And.intro v8 (And.intro (vp_in_nI (by omega) (by omega)) ?_))
          refine gh_fX H vb ?_
          rw [Ea, Eb, cp, cq]
          exact And.intro vp (And.intro vq (hX B _ h))
        · refine Yin sx sy post n (br_f (by decide) ?_)
          rw [ea, eb]
          refine gh_fdY (g := 16) (G := gh_g16 E b_rec) hx Hy (gh_CI_AY CI) (by omega) na8 ?_
          rw [hp]
          refine br_f (by decide) (br_f (by decide) ?_)
          refine gh_fdY (g := 16) (G := gh_g16 E b_rec) hx Hy (gh_CI_AY CI) (by omega) nb8 ?_
          rw [hq]
          refine br_t (by decide) (br_f (by decide) (br_f (by decide) (br_f (by decide) (br_f (by decide) (br_t rfl (br_f (nI_pos (n := p) (by omega)) (br_f (nI_pos (n := q) (by omega)) (And.intro vp (And.intro vq ?_)))))))))
          rw [show (gh_ot (some p)).toNatClampNeg = p from cp, show (gh_ot (some q)).toNatClampNeg = q from cq]
          refine gh_tmY (kk := 1) (by omega) n0 h64 (fun z => absurd z (by decide)) (hY sx sy _ ?_)
          exact br_f (by decide) (br_f (by decide) (br_t (by decide) (nm_r (nI_1 i) h)))
    have l6 : ¬ nI o < 6 := nI_nlt (a := o) (b := 6) (by omega) (by omega)
    have l10 : 10 < nI o := nI_lt (a := 10) (by omega) (by omega)
    have ec : gh_cnt a_itemOp 6 10 c (i + 1) = gh_cnt a_itemOp 6 10 c i := gh_cnt_hi (by rw [eo]; exact l6) (by rw [eo]; exact l10)
    have fab : gh_BN a_itemOp a_itemA c i (a_itemA (c * 8 + i)) ∧ gh_BN a_itemOp a_itemA c i (a_itemB (c * 8 + i)) ∧ (12 ≤ o → gh_BN a_itemOp a_itemA c i (a_itemC (c * 8 + i))) := by
      rcases fit with ⟨z, _⟩ | ⟨z, _⟩ | ⟨z, _⟩ | z | ⟨z, z1, z2⟩ | ⟨z, z1, z2, z3⟩
      · omega
      · omega
      · omega
      · omega
      · exact ⟨z1, z2, fun y => by omega⟩
      · exact ⟨z1, z2, fun _ => z3⟩
    obtain ⟨fa, fb, fd⟩ := fab
    obtain ⟨na, za, na17, ea, va, Ea, zan, Eza, fYa⟩ := body _ fa
    obtain ⟨nb, zb, nb17, eb, vb, Eb, zbn, Ezb, fYb⟩ := body _ fb
    have wa : vp_in (nI za) nC := vp_in_nI zan (by omega)
    have wb : vp_in (nI zb) nC := vp_in_nI zbn (by omega)
    have qa : E (nI za).toNatClampNeg = E (a_names na).toNatClampNeg := by rw [nI_clamp (by omega), Eza, Ea]
    have qb : E (nI zb).toNatClampNeg = E (a_names nb).toNatClampNeg := by rw [nI_clamp (by omega), Ezb, Eb]
    -- the component's entry
    have Xin : ∀ (f_blockedOn : Int64) (f_goals' f_usedSlots' f_woken' f_broken' : Int32) (a_ref' a_hooks' a_order' a_goalPred' a_goalArg' a_goalState' : Nat → Int32) (post : SX → Prop) (n : Nat), (∀ J : SX → Prop, J (f_cells, f_goals', f_usedSlots', f_woken', f_clauses, f_writing, f_openPairs, f_blockedOn, f_commits, f_lastClause, f_broken', f_cellLimit, f_goalLimit, f_clauseLimit, a_kind, a_first, a_second, a_ref', a_hooks', a_order', a_goalPred', a_goalArg', a_goalState', a_clausePred, a_itemCount, a_makeCount, a_spawnCount, a_itemOp, a_itemA, a_itemB, a_itemC, a_names) → wpX_act J (f_cells, f_goals, f_usedSlots, f_woken, f_clauses, f_writing, f_openPairs, f_blockedOn, f_commits, f_lastClause, f_broken, f_cellLimit, f_goalLimit, f_clauseLimit, a_kind, a_first, a_second, a_ref, a_hooks, a_order, a_goalPred, a_goalArg, a_goalState, a_clausePred, a_itemCount, a_makeCount, a_spawnCount, a_itemOp, a_itemA, a_itemB, a_itemC, a_names) (nI (c * 8 + i))) → wX_commit_21 post (nI c) n (nI (9 + gh_cnt a_itemOp 6 10 c i)) (nI (i + 1)) f_cells f_goals' f_usedSlots' f_woken' f_clauses f_writing f_openPairs f_blockedOn f_commits f_lastClause f_broken' f_cellLimit f_goalLimit f_clauseLimit a_kind a_first a_second a_ref' a_hooks' a_order' a_goalPred' a_goalArg' a_goalState' a_clausePred a_itemCount a_makeCount a_spawnCount a_itemOp a_itemA a_itemB a_itemC a_names → wX_commit_21 post (nI c) (n + 1) (nI (9 + gh_cnt a_itemOp 6 10 c i)) (nI i) f_cells f_goals f_usedSlots f_woken f_clauses f_writing f_openPairs f_blockedOn f_commits f_lastClause f_broken f_cellLimit f_goalLimit f_clauseLimit a_kind a_first a_second a_ref a_hooks a_order a_goalPred a_goalArg a_goalState a_clausePred a_itemCount a_makeCount a_spawnCount a_itemOp a_itemA a_itemB a_itemC a_names := by
      intro B f_goals' f_usedSlots' f_woken' f_broken' a_ref' a_hooks' a_order' a_goalPred' a_goalArg' a_goalState' post n hA h
      refine And.intro vc ?_
      rw [cc, em]
      refine br_f (nI_ge (by omega) (by omega)) (nm_r (gh_ix8 c i) (And.intro v8 ?_))
      rw [c8, eo]
      exact nm_e (br_f l6 (br_t l10 (br_f (nI_nlt (b := 11) (by omega) (by omega)) (hA _ (nm_r (nI_1 i) h)))))
    by_cases e11 : o = 11
    · subst e11
      have es : gh_cnt a_itemOp 12 19 c (i + 1) = gh_cnt a_itemOp 12 19 c i := gh_cnt_lo (by rw [eo]; decide)
      obtain ⟨rx, ry, wk, rf, hk, E', hr, R2, XT, hX, hY⟩ := gh_un R' va vb wa wb qa qb
      -- both walks up to the outcome
      have XX : ∀ (f_blockedOn : Int64) (post : SX → Prop), ((rx = 0 → post (f_cells, f_goals, f_usedSlots, wk, f_clauses, f_writing, f_openPairs, f_blockedOn, f_commits, f_lastClause, 1, f_cellLimit, f_goalLimit, f_clauseLimit, a_kind, a_first, a_second, rf, hk, a_order, a_goalPred, a_goalArg, a_goalState, a_clausePred, a_itemCount, a_makeCount, a_spawnCount, a_itemOp, a_itemA, a_itemB, a_itemC, a_names)) ∧ (¬ rx = 0 → post (f_cells, f_goals, f_usedSlots, wk, f_clauses, f_writing, f_openPairs, f_blockedOn, f_commits, f_lastClause, f_broken, f_cellLimit, f_goalLimit, f_clauseLimit, a_kind, a_first, a_second, rf, hk, a_order, a_goalPred, a_goalArg, a_goalState, a_clausePred, a_itemCount, a_makeCount, a_spawnCount, a_itemOp, a_itemA, a_itemB, a_itemC, a_names))) → wpX_act post (f_cells, f_goals, f_usedSlots, f_woken, f_clauses, f_writing, f_openPairs, f_blockedOn, f_commits, f_lastClause, f_broken, f_cellLimit, f_goalLimit, f_clauseLimit, a_kind, a_first, a_second, a_ref, a_hooks, a_order, a_goalPred, a_goalArg, a_goalState, a_clausePred, a_itemCount, a_makeCount, a_spawnCount, a_itemOp, a_itemA, a_itemB, a_itemC, a_names) (nI (c * 8 + i)) := by
        intro B post h
        refine And.intro v8 ?_
        rw [c8, eo, ea, eb, nI_clamp (n := na) (by omega), nI_clamp (n := nb) (by omega)]
        exact And.intro (vp_in_nI na17 (by omega)) (nm_e (And.intro v8 (And.intro (vp_in_nI nb17 (by omega)) (nm_e (And.intro v8 (br_t rfl (hX B _ h)))))))
      have YY : ∀ (b_seenX b_seenY : Int32) (post : SY → Prop) (n : Nat), ((ry = -3 → wY_commit_48 post (nI c) (nI base) n (nI (i + 1)) b_seenX b_seenY (upd b_num 6 1) a_kind rf b_value b_left b_right b_rec b_code a_clausePred a_itemCount) ∧ (¬ ry = -3 → wY_commit_48 post (nI c) (nI base) n (nI (i + 1)) b_seenX b_seenY b_num a_kind rf b_value b_left b_right b_rec b_code a_clausePred a_itemCount)) → wY_commit_48 post (nI c) (nI base) (n + 1) (nI i) b_seenX b_seenY b_num a_kind a_ref b_value b_left b_right b_rec b_code a_clausePred a_itemCount := by
        intro sx sy post n h
        refine Yin sx sy post n (br_f (by decide) (fYa sx sy _ (br_f (by decide) (br_f (by decide) (fYb sx sy _ (br_t (by decide) (br_f (by decide) (br_f (by decide) (br_f (by decide) (br_f (by decide) (br_f (by decide) (br_t rfl ?_))))))))))))
        refine hY sx sy _ ?_
        exact br_c (fun z => nm_e (br_t (by decide) (nm_r (nI_1 i) (h.1 z)))) (fun z => br_t (by decide) (nm_r (nI_1 i) (h.2 z)))
      rcases hr with ⟨e1, e2⟩ | ⟨e1, e2⟩
      · subst e1 e2
        exact fin0 nG E' f_goals f_usedSlots wk f_broken rf hk a_order a_goalPred a_goalArg a_goalState b_num b_rec R2 XT (fun _ _ => rfl) ec (by rw [es]; exact eg) (fun B post n h => Xin B _ _ _ _ _ _ _ _ _ _ post n (fun J hJ => XX B J (br_f (by decide) hJ)) h) (fun sx sy post n h => YY sx sy post n (br_f (by decide) h))
      · subst e1 e2
        exact fin0 nG E' f_goals f_usedSlots wk 1 rf hk a_order a_goalPred a_goalArg a_goalState (upd b_num 6 1) b_rec ⟨gh_RN_broken R2.1, R2.2⟩ XT (fun _ _ => rfl) ec (by rw [es]; exact eg) (fun B post n h => Xin B _ _ _ _ _ _ _ _ _ _ post n (fun J hJ => XX B J (br_t rfl hJ)) h) (fun sx sy post n h => YY sx sy post n (br_t rfl h))
    · have o12 : 12 ≤ o := by omega
      have l12 : ¬ nI o < 12 := nI_nlt (a := o) (b := 12) o12 (by omega)
      have es : gh_cnt a_itemOp 12 19 c (i + 1) = gh_cnt a_itemOp 12 19 c i + 1 := gh_cnt_in (by rw [eo]; exact l12) (by rw [eo]; exact o19)
      obtain ⟨nd, zd, nd17, ed, vd, Ed, zdn, Ezd, fYd⟩ := body _ (fd o12)
      have wd : vp_in (nI zd) nC := vp_in_nI zdn (by omega)
      have qd : E (nI zd).toNatClampNeg = E (a_names nd).toNatClampNeg := by rw [nI_clamp (by omega), Ezd, Ed]
      have ep : nI o - 12 = nI (o - 12) := pk_sub (b := 12) o12
      have ne : ∀ q, q ≤ 11 → ¬ nI o = nI q := fun q hq => gh_op ho (by omega) (by omega)
      obtain ⟨us, wk, od, gp, ga, gst, nm, rc, R2, hrc, hX, hY⟩ := gh_po (p := nI (o - 12)) R' (by omega) (nI_pos (by omega)) (nI_nlt (b := o - 12) (a := 7) (by omega) (by omega)) va vb vd wa wb wd qa qb qd
      refine fin0 (nG + 1) E (nI (nG + 1)) us wk f_broken a_ref a_hooks od gp ga gst nm rc R2 gh_XT_rf hrc ec (by rw [es, eg]; omega) (fun B post n h => Xin B _ _ _ _ _ _ _ _ _ _ post n (fun J hJ => ?_) h) (fun sx sy post n h => Yin sx sy post n ?_)
      · refine And.intro v8 ?_
        rw [c8, eo, ea, eb, ed, nI_clamp (n := na) (by omega), nI_clamp (n := nb) (by omega), nI_clamp (n := nd) (by omega), ep]
        exact And.intro (vp_in_nI na17 (by omega)) (nm_e (And.intro v8 (And.intro (vp_in_nI nb17 (by omega)) (nm_e (And.intro v8 (br_f (ne 11 (by omega)) (And.intro v8 (And.intro v8 (And.intro (vp_in_nI nd17 (by omega)) (hX B _ hJ))))))))))
      · refine br_f (nI_nlt (b := 8) (by omega) (by omega)) (fYa sx sy _ (br_f (nI_nlt (b := 8) (by omega) (by omega)) (br_f (ne 9 (by omega)) (fYb sx sy _ (br_f l12 ?_)))))
        rw [show nI ((c * 8 + i) * 4) + 3 = nI ((c * 8 + i) * 4 + 3) from nI_add _ 3, nI_clamp (n := (c * 8 + i) * 4 + 3) (by omega), d3]
        refine And.intro (vp_in_nI (by omega) (by omega)) (fYd sx sy _ (br_f (ne 6 (by omega)) (br_f (ne 7 (by omega)) (br_f (ne 8 (by omega)) (br_f (ne 9 (by omega)) (br_f (ne 10 (by omega)) (br_f (ne 11 (by omega)) (br_f (by decide) (br_f l12 ?_)))))))))
        rw [ep]
        exact hY sx sy _ (nm_r (nI_1 i) h)
end
section
/-! commit as a whole, and run -/
theorem gh_kt_i0 {kd : Nat → Int32} {w : Int32} {x : Option Nat} (h : gh_kt kd w x = 0) : ∃ p, x = some p ∧ kd p = w := by
  cases x with
  | none => exact absurd h (by show ¬ (1 : Nat) = 0; decide)
  | some p =>
    replace h : (if kd p = 0 then 1 else if kd p = w then 0 else 2) = 0 := h
    by_cases a : kd p = 0
    · rw [if_pos a] at h; exact absurd h (by decide)
    · by_cases b : kd p = w
      · exact ⟨p, rfl, b⟩
      · rw [if_neg a, if_neg b] at h; exact absurd h (by decide)
theorem gh_RG_rc {nC nG : Nat} {E : Nat → Nat} {us : Int32} {od gp ga rc rc' : Nat → Int32} (R : gh_RG nC nG E us od gp ga rc) (hG : nG ≤ 16) (h : ∀ i, i < 64 → rc' i = rc i) : gh_RG nC nG E us od gp ga rc' := by
  obtain ⟨R1, R2, R3⟩ := R
  refine ⟨fun k hk => ?_, R2, R3⟩
  obtain ⟨s, a, b, c, d, e⟩ := R1 k hk
  refine ⟨s, a, b, c, by rw [h _ (by omega)]; exact d, fun j hj => ?_⟩
  rw [h _ (by omega)]
  exact e j hj
theorem gh_rel_s {k : Nat} {u : SX} {v : SY} (I : i_Rel k u v) (B : Int64) (sx sy : Int32) : i_Rel k (gh_sB u B) (gh_sS v sx sy) := by
  refine gh_el (P := fun u v => i_Rel k (gh_sB u B) (gh_sS v sx sy)) ?_ I
  intros
  rename_i R
  exact gh_in R
section
variable {f_cells f_goals f_usedSlots f_woken f_clauses f_writing f_openPairs : Int32} {f_blockedOn : Int64} {f_commits f_lastClause f_broken f_cellLimit f_goalLimit f_clauseLimit : Int32} {a_kind a_first a_second a_ref a_hooks a_order a_goalPred a_goalArg a_goalState a_clausePred a_itemCount a_makeCount a_spawnCount a_itemOp a_itemA a_itemB a_itemC a_names : Nat → Int32} {b_seenX b_seenY : Int32} {b_num b_value b_left b_right b_rec b_code : Nat → Int32}
variable {nC nG nK lc lg lk : Nat} {E : Nat → Nat}
theorem gh_cpx {j t n : Nat} {cx : Int32} (hj : j < 16) (ht : t < 4) {post : SY → Prop} (h : wY_commit_2 post (nI j) cx b_seenX b_seenY n (nI (t + 1)) b_num a_kind a_ref b_value b_left b_right (upd b_rec (64 + t) (b_rec (j * 4 + t))) b_code a_clausePred a_itemCount) : wY_commit_2 post (nI j) cx b_seenX b_seenY (n + 1) (nI t) b_num a_kind a_ref b_value b_left b_right b_rec b_code a_clausePred a_itemCount := by
  refine br_f (nI_ge (b := 4) ht (by decide)) ?_
  rw [show nI j * 4 + nI t = nI (j * 4 + t) by rw [show nI j * 4 = nI (j * 4) from pk_mul j 4, nI_add], show 64 + nI t = nI (64 + t) from nI_add 64 t, nI_clamp (n := j * 4 + t) (by omega), nI_clamp (n := 64 + t) (by omega)]
  exact And.intro (vp_in_nI (by omega) (by omega)) (And.intro (vp_in_nI (by omega) (by omega)) (nm_e (nm_r (nI_1 t) h)))
theorem gh_commit {k j s c m : Nat} (R : gh_RR nC nG nK lc lg lk E f_cells f_goals f_usedSlots f_woken f_clauses f_writing f_openPairs f_blockedOn f_commits f_lastClause f_broken f_cellLimit f_goalLimit f_clauseLimit a_kind a_first a_second a_ref a_hooks a_order a_goalPred a_goalArg a_goalState a_clausePred a_itemCount a_makeCount a_spawnCount a_itemOp a_itemA a_itemB a_itemC a_names b_seenX b_seenY b_num b_value b_left b_right b_rec b_code) (hj : j < nG) (hs : s < 16) (ho : a_order j = nI s) (hc : c < nK) (hm : m ≤ 8) (em : a_itemCount c = nI m) (hcv : gh_cv a_kind a_first (gh_H a_kind a_first a_second E a_goalArg s) a_itemOp a_itemA a_itemB a_itemCount c = 0) (hroom : nC + gh_cnt a_itemOp 6 10 c m ≤ lc) (hgoal : nG - 1 + gh_cnt a_itemOp 12 19 c m ≤ lg) :
    ∃ u' v', i_Rel k u' v' ∧ (∀ (f_blockedOn : Int64) (post : SX → Prop), post (gh_sB u' f_blockedOn) → wpX_commit post (f_cells, f_goals, f_usedSlots, f_woken, f_clauses, f_writing, f_openPairs, f_blockedOn, f_commits, f_lastClause, f_broken, f_cellLimit, f_goalLimit, f_clauseLimit, a_kind, a_first, a_second, a_ref, a_hooks, a_order, a_goalPred, a_goalArg, a_goalState, a_clausePred, a_itemCount, a_makeCount, a_spawnCount, a_itemOp, a_itemA, a_itemB, a_itemC, a_names) (nI j) (nI c)) ∧ (∀ (b_seenX b_seenY : Int32) (post : SY → Prop), post (gh_sS v' b_seenX b_seenY) → wpY_commit post (b_seenX, b_seenY, b_num, a_kind, a_ref, b_value, b_left, b_right, b_rec, b_code, a_clausePred, a_itemCount) (nI j) (nI c)) := by
  obtain ⟨RN, RK, RH, RG, RS⟩ := R
  have hx := RH.1
  have H := hx.1
  have h64 := H.1
  have hgl : nG ≤ lg := RN.2.2.1.2.2.1
  have hlg : lg ≤ 16 := RN.2.2.1.2.2.2.1
  obtain ⟨s', hs', ho', hu, hp, A⟩ := RG.1 j hj
  obtain rfl : s = s' := (nI_eq (by omega) (by omega)).mp (ho.symm.trans ho')
  have Ax := (RG.2.2 s hs hu).1
  have r64 : ∀ i, i < 64 → (upd (upd (upd (upd b_rec 64 (b_rec (j * 4 + 0))) 65 (b_rec (j * 4 + 1))) 66 (b_rec (j * 4 + 2))) 67 (b_rec (j * 4 + 3))) i = b_rec i := fun i hi => by rw [pk_un (by omega), pk_un (by omega), pk_un (by omega), pk_un (by omega)]
  have R1 : gh_RR nC nG nK lc lg lk E f_cells f_goals f_usedSlots f_woken f_clauses f_writing f_openPairs f_blockedOn f_commits f_lastClause f_broken f_cellLimit f_goalLimit f_clauseLimit a_kind a_first a_second a_ref a_hooks a_order a_goalPred a_goalArg a_goalState a_clausePred a_itemCount a_makeCount a_spawnCount a_itemOp a_itemA a_itemB a_itemC ((gh_lna a_kind a_first a_second (gh_lna a_kind a_first a_second (gh_lna a_kind a_first a_second a_names 0 (a_goalArg (s * 3 + 0)) (E (a_goalArg (s * 3 + 0)).toNatClampNeg)) 1 (a_goalArg (s * 3 + 1)) (E (a_goalArg (s * 3 + 1)).toNatClampNeg)) 2 (a_goalArg (s * 3 + 2)) (E (a_goalArg (s * 3 + 2)).toNatClampNeg))) b_seenX b_seenY b_num b_value b_left b_right ((upd (upd (upd (upd b_rec 64 (b_rec (j * 4 + 0))) 65 (b_rec (j * 4 + 1))) 66 (b_rec (j * 4 + 2))) 67 (b_rec (j * 4 + 3)))) b_code := ⟨RN, RK, RH, gh_RG_rc RG (by omega) r64, RS⟩
  obtain ⟨us, wk, hk, od, nm, rc, R2, hrc, hX, hY⟩ := gh_rm R1 hj
  have n0 : nm 0 = nI nC := R2.1.2.2.2.1.trans R2.1.1.1
  have rcj : ∀ t, t < 3 → rc (65 + t) = b_rec (j * 4 + 1 + t) := fun t ht => by
    rw [hrc _ (by omega)]
    have : t = 0 ∨ t = 1 ∨ t = 2 := by omega
    rcases this with rfl | rfl | rfl
    · rw [pk_un (by decide), pk_un (by decide)]; exact pk_us
    · rw [pk_un (by decide)]; exact pk_us
    · exact pk_us
  have g16 : ∀ t, t < 3 → gh_g16 E rc t = gh_G E a_goalArg s t := fun t ht => by
    unfold gh_g16
    rw [rcj t ht]
    exact (A t ht).2
  have ehd : gh_hd a_kind a_first a_second E (gh_g16 E rc) = (gh_H a_kind a_first a_second E a_goalArg s) := gh_hd_cg g16 (fun _ _ => rfl) (fun _ _ _ => ⟨rfl, rfl⟩)
  obtain ⟨l1, l2⟩ := gh_ln3 (a_kind := a_kind) (a_first := a_first) (a_second := a_second) (a_goalArg := a_goalArg) (a_names := a_names) (E := E) (s := s)
  have tv0 : ∀ q, q < m → gh_tv a_kind a_first (gh_H a_kind a_first a_second E a_goalArg s) (a_itemOp (c * 8 + q)) (a_itemA (c * 8 + q)) (a_itemB (c * 8 + q)) = 0 := fun q hq => by
    have e : gh_jv a_kind a_first (gh_H a_kind a_first a_second E a_goalArg s) a_itemOp a_itemA a_itemB c m = 0 := by
      have e2 : gh_jv a_kind a_first (gh_H a_kind a_first a_second E a_goalArg s) a_itemOp a_itemA a_itemB c (a_itemCount c).toNatClampNeg = 0 := hcv
      rw [em, nI_clamp (by omega)] at e2
      exact e2
    have := gh_jv_i (kd := a_kind) (fs := a_first) (h := (gh_H a_kind a_first a_second E a_goalArg s)) (io := a_itemOp) (ia := a_itemA) (ib := a_itemB) (c := c) hq
    omega
  have CI : gh_CI nC a_kind a_first a_second E ((gh_lna a_kind a_first a_second (gh_lna a_kind a_first a_second (gh_lna a_kind a_first a_second a_names 0 (a_goalArg (s * 3 + 0)) (E (a_goalArg (s * 3 + 0)).toNatClampNeg)) 1 (a_goalArg (s * 3 + 1)) (E (a_goalArg (s * 3 + 1)).toNatClampNeg)) 2 (a_goalArg (s * 3 + 2)) (E (a_goalArg (s * 3 + 2)).toNatClampNeg))) rc a_itemOp a_itemA a_itemB c m nC 0 := by
    refine ⟨rfl, fun t ht => ?_, fun t ht hpair => ?_, fun q hq => absurd hq (Nat.not_lt_zero _), fun q _ hq => ⟨fun e9 => ?_, fun e10 => ?_⟩⟩
    · rw [rcj t ht, l1 t ht, g16 t ht]
      exact ⟨(A t ht).1, Ax t ht, rfl⟩
    · obtain ⟨q, hq, q1, q2⟩ := hpair
      have t0 := tv0 q hq
      rw [q1, q2, gh_tv_0, nI_clamp (n := t) (by omega)] at t0
      obtain ⟨p, p1, p2⟩ := gh_kt_i0 t0
      have eG : (gh_H a_kind a_first a_second E a_goalArg s) t = some (gh_G E a_goalArg s t) := if_pos ht
      rw [eG] at p1
      obtain rfl := Option.some.inj p1
      obtain ⟨w1, w2⟩ := l2 t ht p2
      obtain ⟨v1, v2⟩ := hx.2 _ (gh_G_lt hx Ax ht) p2
      rw [g16 t ht, w1, w2]
      exact ⟨p2, ⟨v1, rfl⟩, ⟨v2, rfl⟩⟩
    · have t0 := tv0 q hq
      rw [e9, gh_tv_9] at t0
      obtain ⟨p, p1, p2⟩ := gh_kt_i0 t0
      exact ⟨p, by rw [ehd]; exact p1, p2⟩
    · have t0 := tv0 q hq
      rw [e10, gh_tv_10] at t0
      have ta : gh_kt a_kind 1 ((gh_H a_kind a_first a_second E a_goalArg s) (a_itemA (c * 8 + q)).toNatClampNeg) = 0 := by omega
      have tb : gh_kt a_kind 1 ((gh_H a_kind a_first a_second E a_goalArg s) (a_itemB (c * 8 + q)).toNatClampNeg) = 0 := by omega
      obtain ⟨p, p1, p2⟩ := gh_kt_i0 ta
      obtain ⟨r, r1, r2⟩ := gh_kt_i0 tb
      exact ⟨⟨p, by rw [ehd]; exact p1, p2⟩, ⟨r, by rw [ehd]; exact r1, r2⟩⟩
  obtain ⟨u', v', I', iX, iY⟩ := gh_cml (k := k) (base := nC) hc hm m 0 nC (nG - 1) E _ _ _ _ _ _ _ 0 _ _ _ _ _ _ _ _ _ _ _ _ _ _ _ _ _ _ _ _ _ _ _ ((gh_lna a_kind a_first a_second (gh_lna a_kind a_first a_second (gh_lna a_kind a_first a_second a_names 0 (a_goalArg (s * 3 + 0)) (E (a_goalArg (s * 3 + 0)).toNatClampNeg)) 1 (a_goalArg (s * 3 + 1)) (E (a_goalArg (s * 3 + 1)).toNatClampNeg)) 2 (a_goalArg (s * 3 + 2)) (E (a_goalArg (s * 3 + 2)).toNatClampNeg))) 0 0 _ _ _ _ _ _ (by omega) R2 em CI hroom ⟨nG - 1, rfl, hgoal⟩
  refine ⟨u', v', I', fun B post h => ?_, fun sx sy post h => ?_⟩
  · refine And.intro (vp_in_nI (by omega) (by omega)) ?_
    rw [nI_clamp (by omega), ho]
    refine gh_lnX H Ax hs (hX B _ ?_)
    exact Exists.intro (m + 1) (iX B post (m + 1) (by omega) h)
  · refine Exists.intro 5 (gh_cpx (t := 0) (by omega) (by omega) (gh_cpx (t := 1) (by omega) (by omega) (gh_cpx (t := 2) (by omega) (by omega) (gh_cpx (t := 3) (by omega) (by omega) ?_))))
    have e1 : upd b_rec (64 + 0) (b_rec (j * 4 + 0)) (j * 4 + 1) = b_rec (j * 4 + 1) := pk_un (by omega)
    have e2 : upd (upd b_rec (64 + 0) (b_rec (j * 4 + 0))) (64 + 1) (b_rec (j * 4 + 1)) (j * 4 + 2) = b_rec (j * 4 + 2) := by rw [pk_un (by omega), pk_un (by omega)]
    have e3 : upd (upd (upd b_rec (64 + 0) (b_rec (j * 4 + 0))) (64 + 1) (b_rec (j * 4 + 1))) (64 + 2) (b_rec (j * 4 + 2)) (j * 4 + 3) = b_rec (j * 4 + 3) := by rw [pk_un (by omega), pk_un (by omega), pk_un (by omega)]
    rw [e1, e2, e3]
    refine br_t (by decide) (hY sx sy _ (nm_r n0 (Exists.intro (m + 1) ?_)))
    exact iY sx sy post (m + 1) (by omega) h
/-! run -/
theorem gh_frx {e : Nat} {r : Int32} (hr : (e = nG ∧ r = -1) ∨ (e < nG ∧ (∀ j, j = e → gh_gs a_kind a_first (gh_H a_kind a_first a_second E a_goalArg (a_order j).toNatClampNeg) a_itemOp a_itemA a_itemB a_itemCount a_clausePred (a_goalPred (a_order j).toNatClampNeg) nK = 0) ∧ r = nI e)) (hne : ∀ j, j < e → ¬ gh_gs a_kind a_first (gh_H a_kind a_first a_second E a_goalArg (a_order j).toNatClampNeg) a_itemOp a_itemA a_itemB a_itemCount a_clausePred (a_goalPred (a_order j).toNatClampNeg) nK = 0) : ∀ d q (f_woken : Int32) (a_hooks a_goalState : Nat → Int32), q + d = e → gh_RR nC nG nK lc lg lk E f_cells f_goals f_usedSlots f_woken f_clauses f_writing f_openPairs f_blockedOn f_commits f_lastClause f_broken f_cellLimit f_goalLimit f_clauseLimit a_kind a_first a_second a_ref a_hooks a_order a_goalPred a_goalArg a_goalState a_clausePred a_itemCount a_makeCount a_spawnCount a_itemOp a_itemA a_itemB a_itemC a_names b_seenX b_seenY b_num b_value b_left b_right b_rec b_code → ∃ (wk : Int32) (hk gst : Nat → Int32), gh_RR nC nG nK lc lg lk E f_cells f_goals f_usedSlots wk f_clauses f_writing f_openPairs f_blockedOn f_commits f_lastClause f_broken f_cellLimit f_goalLimit f_clauseLimit a_kind a_first a_second a_ref hk a_order a_goalPred a_goalArg gst a_clausePred a_itemCount a_makeCount a_spawnCount a_itemOp a_itemA a_itemB a_itemC a_names b_seenX b_seenY b_num b_value b_left b_right b_rec b_code ∧ ∀ (f_blockedOn : Int64) (post : Int32 → SX → Prop) (n : Nat), d < n → (∀ B, post r (f_cells, f_goals, f_usedSlots, wk, f_clauses, f_writing, f_openPairs, B, f_commits, f_lastClause, f_broken, f_cellLimit, f_goalLimit, f_clauseLimit, a_kind, a_first, a_second, a_ref, hk, a_order, a_goalPred, a_goalArg, gst, a_clausePred, a_itemCount, a_makeCount, a_spawnCount, a_itemOp, a_itemA, a_itemB, a_itemC, a_names)) → wX_firstReady_2 post n (nI q) f_cells f_goals f_usedSlots f_woken f_clauses f_writing f_openPairs f_blockedOn f_commits f_lastClause f_broken f_cellLimit f_goalLimit f_clauseLimit a_kind a_first a_second a_ref a_hooks a_order a_goalPred a_goalArg a_goalState a_clausePred a_itemCount a_makeCount a_spawnCount a_itemOp a_itemA a_itemB a_itemC a_names := by
  intro d
  induction d with
  | zero =>
    intro q f_woken a_hooks a_goalState hq R
    obtain rfl : q = e := by omega
    have RN := R.1
    have hgl : nG ≤ lg := RN.2.2.1.2.2.1
    have hlg : lg ≤ 16 := RN.2.2.1.2.2.2.1
    rcases hr with ⟨e1, e2⟩ | ⟨h1, h2, e2⟩
    · refine ⟨f_woken, a_hooks, a_goalState, R, fun B post n hn h => ?_⟩
      obtain ⟨n, rfl⟩ : ∃ n', n = n' + 1 := ⟨n - 1, by omega⟩
      rw [e2] at h
      refine br_t ?_ (h B)
      rw [RN.1.2.1, e1]
      exact nI_le (Nat.le_refl _) (by omega)
    · obtain ⟨s, hs, ho, hu, _⟩ := R.2.2.2.1.1 q h1
      obtain ⟨wk, hk, gst, R2, eg, _, hX⟩ := gh_set1 R hs hu
      refine ⟨wk, hk, gst, R2, fun B post n hn h => ?_⟩
      obtain ⟨n, rfl⟩ : ∃ n', n = n' + 1 := ⟨n - 1, by omega⟩
      have g0 := h2 q rfl
      rw [ho, nI_clamp (n := s) (by omega)] at g0
      refine br_f (by rw [RN.1.2.1]; exact nI_ge h1 (by omega)) (And.intro (vp_in_nI (by omega) (by omega)) ?_)
      rw [nI_clamp (n := q) (by omega), ho]
      refine nm_e (hX B _ (fun B' => And.intro (vp_in_nI hs (by omega)) ?_))
      rw [nI_clamp (n := s) (by omega), eg, g0]
      rw [e2] at h
      exact br_t rfl (h B')
  | succ d ih =>
    intro q f_woken a_hooks a_goalState hq R
    have RN := R.1
    have hgl : nG ≤ lg := RN.2.2.1.2.2.1
    have hlg : lg ≤ 16 := RN.2.2.1.2.2.2.1
    have qn : q < nG := by
      rcases hr with ⟨e1, _⟩ | ⟨h1, _⟩ <;> omega
    obtain ⟨s, hs, ho, hu, _⟩ := R.2.2.2.1.1 q qn
    obtain ⟨wk, hk, gst, R2, eg, _, hX⟩ := gh_set1 R hs hu
    obtain ⟨wk2, hk2, gst2, R3, hX2⟩ := ih (q + 1) wk hk gst (by omega) R2
    refine ⟨wk2, hk2, gst2, R3, fun B post n hn h => ?_⟩
    obtain ⟨n, rfl⟩ : ∃ n', n = n' + 1 := ⟨n - 1, by omega⟩
    have g0 := hne q (by omega)
    rw [ho, nI_clamp (n := s) (by omega)] at g0
    have lgs := gh_gs_le (kd := a_kind) (fs := a_first) (h := gh_H a_kind a_first a_second E a_goalArg s) (io := a_itemOp) (ia := a_itemA) (ib := a_itemB) (ic := a_itemCount) (cp := a_clausePred) (gp := a_goalPred s) (n := nK)
    refine br_f (by rw [RN.1.2.1]; exact nI_ge qn (by omega)) (And.intro (vp_in_nI (by omega) (by omega)) ?_)
    rw [nI_clamp (n := q) (by omega), ho]
    refine nm_e (hX B _ (fun B' => And.intro (vp_in_nI hs (by omega)) ?_))
    rw [nI_clamp (n := s) (by omega), eg]
    refine br_f (fun z => g0 ((nI_eq (b := 0) (by omega) (by omega)).mp z)) (nm_r (nI_1 q) (hX2 B' post n (by omega) h))
/-- the reference's scan for the first ready goal -/
theorem gh_rsx {e : Nat} {x2 x3 : Int32} {post : Int32 → SY → Prop} {J : Int32 → Int32 → Int32 → (Nat → Int32) → (Nat → Int32) → (Nat → Int32) → (Nat → Int32) → (Nat → Int32) → (Nat → Int32) → (Nat → Int32) → (Nat → Int32) → (Nat → Int32) → (Nat → Int32) → Prop} (R : gh_RR nC nG nK lc lg lk E f_cells f_goals f_usedSlots f_woken f_clauses f_writing f_openPairs f_blockedOn f_commits f_lastClause f_broken f_cellLimit f_goalLimit f_clauseLimit a_kind a_first a_second a_ref a_hooks a_order a_goalPred a_goalArg a_goalState a_clausePred a_itemCount a_makeCount a_spawnCount a_itemOp a_itemA a_itemB a_itemC a_names b_seenX b_seenY b_num b_value b_left b_right b_rec b_code)
    (hr : (e = nG ∧ ∀ x4 sx sy, wY_run_84 post J x2 x3 x4 (-1) sx sy b_num a_kind a_ref b_value b_left b_right b_rec b_code a_clausePred a_itemCount) ∨ (e < nG ∧ ∃ c, c < nK ∧ gh_fi (fun c => gh_cs a_kind a_first (gh_H a_kind a_first a_second E a_goalArg (a_order e).toNatClampNeg) a_itemOp a_itemA a_itemB a_itemCount a_clausePred (a_goalPred (a_order e).toNatClampNeg) c = 0) nK = some c ∧ ∀ sx sy, wY_run_84 post J x2 x3 (nI e) (nI c) sx sy b_num a_kind a_ref b_value b_left b_right b_rec b_code a_clausePred a_itemCount))
    (hne : ∀ j, j < e → ¬ gh_gs a_kind a_first (gh_H a_kind a_first a_second E a_goalArg (a_order j).toNatClampNeg) a_itemOp a_itemA a_itemB a_itemCount a_clausePred (a_goalPred (a_order j).toNatClampNeg) nK = 0) : ∀ d q n x4 sx sy, q + d = e → d + 1 < n → wY_run_49 post J x2 x3 n x4 (-1) (nI q) sx sy b_num a_kind a_ref b_value b_left b_right b_rec b_code a_clausePred a_itemCount := by
  obtain ⟨RN, RK, RH, RG, RS⟩ := R
  have n1 : b_num 1 = nI nG := RN.2.2.2.2.1.trans RN.1.2.1
  have n2 : b_num 2 = nI nK := RN.2.2.2.2.2.1.trans RN.1.2.2.1
  have hgl : nG ≤ lg := RN.2.2.1.2.2.1
  have hlg : lg ≤ 16 := RN.2.2.1.2.2.2.1
  have W := gh_C1_CW RK.1
  intro d
  induction d with
  | zero =>
    intro q n x4 sx sy hq hn
    obtain rfl : q = e := by omega
    obtain ⟨n, rfl⟩ : ∃ n', n = n' + 1 + 1 := ⟨n - 2, by omega⟩
    rcases hr with ⟨e1, h⟩ | ⟨h1, c, hc, ef, h⟩
    · exact br_t (by rw [n1, e1]; exact nI_le (Nat.le_refl _) (by omega)) (h _ _ _)
    · obtain ⟨s, hs, ho, hu, hp, A⟩ := RG.1 q h1
      rw [ho, nI_clamp (n := s) (by omega), hp] at ef
      have c16 := (W c hc).1
      refine br_f (by rw [n1]; exact nI_ge h1 (by omega)) (br_f gh_m1nle ?_)
      refine gh_fsY (G := gh_G E a_goalArg s) (w := 0) rfl (by omega) n2 RH.1 RH.2.1 RH.2.2 A (by omega) RK.2.2 W (fun sx' sy' => nm_e ?_)
      rw [show gh_fi (fun c => gh_cs a_kind a_first (gh_hd a_kind a_first a_second E (gh_G E a_goalArg s)) a_itemOp a_itemA a_itemB a_itemCount a_clausePred (b_rec (q * 4)) c = 0) nK = some c from ef]
      exact br_c (fun _ => h _ _) (fun _ => br_t (nI_pos' (n := c) (by omega)) (h _ _))
  | succ d ih =>
    intro q n x4 sx sy hq hn
    obtain ⟨n, rfl⟩ : ∃ n', n = n' + 1 := ⟨n - 1, by omega⟩
    have qn : q < nG := by
      rcases hr with ⟨e1, _⟩ | ⟨h1, _⟩ <;> omega
    obtain ⟨s, hs, ho, hu, hp, A⟩ := RG.1 q qn
    have g0 := hne q (by omega)
    rw [ho, nI_clamp (n := s) (by omega), hp] at g0
    refine br_f (by rw [n1]; exact nI_ge qn (by omega)) (br_f gh_m1nle ?_)
    refine gh_fsY (G := gh_G E a_goalArg s) (w := 0) rfl (by omega) n2 RH.1 RH.2.1 RH.2.2 A (by omega) RK.2.2 W (fun sx' sy' => nm_r (nI_1 q) ?_)
    have ef : gh_fi (fun c => gh_cs a_kind a_first (gh_hd a_kind a_first a_second E (gh_G E a_goalArg s)) a_itemOp a_itemA a_itemB a_itemCount a_clausePred (b_rec (q * 4)) c = 0) nK = none := by
      rcases gh_fi3 (kd := a_kind) (fs := a_first) (h := gh_hd a_kind a_first a_second E (gh_G E a_goalArg s)) (io := a_itemOp) (ia := a_itemA) (ib := a_itemB) (ic := a_itemCount) (cp := a_clausePred) (gp := b_rec (q * 4)) (nK := nK) with ⟨e0, _⟩ | ⟨e0, _⟩ | ⟨_, e2⟩
      · exact e0
      · exact e0
      · exact absurd e2 g0
    rw [ef]
    exact ih (q + 1) n _ sx' sy' (by omega) (by omega)
end
def gh_XR (post : Int32 → SX → Prop) (x2 : Int32) (n : Nat) (x3 : Int32) (u : SX) : Prop := match u with
  | (f_cells, f_goals, f_usedSlots, f_woken, f_clauses, f_writing, f_openPairs, f_blockedOn, f_commits, f_lastClause, f_broken, f_cellLimit, f_goalLimit, f_clauseLimit, a_kind, a_first, a_second, a_ref, a_hooks, a_order, a_goalPred, a_goalArg, a_goalState, a_clausePred, a_itemCount, a_makeCount, a_spawnCount, a_itemOp, a_itemA, a_itemB, a_itemC, a_names) => wX_run_21 post x2 n x3 f_cells f_goals f_usedSlots f_woken f_clauses f_writing f_openPairs f_blockedOn f_commits f_lastClause f_broken f_cellLimit f_goalLimit f_clauseLimit a_kind a_first a_second a_ref a_hooks a_order a_goalPred a_goalArg a_goalState a_clausePred a_itemCount a_makeCount a_spawnCount a_itemOp a_itemA a_itemB a_itemC a_names
def gh_YR (post : Int32 → SY → Prop) (x2 : Int32) (n : Nat) (x3 : Int32) (v : SY) : Prop := match v with
  | (b_seenX, b_seenY, b_num, a_kind, a_ref, b_value, b_left, b_right, b_rec, b_code, a_clausePred, a_itemCount) => wY_run_21 post x2 n x3 b_seenX b_seenY b_num a_kind a_ref b_value b_left b_right b_rec b_code a_clausePred a_itemCount
section
variable {f_cells f_goals f_usedSlots f_woken f_clauses f_writing f_openPairs : Int32} {f_blockedOn : Int64} {f_commits f_lastClause f_broken f_cellLimit f_goalLimit f_clauseLimit : Int32} {a_kind a_first a_second a_ref a_hooks a_order a_goalPred a_goalArg a_goalState a_clausePred a_itemCount a_makeCount a_spawnCount a_itemOp a_itemA a_itemB a_itemC a_names : Nat → Int32} {b_seenX b_seenY : Int32} {b_num b_value b_left b_right b_rec b_code : Nat → Int32}
variable {nC nG nK lc lg lk : Nat} {E : Nat → Nat}
theorem gh_rstep {k lim i : Nat} (hl : lim ≤ 16) (hi : i ≤ lim) (R : gh_RR nC nG nK lc lg lk E f_cells f_goals f_usedSlots f_woken f_clauses f_writing f_openPairs f_blockedOn f_commits f_lastClause f_broken f_cellLimit f_goalLimit f_clauseLimit a_kind a_first a_second a_ref a_hooks a_order a_goalPred a_goalArg a_goalState a_clausePred a_itemCount a_makeCount a_spawnCount a_itemOp a_itemA a_itemB a_itemC a_names b_seenX b_seenY b_num b_value b_left b_right b_rec b_code) :
    (∃ r u' v', i_Rel k u' v' ∧ (∀ (f_blockedOn : Int64) (post : Int32 → SX → Prop) (n : Nat), (∀ B, post r (gh_sB u' B)) → wX_run_21 post (nI lim) (n + 1) (nI i) f_cells f_goals f_usedSlots f_woken f_clauses f_writing f_openPairs f_blockedOn f_commits f_lastClause f_broken f_cellLimit f_goalLimit f_clauseLimit a_kind a_first a_second a_ref a_hooks a_order a_goalPred a_goalArg a_goalState a_clausePred a_itemCount a_makeCount a_spawnCount a_itemOp a_itemA a_itemB a_itemC a_names) ∧ (∀ (b_seenX b_seenY : Int32) (post : Int32 → SY → Prop) (n : Nat), (∀ sx sy, post r (gh_sS v' sx sy)) → wY_run_21 post (nI lim) (n + 1) (nI i) b_seenX b_seenY b_num a_kind a_ref b_value b_left b_right b_rec b_code a_clausePred a_itemCount)) ∨
    (i < lim ∧ ∃ u' v', i_Rel k u' v' ∧ (∀ (f_blockedOn : Int64) (post : Int32 → SX → Prop) (n : Nat), (∀ B, gh_XR post (nI lim) n (nI (i + 1)) (gh_sB u' B)) → wX_run_21 post (nI lim) (n + 1) (nI i) f_cells f_goals f_usedSlots f_woken f_clauses f_writing f_openPairs f_blockedOn f_commits f_lastClause f_broken f_cellLimit f_goalLimit f_clauseLimit a_kind a_first a_second a_ref a_hooks a_order a_goalPred a_goalArg a_goalState a_clausePred a_itemCount a_makeCount a_spawnCount a_itemOp a_itemA a_itemB a_itemC a_names) ∧ (∀ (b_seenX b_seenY : Int32) (post : Int32 → SY → Prop) (n : Nat), (∀ sx sy, gh_YR post (nI lim) n (nI (i + 1)) (gh_sS v' sx sy)) → wY_run_21 post (nI lim) (n + 1) (nI i) b_seenX b_seenY b_num a_kind a_ref b_value b_left b_right b_rec b_code a_clausePred a_itemCount)) := by
  have RN := R.1
  have RK := R.2.1
  have RH := R.2.2.1
  have RG := R.2.2.2.1
  have n0 : b_num 0 = nI nC := RN.2.2.2.1.trans RN.1.1
  have n1 : b_num 1 = nI nG := RN.2.2.2.2.1.trans RN.1.2.1
  have n6 : b_num 6 = f_broken := RN.2.2.2.2.2.2.2.2.2.1
  have n7 : b_num 7 = nI lc := RN.2.2.2.2.2.2.2.2.2.2.1.trans RN.2.1.1
  have n8 : b_num 8 = nI lg := RN.2.2.2.2.2.2.2.2.2.2.2.1.trans RN.2.1.2.1
  have hcl : nC ≤ lc := RN.2.2.1.1
  have hlc : lc ≤ 64 := RN.2.2.1.2.1
  have hgl : nG ≤ lg := RN.2.2.1.2.2.1
  have hlg : lg ≤ 16 := RN.2.2.1.2.2.2.1
  have W := gh_C1_CW RK.1
  have nl : ¬ nI lim < nI i := nI_nlt hi (by omega)
  rcases RN.1.2.2.2.2 with eb | eb
  · have yb : ¬ b_num 6 = 1 := by rw [n6, eb]; decide
    rcases gh_fi_c (fun j => gh_gs a_kind a_first (gh_H a_kind a_first a_second E a_goalArg (a_order j).toNatClampNeg) a_itemOp a_itemA a_itemB a_itemCount a_clausePred (a_goalPred (a_order j).toNatClampNeg) nK = 0) nG with ⟨_, hno⟩ | ⟨e, he, ge, hno, _⟩
    · -- nothing is ready
      obtain ⟨wk, hk, gst, R2, hX⟩ := gh_frx (e := nG) (r := -1) (Or.inl ⟨rfl, rfl⟩) hno nG 0 f_woken a_hooks a_goalState (by omega) R
      refine Or.inl ⟨0, _, _, gh_in R2, fun B post n h => ?_, fun sx sy post n h => ?_⟩
      · refine br_f nl (br_t eb (Exists.intro (nG + 1) (hX B _ (nG + 1) (by omega) (fun B' => ?_))))
        exact br_f gh_m1nle (h B')
      · refine br_f nl (br_f yb (Exists.intro (nG + 2) ?_))
        exact gh_rsx R (Or.inl ⟨rfl, fun x4 sx sy => br_f gh_m1nle (h sx sy)⟩) hno nG 0 (nG + 2) 0 sx sy (by omega) (by omega)
    · -- goal e is the first that is ready
      obtain ⟨wk, hk, gst, R2, hX⟩ := gh_frx (e := e) (r := nI e) (Or.inr ⟨he, fun j hj => by rw [hj]; exact ge, rfl⟩) hno e 0 f_woken a_hooks a_goalState (by omega) R
      obtain ⟨s, hs, ho, hu, hp, A⟩ := RG.1 e he
      have Ax := (RG.2.2 s hs hu).1
      have ge' := ge
      rw [ho, nI_clamp (n := s) (by omega)] at ge'
      have ⟨c, hc, cp0, cv0, f0⟩ : ∃ c, c < nK ∧ a_clausePred c = a_goalPred s ∧ gh_cv a_kind a_first (gh_H a_kind a_first a_second E a_goalArg s) a_itemOp a_itemA a_itemB a_itemCount c = 0 ∧ gh_fi (fun c => gh_cs a_kind a_first (gh_H a_kind a_first a_second E a_goalArg s) a_itemOp a_itemA a_itemB a_itemCount a_clausePred (a_goalPred s) c = 0) nK = some c := by
        rcases gh_fi3 (kd := a_kind) (fs := a_first) (h := gh_H a_kind a_first a_second E a_goalArg s) (io := a_itemOp) (ia := a_itemA) (ib := a_itemB) (ic := a_itemCount) (cp := a_clausePred) (gp := a_goalPred s) (nK := nK) with ⟨_, _, z⟩ | ⟨_, _, z⟩ | ⟨z, _⟩
        · omega
        · omega
        · exact z
      obtain ⟨c16, m, hm, em, WW, hM, hS⟩ := RK.1 c hc
      have vc : vp_in (nI c) 16 := vp_in_nI c16 (by omega)
      have cc : (nI c).toNatClampNeg = c := nI_clamp (by omega)
      have lm := gh_cnt_le (io := a_itemOp) (lo := 6) (hi := 10) (c := c) (i := m)
      have ls := gh_cnt_le (io := a_itemOp) (lo := 12) (hi := 19) (c := c) (i := m)
      have f0e : gh_fi (fun c => gh_cs a_kind a_first (gh_H a_kind a_first a_second E a_goalArg (a_order e).toNatClampNeg) a_itemOp a_itemA a_itemB a_itemCount a_clausePred (a_goalPred (a_order e).toNatClampNeg) c = 0) nK = some c := by
        rw [ho, nI_clamp (n := s) (by omega)]
        exact f0
      have fX : gh_fi (fun c => a_clausePred c = a_goalPred s ∧ gh_cv a_kind a_first (gh_H a_kind a_first a_second E a_goalArg s) a_itemOp a_itemA a_itemB a_itemCount c = 0) nK = some c := (gh_fi_eq (fun c => (gh_cs_i (by omega)).symm) nK).trans f0
      have e0 : (0 : Int32) ≤ nI e := nI_pos' (by omega)
      have c0 : (0 : Int32) ≤ nI c := nI_pos' (by omega)
      have ve : vp_in (nI e) 16 := vp_in_nI (by omega) (by omega)
      by_cases il : i = lim
      · subst il
        refine Or.inl ⟨1, _, _, gh_in R2, fun B post n h => ?_, fun sx sy post n h => ?_⟩
        · exact br_f nl (br_t eb (Exists.intro (e + 1) (hX B _ (e + 1) (by omega) (fun B' => br_t e0 (br_t rfl (h B'))))))
        · refine br_f nl (br_f yb (Exists.intro (e + 2) ?_))
          exact gh_rsx R (Or.inr ⟨he, c, hc, f0e, fun sx sy => br_t c0 (br_t rfl (h sx sy))⟩) hno e 0 (e + 2) 0 sx sy (by omega) (by omega)
      · have ni : ¬ nI i = nI lim := fun z => il ((nI_eq (by omega) (by omega)).mp z)
        have xC : f_cells + a_makeCount c = nI (nC + gh_cnt a_itemOp 6 10 c m) := by rw [RN.1.1, hM, nI_add]
        have xG : f_goals - 1 + a_spawnCount c = nI (nG - 1 + gh_cnt a_itemOp 12 19 c m) := by
          rw [RN.1.2.1, hS, show nI nG - 1 = nI (nG - 1) from pk_sub (b := 1) (by omega), nI_add]
        have yC : b_num 0 + nI (gh_cnt a_itemOp 6 10 c m) = nI (nC + gh_cnt a_itemOp 6 10 c m) := by rw [n0, nI_add]
        have yG : b_num 1 - 1 + nI (gh_cnt a_itemOp 12 19 c m) = nI (nG - 1 + gh_cnt a_itemOp 12 19 c m) := by
          rw [n1, show nI nG - 1 = nI (nG - 1) from pk_sub (b := 1) (by omega), nI_add]
        by_cases room : nC + gh_cnt a_itemOp 6 10 c m ≤ lc ∧ nG - 1 + gh_cnt a_itemOp 12 19 c m ≤ lg
        · obtain ⟨u1, v1, I1, hXc, hYc⟩ := gh_commit (k := k) (m := m) R2 he hs ho hc hm em cv0 room.1 room.2
          refine gh_el (P := fun u1 v1 => (∀ (f_blockedOn : Int64) (post : SX → Prop), post (gh_sB u1 f_blockedOn) → wpX_commit post (f_cells, f_goals, f_usedSlots, wk, f_clauses, f_writing, f_openPairs, f_blockedOn, f_commits, f_lastClause, f_broken, f_cellLimit, f_goalLimit, f_clauseLimit, a_kind, a_first, a_second, a_ref, hk, a_order, a_goalPred, a_goalArg, gst, a_clausePred, a_itemCount, a_makeCount, a_spawnCount, a_itemOp, a_itemA, a_itemB, a_itemC, a_names) (nI e) (nI c)) → (∀ (b_seenX b_seenY : Int32) (post : SY → Prop), post (gh_sS v1 b_seenX b_seenY) → wpY_commit post (b_seenX, b_seenY, b_num, a_kind, a_ref, b_value, b_left, b_right, b_rec, b_code, a_clausePred, a_itemCount) (nI e) (nI c)) → _) ?_ I1 hXc hYc
          intros
          rename_i R1 hXc hYc
          refine Or.inr ⟨by omega, _, _, gh_in R1, fun B post n h => ?_, fun sx sy post n h => ?_⟩
          · refine br_f nl (br_t eb (Exists.intro (e + 1) (hX B _ (e + 1) (by omega) (fun B' => br_t e0 (br_f ni (And.intro ve ?_))))))
            rw [nI_clamp (n := e) (by omega), ho]
            refine gh_ocX RN.1.2.2.1 hs RH.1 Ax W (fun B2 => ?_)
            rw [fX, gh_ot_some]
            refine And.intro vc ?_
            rw [cc]
            refine br_f ?_ (And.intro vc (br_f ?_ (br_f (by decide) (hXc B2 _ (nm_r (nI_1 i) (h B2))))))
            · rw [xC, RN.2.1.1]; exact nI_nlt room.1 (by omega)
            · rw [xG, RN.2.1.2.1]; exact nI_nlt room.2 (by omega)
          · refine br_f nl (br_f yb (Exists.intro (e + 2) ?_))
            refine gh_rsx R (Or.inr ⟨he, c, hc, f0e, fun sx sy => br_t c0 (br_f ni ?_)⟩) hno e 0 (e + 2) 0 sx sy (by omega) (by omega)
            refine gh_coY c16 hm em RK.2.2 (gh_coY c16 hm em RK.2.2 (br_f ?_ (br_t ?_ (hYc sx sy _ (nm_r (nI_1 i) (h sx sy))))))
            · rw [yC, n7]; exact nI_nlt room.1 (by omega)
            · rw [yG, n8]; exact nI_le room.2 (by omega)
        · refine Or.inl ⟨-2, _, _, gh_in R2, fun B post n h => ?_, fun sx sy post n h => ?_⟩
          · refine br_f nl (br_t eb (Exists.intro (e + 1) (hX B _ (e + 1) (by omega) (fun B' => br_t e0 (br_f ni (And.intro ve ?_))))))
            rw [nI_clamp (n := e) (by omega), ho]
            refine gh_ocX RN.1.2.2.1 hs RH.1 Ax W (fun B2 => ?_)
            rw [fX, gh_ot_some]
            refine And.intro vc ?_
            rw [cc]
            by_cases r1 : nC + gh_cnt a_itemOp 6 10 c m ≤ lc
            · refine br_f ?_ (And.intro vc (br_t ?_ (br_t rfl (h B2))))
              · rw [xC, RN.2.1.1]; exact nI_nlt r1 (by omega)
              · rw [xG, RN.2.1.2.1]
                refine nI_lt ?_ (by omega)
                by_cases r2 : nG - 1 + gh_cnt a_itemOp 12 19 c m ≤ lg
                · exact absurd ⟨r1, r2⟩ room
                · omega
            · refine br_t ?_ (br_t rfl (h B2))
              rw [xC, RN.2.1.1]; exact nI_lt (by omega) (by omega)
          · refine br_f nl (br_f yb (Exists.intro (e + 2) ?_))
            refine gh_rsx R (Or.inr ⟨he, c, hc, f0e, fun sx sy => br_t c0 (br_f ni ?_)⟩) hno e 0 (e + 2) 0 sx sy (by omega) (by omega)
            refine gh_coY c16 hm em RK.2.2 (gh_coY c16 hm em RK.2.2 ?_)
            by_cases r1 : nC + gh_cnt a_itemOp 6 10 c m ≤ lc
            · refine br_f ?_ (br_f ?_ (h sx sy))
              · rw [yC, n7]; exact nI_nlt r1 (by omega)
              · rw [yG, n8]
                refine nI_ge ?_ (by omega)
                by_cases r2 : nG - 1 + gh_cnt a_itemOp 12 19 c m ≤ lg
                · exact absurd ⟨r1, r2⟩ room
                · omega
            · refine br_t ?_ (h sx sy)
              rw [yC, n7]; exact nI_lt (by omega) (by omega)
  · exact Or.inl ⟨-3, _, _, gh_in R, fun B post n h => br_f nl (br_f (by rw [eb]; decide) (h B)), fun sx sy post n h => br_f nl (br_t (by rw [n6, eb]) (h sx sy))⟩
end
theorem gh_runl {k lim : Nat} (hl : lim ≤ 16) : ∀ (d i nC nG nK lc lg lk : Nat) (E : Nat → Nat) (f_cells f_goals f_usedSlots f_woken f_clauses f_writing f_openPairs : Int32) (f_blockedOn : Int64) (f_commits f_lastClause f_broken f_cellLimit f_goalLimit f_clauseLimit : Int32) (a_kind a_first a_second a_ref a_hooks a_order a_goalPred a_goalArg a_goalState a_clausePred a_itemCount a_makeCount a_spawnCount a_itemOp a_itemA a_itemB a_itemC a_names : Nat → Int32) (b_seenX b_seenY : Int32) (b_num b_value b_left b_right b_rec b_code : Nat → Int32), i + d = lim → gh_RR nC nG nK lc lg lk E f_cells f_goals f_usedSlots f_woken f_clauses f_writing f_openPairs f_blockedOn f_commits f_lastClause f_broken f_cellLimit f_goalLimit f_clauseLimit a_kind a_first a_second a_ref a_hooks a_order a_goalPred a_goalArg a_goalState a_clausePred a_itemCount a_makeCount a_spawnCount a_itemOp a_itemA a_itemB a_itemC a_names b_seenX b_seenY b_num b_value b_left b_right b_rec b_code →
    ∃ r u' v', i_Rel k u' v' ∧ (∀ (f_blockedOn : Int64) (post : Int32 → SX → Prop) (n : Nat), d < n → (∀ B, post r (gh_sB u' B)) → wX_run_21 post (nI lim) n (nI i) f_cells f_goals f_usedSlots f_woken f_clauses f_writing f_openPairs f_blockedOn f_commits f_lastClause f_broken f_cellLimit f_goalLimit f_clauseLimit a_kind a_first a_second a_ref a_hooks a_order a_goalPred a_goalArg a_goalState a_clausePred a_itemCount a_makeCount a_spawnCount a_itemOp a_itemA a_itemB a_itemC a_names) ∧ (∀ (b_seenX b_seenY : Int32) (post : Int32 → SY → Prop) (n : Nat), d < n → (∀ sx sy, post r (gh_sS v' sx sy)) → wY_run_21 post (nI lim) n (nI i) b_seenX b_seenY b_num a_kind a_ref b_value b_left b_right b_rec b_code a_clausePred a_itemCount) := by
  intro d
  induction d with
  | zero =>
    intro i nC nG nK lc lg lk E f_cells f_goals f_usedSlots f_woken f_clauses f_writing f_openPairs f_blockedOn f_commits f_lastClause f_broken f_cellLimit f_goalLimit f_clauseLimit a_kind a_first a_second a_ref a_hooks a_order a_goalPred a_goalArg a_goalState a_clausePred a_itemCount a_makeCount a_spawnCount a_itemOp a_itemA a_itemB a_itemC a_names b_seenX b_seenY b_num b_value b_left b_right b_rec b_code hi R
    rcases gh_rstep (k := k) (i := i) hl (by omega) R with ⟨r, u', v', I', hX, hY⟩ | ⟨h, _⟩
    · refine ⟨r, u', v', I', fun B post n hn h => ?_, fun sx sy post n hn h => ?_⟩
      · obtain ⟨n, rfl⟩ : ∃ n', n = n' + 1 := ⟨n - 1, by omega⟩
        exact hX B post n h
      · obtain ⟨n, rfl⟩ : ∃ n', n = n' + 1 := ⟨n - 1, by omega⟩
        exact hY sx sy post n h
    · omega
  | succ d ih =>
    intro i nC nG nK lc lg lk E f_cells f_goals f_usedSlots f_woken f_clauses f_writing f_openPairs f_blockedOn f_commits f_lastClause f_broken f_cellLimit f_goalLimit f_clauseLimit a_kind a_first a_second a_ref a_hooks a_order a_goalPred a_goalArg a_goalState a_clausePred a_itemCount a_makeCount a_spawnCount a_itemOp a_itemA a_itemB a_itemC a_names b_seenX b_seenY b_num b_value b_left b_right b_rec b_code hi R
    rcases gh_rstep (k := k) (i := i) hl (by omega) R with ⟨r, u', v', I', hX, hY⟩ | ⟨_, u1, v1, I1, hX, hY⟩
    · refine ⟨r, u', v', I', fun B post n hn h => ?_, fun sx sy post n hn h => ?_⟩
      · obtain ⟨n, rfl⟩ : ∃ n', n = n' + 1 := ⟨n - 1, by omega⟩
        exact hX B post n h
      · obtain ⟨n, rfl⟩ : ∃ n', n = n' + 1 := ⟨n - 1, by omega⟩
        exact hY sx sy post n h
    · refine gh_el (P := fun u1 v1 => (∀ (f_blockedOn : Int64) (post : Int32 → SX → Prop) (n : Nat), (∀ B, gh_XR post (nI lim) n (nI (i + 1)) (gh_sB u1 B)) → wX_run_21 post (nI lim) (n + 1) (nI i) f_cells f_goals f_usedSlots f_woken f_clauses f_writing f_openPairs f_blockedOn f_commits f_lastClause f_broken f_cellLimit f_goalLimit f_clauseLimit a_kind a_first a_second a_ref a_hooks a_order a_goalPred a_goalArg a_goalState a_clausePred a_itemCount a_makeCount a_spawnCount a_itemOp a_itemA a_itemB a_itemC a_names) → (∀ (b_seenX b_seenY : Int32) (post : Int32 → SY → Prop) (n : Nat), (∀ sx sy, gh_YR post (nI lim) n (nI (i + 1)) (gh_sS v1 sx sy)) → wY_run_21 post (nI lim) (n + 1) (nI i) b_seenX b_seenY b_num a_kind a_ref b_value b_left b_right b_rec b_code a_clausePred a_itemCount) → _) ?_ I1 hX hY
      intros
      rename_i R1 hX hY
      obtain ⟨r, u', v', I', iX, iY⟩ := ih (i + 1) _ _ _ _ _ _ _ _ _ _ _ _ _ _ _ _ _ _ _ _ _ _ _ _ _ _ _ _ _ _ _ _ _ _ _ _ _ _ _ _ _ _ _ _ _ _ _ (by omega) R1
      refine ⟨r, u', v', I', fun B post n hn h => ?_, fun sx sy post n hn h => ?_⟩
      · obtain ⟨n, rfl⟩ : ∃ n', n = n' + 1 := ⟨n - 1, by omega⟩
        exact hX B post n (fun B' => iX B' post n (by omega) h)
      · obtain ⟨n, rfl⟩ : ∃ n', n = n' + 1 := ⟨n - 1, by omega⟩
        exact hY sx sy post n (fun sx' sy' => iY sx' sy' post n (by omega) h)
section
variable {f_cells f_goals f_usedSlots f_woken f_clauses f_writing f_openPairs : Int32} {f_blockedOn : Int64} {f_commits f_lastClause f_broken f_cellLimit f_goalLimit f_clauseLimit : Int32} {a_kind a_first a_second a_ref a_hooks a_order a_goalPred a_goalArg a_goalState a_clausePred a_itemCount a_makeCount a_spawnCount a_itemOp a_itemA a_itemB a_itemC a_names : Nat → Int32} {b_seenX b_seenY : Int32} {b_num b_value b_left b_right b_rec b_code : Nat → Int32}
variable {nC nG nK lc lg lk : Nat} {E : Nat → Nat}
theorem gh_run {k : Nat} (R : gh_RR nC nG nK lc lg lk E f_cells f_goals f_usedSlots f_woken f_clauses f_writing f_openPairs f_blockedOn f_commits f_lastClause f_broken f_cellLimit f_goalLimit f_clauseLimit a_kind a_first a_second a_ref a_hooks a_order a_goalPred a_goalArg a_goalState a_clausePred a_itemCount a_makeCount a_spawnCount a_itemOp a_itemA a_itemB a_itemC a_names b_seenX b_seenY b_num b_value b_left b_right b_rec b_code) (v1 : Int32) : wpX_run (fun r u' => wpY_run (fun r' v' => r' = r ∧ i_Rel k u' v') (b_seenX, b_seenY, b_num, a_kind, a_ref, b_value, b_left, b_right, b_rec, b_code, a_clausePred, a_itemCount) v1) (f_cells, f_goals, f_usedSlots, f_woken, f_clauses, f_writing, f_openPairs, f_blockedOn, f_commits, f_lastClause, f_broken, f_cellLimit, f_goalLimit, f_clauseLimit, a_kind, a_first, a_second, a_ref, a_hooks, a_order, a_goalPred, a_goalArg, a_goalState, a_clausePred, a_itemCount, a_makeCount, a_spawnCount, a_itemOp, a_itemA, a_itemB, a_itemC, a_names) v1 := by
  by_cases z0 : 0 ≤ v1
  · obtain ⟨j, hj, rfl⟩ := nI_of (Int32.not_lt.mpr z0)
    by_cases z16 : nI j ≤ 16
    · have j16 : j ≤ 16 := (nI_leI (b := 16) hj (by omega)).mp z16
      obtain ⟨r, u', v', I', hX, hY⟩ := gh_runl (k := k) j16 j 0 _ _ _ _ _ _ _ _ _ _ _ _ _ _ _ _ _ _ _ _ _ _ _ _ _ _ _ _ _ _ _ _ _ _ _ _ _ _ _ _ _ _ _ _ _ _ _ (by omega) R
      refine br_t z0 (br_t z16 (Exists.intro (j + 1) (hX _ _ (j + 1) (by omega) (fun B => ?_))))
      refine br_t z0 (br_t z16 (Exists.intro (j + 1) (hY _ _ _ (j + 1) (by omega) (fun sx sy => ⟨rfl, gh_rel_s I' B sx sy⟩))))
    · obtain ⟨r, u', v', I', hX, hY⟩ := gh_runl (k := k) (lim := 16) (by omega) 16 0 _ _ _ _ _ _ _ _ _ _ _ _ _ _ _ _ _ _ _ _ _ _ _ _ _ _ _ _ _ _ _ _ _ _ _ _ _ _ _ _ _ _ _ _ _ _ _ (by omega) R
      refine br_t z0 (br_f z16 (Exists.intro 17 (hX _ _ 17 (by omega) (fun B => ?_))))
      refine br_t z0 (br_f z16 (Exists.intro 17 (hY _ _ _ 17 (by omega) (fun sx sy => ⟨rfl, gh_rel_s I' B sx sy⟩))))
  · exact br_f z0 (br_f z0 ⟨rfl, gh_in R⟩)
end
theorem i_vc_run {k : Nat} {u : SX} {v : SY} (I : i_Rel k u v) (hk : k + 5 ≤ 2563) (v1 : Int32) : wpX_run (fun r u' => wpY_run (fun r' v' => r' = r ∧ i_Rel (k + 5) u' v') v v1) u v1 := by
  refine gh_el (P := fun u v => wpX_run (fun r u' => wpY_run (fun r' v' => r' = r ∧ i_Rel (k + 5) u' v') v v1) u v1) ?_ I
  intros
  rename_i R
  exact gh_run (k := k + 5) R v1
end
