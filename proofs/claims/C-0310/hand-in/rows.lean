section
/-! rows of the kit's rows/ (BITS, PURE-ROWS), pasted: a starting text -/
def bt (x : Int32) (i : Nat) : Bool := x.toBitVec.getLsbD i
theorem b_ext {x y : Int32} (h : ∀ i, i < 32 → bt x i = bt y i) : x = y := Int32.toBitVec_inj.mp (BitVec.eq_of_getLsbD_eq (fun i hi => h i hi))
theorem b_or (x y : Int32) (i : Nat) : bt (x ||| y) i = (bt x i || bt y i) := by unfold bt; rw [Int32.toBitVec_or, BitVec.getLsbD_or]
theorem b_and (x y : Int32) (i : Nat) : bt (x &&& y) i = (bt x i && bt y i) := by unfold bt; rw [Int32.toBitVec_and, BitVec.getLsbD_and]
theorem b_xor (x y : Int32) (i : Nat) : bt (x ^^^ y) i = (bt x i ^^ bt y i) := by unfold bt; rw [Int32.toBitVec_xor, BitVec.getLsbD_xor]
theorem b_big {x : Int32} {i : Nat} (h : 32 ≤ i) : bt x i = false := BitVec.getLsbD_of_ge _ _ h
theorem b_255 (i : Nat) : bt 255 i = decide (i < 8) := by
  rcases Nat.lt_or_ge i 32 with h | h
  · exact (by decide +kernel : ∀ i, i < 32 → bt 255 i = decide (i < 8)) i h
  · rw [b_big h, decide_eq_false (by omega)]
theorem b_65535 (i : Nat) : bt 65535 i = decide (i < 16) := by
  rcases Nat.lt_or_ge i 32 with h | h
  · exact (by decide +kernel : ∀ i, i < 32 → bt 65535 i = decide (i < 16)) i h
  · rw [b_big h, decide_eq_false (by omega)]
theorem b_m1 : ∀ i, i < 32 → bt (-1) i = true := by decide +kernel
theorem b_0 (i : Nat) : bt 0 i = false := BitVec.getLsbD_zero
theorem s_l : ∀ n, n < 32 → ((nI n &&& 31).toBitVec.smod 32).toNat = n := by decide +kernel
theorem s_u : ∀ n, n < 32 → (((nI n).toUInt32 &&& Int32.toUInt32 31).toBitVec % 32).toNat = n := by decide +kernel
theorem b_shl (n : Nat) (hn : n < 32) (x : Int32) {i : Nat} (hi : i < 32) : bt (x <<< (nI n &&& 31)) i = (decide (n ≤ i) && bt x (i - n)) := by
  unfold bt
  rw [Int32.toBitVec_shiftLeft]
  show (x.toBitVec <<< ((nI n &&& 31).toBitVec.smod 32).toNat).getLsbD i = _
  rw [s_l n hn, BitVec.getLsbD_shiftLeft]
  rcases Nat.lt_or_ge i n with h | h
  · simp [h, Nat.not_le.mpr h]
  · simp [hi, h, Nat.not_lt.mpr h]
theorem b_ushr (n : Nat) (hn : n < 32) (x : Int32) (i : Nat) : bt ((x.toUInt32 >>> ((nI n).toUInt32 &&& Int32.toUInt32 31)).toInt32) i = bt x (n + i) := by
  show (x.toUInt32 >>> ((nI n).toUInt32 &&& Int32.toUInt32 31)).toBitVec.getLsbD i = x.toUInt32.toBitVec.getLsbD (n + i)
  rw [UInt32.toBitVec_shiftRight]
  show (x.toUInt32.toBitVec >>> (((nI n).toUInt32 &&& Int32.toUInt32 31).toBitVec % 32).toNat).getLsbD i = _
  rw [s_u n hn, BitVec.getLsbD_ushiftRight]
theorem b_sshr (n : Nat) (hn : n < 32) (x : Int32) {i : Nat} (hi : i < 32) : bt (x >>> (nI n &&& 31)) i = if n + i < 32 then bt x (n + i) else bt x 31 := by
  unfold bt
  rw [Int32.toBitVec_shiftRight]
  show (x.toBitVec.sshiftRight ((nI n &&& 31).toBitVec.smod 32).toNat).getLsbD i = _
  rw [s_l n hn, BitVec.getLsbD_sshiftRight, BitVec.msb_eq_getLsbD_last]
  simp [hi]
theorem pk_us {f : Nat → Int32} {k : Nat} {x : Int32} : upd f k x k = x := if_pos rfl
theorem pk_un {f : Nat → Int32} {k j : Nat} {x : Int32} (h : j ≠ k) : upd f k x j = f j := if_neg h
theorem pk_sub {a b : Nat} (h : b ≤ a) : nI a - nI b = nI (a - b) := by
  obtain ⟨c, rfl⟩ : ∃ c, a = c + b := ⟨a - b, by omega⟩
  rw [← nI_add, Int32.add_sub_cancel, Nat.add_sub_cancel]
theorem pk_m1 (n : Nat) : nI (n + 1) + (-1) = nI n := by
  rw [← nI_1, Int32.add_assoc, show (1 : Int32) + (-1) = 0 from rfl, Int32.add_zero]
theorem pk_mul (a b : Nat) : nI a * nI b = nI (a * b) := (Int32.ofNat_mul a b).symm
theorem pk_ix (x : Int32) {n : Nat} (hn : n < 2 ^ 31) : x < 0 ∨ nI n ≤ x ∨ ∃ j : Nat, j < n ∧ x = nI j := by
  by_cases h : x < 0
  · exact Or.inl h
  · obtain ⟨j, hj, rfl⟩ := nI_of h
    by_cases h2 : j < n
    · exact Or.inr (Or.inr ⟨j, h2, rfl⟩)
    · exact Or.inr (Or.inl (nI_le (by omega) hj))
theorem pk_le {x y : Int32} {A B : Prop} (a b : Nat) (f : a ≤ b → A) (g : b < a → B) (hx : x = nI a := by rfl) (hy : y = nI b := by rfl) (ha : a < 2 ^ 31 := by omega) (hb : b < 2 ^ 31 := by omega) : (x ≤ y → A) ∧ (¬ x ≤ y → B) := by
  subst hx hy
  rw [nI_leI ha hb]
  exact ⟨f, fun z => g (by omega)⟩
theorem pk_lt {x y : Int32} {A B : Prop} (a b : Nat) (f : a < b → A) (g : b ≤ a → B) (hx : x = nI a := by rfl) (hy : y = nI b := by rfl) (ha : a < 2 ^ 31 := by omega) (hb : b < 2 ^ 31 := by omega) : (x < y → A) ∧ (¬ x < y → B) := by
  subst hx hy
  rw [nI_ltI ha hb]
  exact ⟨f, fun z => g (by omega)⟩
theorem pk_eq {x y : Int32} {A B : Prop} (a b : Nat) (f : a = b → A) (g : a ≠ b → B) (hx : x = nI a := by rfl) (hy : y = nI b := by rfl) (ha : a < 2 ^ 31 := by omega) (hb : b < 2 ^ 31 := by omega) : (x = y → A) ∧ (¬ x = y → B) := by
  subst hx hy
  rw [nI_eq ha hb]
  exact ⟨f, g⟩
theorem pk_in {x : Int32} (n N : Nat) (h : n < N) (hx : x = nI n := by rfl) (hN : N < 2 ^ 31 := by omega) : vp_in x N := by
  subst hx
  exact vp_in_nI h hN
theorem pk_cl {x : Int32} (n : Nat) (hx : x = nI n := by rfl) (h : n < 2 ^ 31 := by omega) : x.toNatClampNeg = n := by
  subst hx
  exact nI_clamp h
theorem pk_tn {n : Nat} (h : n < 2 ^ 32) : (nI n).toBitVec.toNat = n := Nat.mod_eq_of_lt h
theorem pk_and (x : Int32) {m : Int32} (k : Nat) (hm : m.toBitVec.toNat = 2 ^ k - 1) : x &&& m = nI (x.toBitVec.toNat % 2 ^ k) := by
  apply Int32.toBitVec_inj.mp
  apply BitVec.eq_of_toNat_eq
  rw [Int32.toBitVec_and, BitVec.toNat_and, hm, Nat.and_two_pow_sub_one_eq_mod]
  show _ = (BitVec.ofNat 32 _).toNat
  rw [BitVec.toNat_ofNat]
  exact (Nat.mod_eq_of_lt (Nat.lt_of_le_of_lt (Nat.mod_le _ _) x.toBitVec.isLt)).symm
theorem pk_andN {n : Nat} (h : n < 2 ^ 32) {m : Int32} (k : Nat) (hm : m.toBitVec.toNat = 2 ^ k - 1) : nI n &&& m = nI (n % 2 ^ k) := by
  rw [pk_and _ k hm, pk_tn h]
theorem pk_andE (x : Int32) {m : Int32} (k : Nat) (hm : m.toBitVec.toNat = 2 ^ k - 1) : ∃ j : Nat, j < 2 ^ k ∧ x &&& m = nI j := ⟨_, Nat.mod_lt _ (Nat.two_pow_pos k), pk_and x k hm⟩
theorem pk_andIn (x : Int32) {m : Int32} (k : Nat) (hm : m.toBitVec.toNat = 2 ^ k - 1) (hk : k ≤ 30) : vp_in (x &&& m) (2 ^ k) := by
  obtain ⟨j, hj, e⟩ := pk_andE x k hm
  rw [e]
  exact vp_in_nI hj (Nat.lt_of_le_of_lt (Nat.pow_le_pow_right (by decide) hk) (by decide))
theorem pk_shl (a s : Int32) (k : Nat) (hs : (s.toBitVec.smod 32).toNat = k) : (a <<< s).toBitVec.toNat = a.toBitVec.toNat * 2 ^ k % 2 ^ 32 := by
  show (a.toBitVec <<< (s.toBitVec.smod 32).toNat).toNat = _
  rw [hs, BitVec.toNat_shiftLeft, Nat.shiftLeft_eq]
theorem pk_shlN {n : Nat} (s : Int32) (k : Nat) (hs : (s.toBitVec.smod 32).toNat = k) (h : n * 2 ^ k < 2 ^ 32) : nI n <<< s = nI (n * 2 ^ k) := by
  apply Int32.toBitVec_inj.mp
  apply BitVec.eq_of_toNat_eq
  have hn : n < 2 ^ 32 := Nat.lt_of_le_of_lt (Nat.le_mul_of_pos_right n (Nat.two_pow_pos k)) h
  rw [pk_shl _ _ k hs, pk_tn hn, pk_tn h, Nat.mod_eq_of_lt h]
theorem pk_shr (a s : Int32) (k : Nat) (hs : (s.toBitVec.smod 32).toNat = k) : (a >>> s).toInt = a.toInt >>> k := by
  show (a.toBitVec.sshiftRight (s.toBitVec.smod 32).toNat).toInt = _
  rw [hs, BitVec.toInt_sshiftRight]
  rfl
theorem pk_shrN {n : Nat} (h : n < 2 ^ 31) (s : Int32) (k : Nat) (hs : (s.toBitVec.smod 32).toNat = k) : nI n >>> s = nI (n / 2 ^ k) := by
  apply Int32.toInt_inj.mp
  have h2 : n / 2 ^ k ≤ n := Nat.div_le_self _ _
  rw [pk_shr _ _ k hs, nI_toInt h, nI_toInt (by omega), Int.shiftRight_eq_div_pow]
  rfl
theorem pk_vb (z : Int32) : vp_nar .byte z.toInt8.toInt32 = z.toInt8.toInt32 := by rw [vp_nar_byte]; simp
theorem pk_least (P : Nat → Prop) (h : ∃ k, P k) : ∃ k, P k ∧ ∀ j, j < k → ¬ P j := by
  obtain ⟨k, hk⟩ := h
  induction k using Nat.strongRecOn with
  | ind k ih =>
    by_cases e : ∃ j, j < k ∧ P j
    · obtain ⟨j, hj, pj⟩ := e
      exact ih j hj pj
    · exact ⟨k, hk, fun j hj pj => e ⟨j, hj, pj⟩⟩
end
section
/-! bits of an Int32 as a set of numbers; counting; lists -/
theorem sc_a1 (y : Int32) : y &&& 1 = nI (bt y 0).toNat := by
  rw [pk_and y (m := 1) 1 (by decide)]
  apply congrArg nI
  have e : bt y 0 = decide (y.toBitVec.toNat % 2 = 1) := by
    show y.toBitVec.toNat.testBit 0 = _
    rw [Nat.testBit_zero]
  rw [e]
  rcases Nat.mod_two_eq_zero_or_one y.toBitVec.toNat with h | h <;> simp [h]
theorem sc_tb (x : Int32) {i : Nat} (hi : i < 32) : (x >>> (nI i &&& 31)) &&& 1 = nI (bt x i).toNat := by
  rw [sc_a1, b_sshr i hi x (by omega), Nat.add_zero, if_pos hi]
theorem sc_t0 (x : Int32) {i : Nat} (hi : i < 32) : (x >>> (nI i &&& 31)) &&& 1 = 0 ↔ bt x i = false := by
  rw [sc_tb x hi]
  cases bt x i <;> decide
theorem sc_t1 (x : Int32) {i : Nat} (hi : i < 32) : (x >>> (nI i &&& 31)) &&& 1 = 1 ↔ bt x i = true := by
  rw [sc_tb x hi]
  cases bt x i <;> decide
theorem sc_ff {b : Bool} : ¬ b = false ↔ b = true := by cases b <;> simp
theorem sc_br {x : Int32} (i : Nat) {A B : Prop} (hi : i < 32) (f : bt x i = false → A) (g : bt x i = true → B) : ((x >>> (nI i &&& 31)) &&& 1 = 0 → A) ∧ (¬ (x >>> (nI i &&& 31)) &&& 1 = 0 → B) := by
  rw [sc_t0 x hi]
  exact ⟨f, fun z => g (sc_ff.mp z)⟩
theorem sc_br1 {x : Int32} (i : Nat) {A B : Prop} (hi : i < 32) (f : bt x i = true → A) (g : bt x i = false → B) : ((x >>> (nI i &&& 31)) &&& 1 = 1 → A) ∧ (¬ (x >>> (nI i &&& 31)) &&& 1 = 1 → B) := by
  rw [sc_t1 x hi]
  exact ⟨f, fun z => g (by revert z; cases bt x i <;> simp)⟩
theorem sc_b1 : ∀ k, k < 32 → bt 1 k = decide (k = 0) := by decide +kernel
theorem sc_one (i : Nat) (hi : i < 32) (j : Nat) : bt ((1 : Int32) <<< (nI i &&& 31)) j = true ↔ j = i := by
  rcases Nat.lt_or_ge j 32 with h | h
  · rw [b_shl i hi 1 h, sc_b1 _ (by omega)]
    simp only [Bool.and_eq_true, decide_eq_true_eq]
    omega
  · rw [b_big h]
    exact ⟨fun z => (by cases z), fun z => by omega⟩
theorem sc_dif (a b : Int32) (j : Nat) : bt (a &&& (b ^^^ (-1))) j = true ↔ bt a j = true ∧ ¬ bt b j = true := by
  rw [b_and, b_xor]
  rcases Nat.lt_or_ge j 32 with h | h
  · rw [b_m1 j h]
    cases bt a j <;> cases bt b j <;> simp
  · rw [b_big h]
    simp
theorem sc_andI (a b : Int32) (j : Nat) : bt (a &&& b) j = true ↔ bt a j = true ∧ bt b j = true := by
  rw [b_and, Bool.and_eq_true]
theorem sc_orI (a b : Int32) (j : Nat) : bt (a ||| b) j = true ↔ bt a j = true ∨ bt b j = true := by
  rw [b_or, Bool.or_eq_true]
theorem sc_0I (j : Nat) : ¬ bt 0 j = true := by rw [b_0]; decide
theorem sc_z {x : Int32} : x = 0 ↔ ∀ j, ¬ bt x j = true := by
  refine ⟨fun h j => by rw [h]; exact sc_0I j, fun h => b_ext fun i _ => ?_⟩
  rw [b_0]
  exact Bool.eq_false_iff.mpr (h i)
theorem sc_nz {x : Int32} : ¬ x = 0 ↔ ∃ j, bt x j = true := by
  rw [sc_z]
  exact ⟨fun h => Classical.byContradiction fun z => h fun j hj => z ⟨j, hj⟩, fun ⟨j, hj⟩ h => h j hj⟩
theorem sc_same {x y : Int32} (h : ∀ j, bt x j = true ↔ bt y j = true) : x = y := b_ext fun i _ => by
  have := h i
  revert this
  cases bt x i <;> cases bt y i <;> simp
theorem sc_fI {b : Bool} : b = false ↔ ¬ b = true := by cases b <;> simp
theorem sc_i8 : ∀ c, c < 64 → (nI c).toInt8.toInt32 = nI c := by decide +kernel
theorem sc_nb {c : Nat} (h : c < 64) : vp_nar .byte (nI c).toInt8.toInt32 = nI c := by rw [pk_vb, sc_i8 c h]
theorem sc_nb' {c : Nat} (h : c < 64) : vp_nar .byte (nI c) = nI c := by rw [vp_nar_byte, sc_i8 c h]
theorem sc_cl {c : Nat} (h : c < 1024) : (nI c).toNatClampNeg = c := nI_clamp (by omega)
theorem sc_vin {c n : Nat} (h : c < n) (hn : n ≤ 256) : vp_in (nI c) n := vp_in_nI h (by omega)
theorem sc_ml {x : Nat} (h : x < 2 ^ 20) : ¬ nI x ≤ nI x + (-1) := by
  cases x with
  | zero => decide
  | succ x => rw [pk_m1]; exact nI_ge (by omega) (by omega)
theorem sc_lm {x : Nat} (h : x < 2 ^ 20) : nI x + (-1) < nI x := by
  cases x with
  | zero => decide
  | succ x => rw [pk_m1]; exact nI_lt (by omega) (by omega)
/-! counting -/
def sc_cn (p : Nat → Bool) : Nat → Nat
  | 0 => 0
  | n + 1 => sc_cn p n + (p n).toNat
theorem sc_cn_le (p : Nat → Bool) : ∀ n, sc_cn p n ≤ n
  | 0 => Nat.le_refl _
  | n + 1 => by
    have := sc_cn_le p n
    have : (p n).toNat ≤ 1 := by cases p n <;> decide
    simp only [sc_cn]; omega
theorem sc_cn_f (p : Nat → Bool) : ∀ n, sc_cn p n = ((List.range n).filter p).length
  | 0 => rfl
  | n + 1 => by
    rw [List.range_succ, List.filter_append, List.length_append, ← sc_cn_f p n]
    simp only [sc_cn]
    cases h : p n <;> simp [h]
theorem sc_fnd (p : Nat → Bool) (n : Nat) : ((List.range n).filter p).Nodup := List.nodup_range.sublist (List.filter_sublist)
theorem sc_len {l₁ l₂ : List Nat} (d₁ : l₁.Nodup) (d₂ : l₂.Nodup) (h : ∀ c, c ∈ l₁ ↔ c ∈ l₂) : l₁.length = l₂.length :=
  ((List.perm_ext_iff_of_nodup d₁ d₂).mpr fun a => h a).length_eq
theorem sc_cn_l {p : Nat → Bool} {n : Nat} {l : List Nat} (d : l.Nodup) (h : ∀ c, c ∈ l ↔ c < n ∧ p c = true) : sc_cn p n = l.length := by
  rw [sc_cn_f]
  refine sc_len (sc_fnd p n) d fun c => ?_
  rw [List.mem_filter, List.mem_range, h]
theorem sc_cn_eq {p q : Nat → Bool} : ∀ {n : Nat}, (∀ i, i < n → p i = q i) → sc_cn p n = sc_cn q n
  | 0, _ => rfl
  | n + 1, h => by
    have a := sc_cn_eq (p := p) (q := q) (n := n) fun i hi => h i (by omega)
    simp only [sc_cn, a, h n (by omega)]
theorem sc_cn_lt {p q : Nat → Bool} {a : Nat} (hp : p a = false) (hq : q a = true) : ∀ {n : Nat}, (∀ i, i < n → p i = true → q i = true) → a < n → sc_cn p n < sc_cn q n := by
  have mono : ∀ n : Nat, (∀ i, i < n → p i = true → q i = true) → sc_cn p n ≤ sc_cn q n := by
    intro n
    induction n with
    | zero => intro _; exact Nat.le_refl _
    | succ n ih =>
      intro h
      have a := ih fun i hi => h i (by omega)
      have b := h n (by omega)
      simp only [sc_cn]
      have : (p n).toNat ≤ (q n).toNat := by
        revert b
        cases p n <;> cases q n <;> simp
      omega
  intro n
  induction n with
  | zero => intro _ h; omega
  | succ n ih =>
    intro h ha
    simp only [sc_cn]
    rcases Nat.lt_or_ge a n with z | z
    · have x := ih (fun i hi => h i (by omega)) z
      have b := h n (by omega)
      have : (p n).toNat ≤ (q n).toNat := by
        revert b
        cases p n <;> cases q n <;> simp
      omega
    · have e : a = n := by omega
      subst e
      have x := mono a fun i hi => h i (by omega)
      rw [hp, hq]
      show sc_cn p a + 0 < sc_cn q a + 1
      omega
/-- numbers below N, all different: at most N of them -/
theorem sc_pig {N m : Nat} (f : Nat → Nat) (h : ∀ i, i < m → f i < N) (inj : ∀ i j, i < m → j < m → f i = f j → i = j) : m ≤ N := by
  have d : ((List.range m).map f).Nodup := by
    rw [List.nodup_iff_pairwise_ne, List.pairwise_map]
    have : (List.range m).Pairwise (fun a b => a < b) := List.pairwise_lt_range
    refine List.Pairwise.imp_of_mem (fun {a b} ha hb hab e => ?_) this
    rw [List.mem_range] at ha hb
    have := inj a b ha hb e
    omega
  have s : (List.range m).map f ⊆ List.range N := by
    intro c hc
    obtain ⟨i, hi, rfl⟩ := List.mem_map.mp hc
    exact List.mem_range.mpr (h i (List.mem_range.mp hi))
  have := List.Nodup.length_le_of_subset d s
  simpa using this
/-- a least element of a bounded set under a transitive relation without loops -/
theorem sc_min {R : Nat → Nat → Prop} (tr : ∀ a b c, R a b → R b c → R a c) (ir : ∀ a, ¬ R a a) (P : Nat → Prop) : ∀ N : Nat, (∃ x, x < N ∧ P x) → ∃ m, m < N ∧ P m ∧ ∀ y, y < N → P y → ¬ R y m := by
  intro N
  induction N with
  | zero => intro ⟨x, h, _⟩; omega
  | succ N ih =>
    intro ⟨x, hx, px⟩
    by_cases e : ∃ x, x < N ∧ P x
    · obtain ⟨m, hm, pm, hmin⟩ := ih e
      by_cases hn : P N ∧ R N m
      · refine ⟨N, by omega, hn.1, fun y hy py ry => ?_⟩
        rcases Nat.lt_or_ge y N with z | z
        · exact hmin y z py (tr _ _ _ ry hn.2)
        · have : y = N := by omega
          subst this
          exact ir _ ry
      · refine ⟨m, by omega, pm, fun y hy py ry => ?_⟩
        rcases Nat.lt_or_ge y N with z | z
        · exact hmin y z py ry
        · have : y = N := by omega
          subst this
          exact hn ⟨py, ry⟩
    · have : x = N := by
        rcases Nat.lt_or_ge x N with z | z
        · exact absurd ⟨x, z, px⟩ e
        · omega
      subst this
      exact ⟨x, hx, px, fun y hy py ry => by
        rcases Nat.lt_or_ge y x with z | z
        · exact e ⟨y, z, py⟩
        · have : y = x := by omega
          subst this
          exact ir _ ry⟩
end
section
/-! walks in a graph; who reaches whom; the leader of a strong component -/
def sc_S (F : Nat → Nat → Prop) (B : Nat → Prop) : Nat → Nat → Prop
  | 0 => B
  | k + 1 => fun v => ∃ w, sc_S F B k w ∧ F w v
def sc_P (F : Nat → Nat → Prop) (k u v : Nat) : Prop := sc_S F (fun x => u = x) k v
def sc_R (F : Nat → Nat → Prop) (u v : Nat) : Prop := ∃ k, sc_P F k u v
def sc_Q (F : Nat → Nat → Prop) (u v : Nat) : Prop := sc_R F u v ∧ sc_R F v u
def sc_W (F : Nat → Nat → Prop) (B : Nat → Prop) (k v : Nat) : Prop := sc_S F B k v ∧ ∀ j, j < k → ¬ sc_S F B j v
section
variable {F G : Nat → Nat → Prop} {B : Nat → Prop} {N : Nat}
theorem sc_S_add {j w : Nat} (h : sc_S F B j w) : ∀ {k v : Nat}, sc_P F k w v → sc_S F B (j + k) v := by
  intro k
  induction k with
  | zero =>
    intro v hv
    have e : w = v := hv
    subst e
    exact h
  | succ k ih =>
    intro v ⟨x, hx, hF⟩
    exact ⟨x, ih hx, hF⟩
theorem sc_S_cut {j : Nat} : ∀ {k v : Nat}, sc_S F B (j + k) v → ∃ w, sc_S F B j w ∧ sc_P F k w v := by
  intro k
  induction k with
  | zero => intro v h; exact ⟨v, h, rfl⟩
  | succ k ih =>
    intro v ⟨x, hx, hF⟩
    obtain ⟨w, hw, hp⟩ := ih hx
    exact ⟨w, hw, x, hp, hF⟩
theorem sc_W_succ {k v : Nat} : sc_W F B (k + 1) v ↔ (∃ u, sc_W F B k u ∧ F u v) ∧ ¬ ∃ j, j ≤ k ∧ sc_S F B j v := by
  constructor
  · intro ⟨⟨u, hu, hF⟩, hm⟩
    exact ⟨⟨u, ⟨hu, fun j hj hs => hm (j + 1) (by omega) ⟨u, hs, hF⟩⟩, hF⟩, fun ⟨j, hj, hs⟩ => hm j (by omega) hs⟩
  · intro ⟨⟨u, hu, hF⟩, hn⟩
    exact ⟨⟨u, hu.1, hF⟩, fun j hj hs => hn ⟨j, by omega, hs⟩⟩
theorem sc_W_at {m v : Nat} (h : sc_W F B m v) {i : Nat} (hi : i ≤ m) : ∃ w, sc_W F B i w := by
  obtain ⟨k, rfl⟩ : ∃ k, m = i + k := ⟨m - i, by omega⟩
  obtain ⟨w, hw, hp⟩ := sc_S_cut h.1
  exact ⟨w, hw, fun j hj hs => h.2 (j + k) (by omega) (sc_S_add hs hp)⟩
theorem sc_W_least {m v : Nat} (h : sc_S F B m v) : ∃ j, sc_W F B j v := pk_least (fun k => sc_S F B k v) ⟨m, h⟩
theorem sc_W_end {k m v : Nat} (h0 : ∀ v, ¬ sc_W F B k v) (h : sc_S F B m v) : ∃ j, j ≤ k ∧ sc_S F B j v := by
  obtain ⟨j, hj⟩ := sc_W_least h
  rcases Nat.lt_or_ge j k with z | z
  · exact ⟨j, by omega, hj.1⟩
  · obtain ⟨w, hw⟩ := sc_W_at hj z
    exact absurd hw (h0 w)
theorem sc_W_short {m v : Nat} (hF : ∀ a b, F a b → b < N) (hB : ∀ v, B v → v < N) (h : sc_S F B m v) : ∃ j, j < N ∧ sc_S F B j v := by
  obtain ⟨j, hj⟩ := sc_W_least h
  refine ⟨j, ?_, hj.1⟩
  have hb : ∀ i w, sc_S F B i w → w < N := by
    intro i
    cases i with
    | zero => intro w hw; exact hB w hw
    | succ i => intro w ⟨x, _, hx⟩; exact hF x w hx
  have ch : ∀ i : Nat, ∃ w : Nat, i ≤ j → sc_W F B i w := by
    intro i
    by_cases hi : i ≤ j
    · obtain ⟨w, hw⟩ := sc_W_at hj hi
      exact ⟨w, fun _ => hw⟩
    · exact ⟨0, fun z => absurd z hi⟩
  obtain ⟨f, hf⟩ := Classical.axiomOfChoice ch
  have hf' : ∀ i, i ≤ j → sc_W F B i (f i) := hf
  have := sc_pig (N := N) (m := j + 1) f (fun i hi => hb i _ (hf' i (by omega)).1) (fun a b ha hb e => by
    have x := hf' a (by omega)
    have y := hf' b (by omega)
    rcases Nat.lt_trichotomy a b with z | z | z
    · exact absurd (e ▸ x.1) (y.2 a z)
    · exact z
    · exact absurd (e ▸ y.1) (x.2 b z))
  omega
theorem sc_P_add {j k u w v : Nat} (h : sc_P F j u w) (h' : sc_P F k w v) : sc_P F (j + k) u v := sc_S_add h h'
theorem sc_R_refl (u : Nat) : sc_R F u u := ⟨0, rfl⟩
theorem sc_R_tail {u w v : Nat} (h : sc_R F u w) (h' : F w v) : sc_R F u v := by
  obtain ⟨k, hk⟩ := h
  exact ⟨k + 1, w, hk, h'⟩
theorem sc_R_one {u v : Nat} (h : F u v) : sc_R F u v := sc_R_tail (sc_R_refl u) h
theorem sc_R_trans {u w v : Nat} (h : sc_R F u w) (h' : sc_R F w v) : sc_R F u v := by
  obtain ⟨j, hj⟩ := h
  obtain ⟨k, hk⟩ := h'
  exact ⟨j + k, sc_P_add hj hk⟩
theorem sc_R_head {u w v : Nat} (h : F u w) (h' : sc_R F w v) : sc_R F u v := sc_R_trans (sc_R_one h) h'
theorem sc_R_ind {u : Nat} {M : Nat → Prop} (h0 : M u) (hs : ∀ w v, sc_R F u w → M w → F w v → M v) {v : Nat} (h : sc_R F u v) : M v := by
  obtain ⟨k, hk⟩ := h
  induction k generalizing v with
  | zero =>
    have e : u = v := hk
    subst e
    exact h0
  | succ k ih =>
    obtain ⟨w, hw, hF⟩ := hk
    exact hs w v ⟨k, hw⟩ (ih hw) hF
theorem sc_R_mono (hm : ∀ a b, F a b → G a b) {u v : Nat} (h : sc_R F u v) : sc_R G u v :=
  sc_R_ind (F := F) (M := fun v => sc_R G u v) (sc_R_refl u) (fun w v _ hw hF => sc_R_tail hw (hm w v hF)) h
theorem sc_R_rev {u v : Nat} (h : sc_R (fun a b => F b a) u v) : sc_R F v u :=
  sc_R_ind (M := fun v => sc_R F v u) (sc_R_refl u) (fun w v _ hw hF => sc_R_head hF hw) h
theorem sc_R_rev' {u v : Nat} (h : sc_R F u v) : sc_R (fun a b => F b a) v u :=
  sc_R_ind (M := fun v => sc_R (fun a b => F b a) v u) (sc_R_refl u) (fun w v _ hw hF => sc_R_head (F := fun a b => F b a) hF hw) h
theorem sc_R_bd (hF : ∀ a b, F a b → b < N) {u v : Nat} (hu : u < N) (h : sc_R F u v) : v < N :=
  sc_R_ind (M := fun v => v < N) hu (fun w v _ _ h => hF w v h) h
theorem sc_R_bd' (hF : ∀ a b, F a b → a < N) {u v : Nat} (hv : v < N) (h : sc_R F u v) : u < N :=
  sc_R_bd (F := fun a b => F b a) (fun a b h => hF b a h) hv (sc_R_rev' h)
theorem sc_R_short (hF : ∀ a b, F a b → b < N) {u v : Nat} (hu : u < N) (h : sc_R F u v) : ∃ j, j < N ∧ sc_P F j u v := by
  obtain ⟨k, hk⟩ := h
  exact sc_W_short hF (fun x hx => by have e : u = x := hx; omega) hk
/-- a walk whose vertices all lie in S -/
theorem sc_R_in {S : Nat → Prop} {u v : Nat} (h : sc_R F u v) (hS : ∀ w, sc_R F u w → sc_R F w v → S w) : sc_R (fun a b => F a b ∧ S b) u v := by
  have key : ∀ {w : Nat}, sc_R F u w → sc_R F w v → sc_R (fun a b => F a b ∧ S b) u w := fun {w} hw =>
    sc_R_ind (F := F) (M := fun x => sc_R F x v → sc_R (fun a b => F a b ∧ S b) u x) (fun _ => sc_R_refl u)
      (fun w x h1 h2 h3 h4 => sc_R_tail (F := fun a b => F a b ∧ S b) (h2 (sc_R_head h3 h4)) ⟨h3, hS x (sc_R_tail h1 h3) h4⟩) hw
  exact key h (sc_R_refl v)
theorem sc_R_out {S : Nat → Prop} {u v : Nat} (h : sc_R (fun a b => F a b ∧ S b) u v) : sc_R F u v := sc_R_mono (fun _ _ h => h.1) h
/-- one edge more -/
theorem sc_R_add {u v : Nat} (hG : ∀ a b, G a b ↔ F a b ∨ (a = u ∧ b = v)) {a b : Nat} : sc_R G a b ↔ sc_R F a b ∨ (sc_R F a u ∧ sc_R F v b) := by
  constructor
  · refine sc_R_ind (F := G) (M := fun b => sc_R F a b ∨ (sc_R F a u ∧ sc_R F v b)) (Or.inl (sc_R_refl a)) ?_
    intro w x _ hw hx
    rcases (hG w x).mp hx with e | ⟨rfl, rfl⟩
    · exact hw.elim (fun z => Or.inl (sc_R_tail z e)) (fun z => Or.inr ⟨z.1, sc_R_tail z.2 e⟩)
    · exact hw.elim (fun z => Or.inr ⟨z, sc_R_refl _⟩) (fun z => Or.inr ⟨z.1, sc_R_refl _⟩)
  · have m : ∀ {a b : Nat}, sc_R F a b → sc_R G a b := fun h => sc_R_mono (fun a b h => (hG a b).mpr (Or.inl h)) h
    rintro (h | ⟨h, h'⟩)
    · exact m h
    · exact sc_R_trans (sc_R_tail (m h) ((hG u v).mpr (Or.inr ⟨rfl, rfl⟩))) (m h')
theorem sc_Q_refl (u : Nat) : sc_Q F u u := ⟨sc_R_refl u, sc_R_refl u⟩
theorem sc_Q_symm {u v : Nat} (h : sc_Q F u v) : sc_Q F v u := ⟨h.2, h.1⟩
theorem sc_Q_trans {u w v : Nat} (h : sc_Q F u w) (h' : sc_Q F w v) : sc_Q F u v := ⟨sc_R_trans h.1 h'.1, sc_R_trans h'.2 h.2⟩
end
noncomputable def sc_l (F : Nat → Nat → Prop) (u : Nat) : Nat := Classical.choose (pk_least (fun x => sc_Q F u x) ⟨u, sc_Q_refl u⟩)
section
variable {F G : Nat → Nat → Prop} {N : Nat}
theorem sc_l_Q (u : Nat) : sc_Q F u (sc_l F u) := (Classical.choose_spec (pk_least (fun x => sc_Q F u x) ⟨u, sc_Q_refl u⟩)).1
theorem sc_l_min {u x : Nat} (h : sc_Q F u x) : sc_l F u ≤ x := by
  rcases Nat.lt_or_ge x (sc_l F u) with z | z
  · exact absurd h ((Classical.choose_spec (pk_least (fun x => sc_Q F u x) ⟨u, sc_Q_refl u⟩)).2 x z)
  · exact z
theorem sc_l_le (u : Nat) : sc_l F u ≤ u := sc_l_min (sc_Q_refl u)
theorem sc_l_eq {u v : Nat} : sc_l F u = sc_l F v ↔ sc_Q F u v := by
  constructor
  · intro h
    have a := sc_l_Q (F := F) u
    rw [h] at a
    exact sc_Q_trans a (sc_Q_symm (sc_l_Q v))
  · intro h
    have a : sc_l F u ≤ sc_l F v := sc_l_min (sc_Q_trans h (sc_l_Q v))
    have b : sc_l F v ≤ sc_l F u := sc_l_min (sc_Q_trans (sc_Q_symm h) (sc_l_Q u))
    omega
theorem sc_l_ll (u : Nat) : sc_l F (sc_l F u) = sc_l F u := sc_l_eq.mpr (sc_Q_symm (sc_l_Q u))
theorem sc_l_is {u m : Nat} (h : sc_Q F u m) (hm : ∀ x, sc_Q F u x → m ≤ x) : sc_l F u = m := by
  have a := sc_l_min h
  have b := hm _ (sc_l_Q u)
  omega
theorem sc_l_co {u : Nat} (h : ∀ x, sc_Q F u x ↔ sc_Q G u x) : sc_l F u = sc_l G u :=
  sc_l_is ((h _).mpr (sc_l_Q u)) fun x hx => sc_l_min ((h x).mp hx)
theorem sc_l_fun (h : ∀ a b, sc_R F a b ↔ sc_R G a b) : sc_l F = sc_l G := funext fun u => sc_l_co fun x => by
  unfold sc_Q
  rw [h, h]
theorem sc_l_lt {u : Nat} (h : u < N) : sc_l F u < N := Nat.lt_of_le_of_lt (sc_l_le u) h
end
/-! a line of leaders -/
def sc_Lay (N : Nat) (l : Nat → Nat) (LD M : Nat → Int32) : Prop := (∀ a, a < N → l a < N ∧ l (l a) = l a ∧ LD a = nI (l a)) ∧ ∀ c, c < N → l c = c → ∀ b, (bt (M c) b = true ↔ b < N ∧ l b = c)
def sc_Lin (N : Nat) (l : Nat → Nat) (ln : List Nat) (PL LN : Nat → Int32) : Prop := ln.Nodup ∧ (∀ c, c ∈ ln ↔ c < N ∧ l c = c) ∧ ∀ i c, ln[i]? = some c → LN i = nI c ∧ PL c = nI i
def sc_Top (E : Nat → Nat → Prop) (l : Nat → Nat) (ln : List Nat) : Prop := ln.Pairwise fun a b => ∀ x y, E x y → l x = b → l y = a → False
section
variable {E : Nat → Nat → Prop} {N : Nat} {l : Nat → Nat} {ln : List Nat} {LD M PL LN : Nat → Int32}
theorem sc_ix {c : Nat} (h : c ∈ ln) : ln[ln.idxOf c]? = some c ∧ ln.idxOf c < ln.length := by
  have z := List.idxOf_lt_length_of_mem h
  exact ⟨by rw [List.getElem?_eq_getElem z, List.getElem_idxOf z], z⟩
theorem sc_at (d : ln.Nodup) {i c : Nat} (h : ln[i]? = some c) : ln.idxOf c = i ∧ i < ln.length ∧ c ∈ ln := by
  obtain ⟨z, e⟩ := List.getElem?_eq_some_iff.mp h
  refine ⟨?_, z, ?_⟩
  · rw [← e]; exact List.Nodup.idxOf_getElem d i z
  · rw [← e]; exact List.getElem_mem z
theorem sc_ixI {a b : Nat} (ha : a ∈ ln) (hb : b ∈ ln) (e : ln.idxOf a = ln.idxOf b) : a = b := by
  have x := (sc_ix ha).1
  have y := (sc_ix hb).1
  rw [e, y] at x
  exact (Option.some.inj x).symm
theorem sc_get {i : Nat} (h : i < ln.length) : ∃ c, ln[i]? = some c := ⟨_, List.getElem?_eq_getElem h⟩
theorem sc_lnN (d : ln.Nodup) (hm : ∀ c, c ∈ ln ↔ c < N ∧ l c = c) : ln.length ≤ N := by
  have := List.Nodup.length_le_of_subset (l₂ := List.range N) d (fun c hc => List.mem_range.mpr ((hm c).mp hc).1)
  simpa using this
theorem sc_mem (hm : ∀ c, c ∈ ln ↔ c < N ∧ l c = c) (hl : ∀ a, a < N → l a < N ∧ l (l a) = l a) {a : Nat} (ha : a < N) : l a ∈ ln := (hm _).mpr (hl a ha)
theorem sc_top (t : sc_Top E l ln) {x y : Nat} (hx : l x ∈ ln) (hy : l y ∈ ln) (h : E x y) : ln.idxOf (l x) ≤ ln.idxOf (l y) := by
  rcases Nat.lt_or_ge (ln.idxOf (l y)) (ln.idxOf (l x)) with z | z
  · have a := sc_ix hx
    have b := sc_ix hy
    have p := List.pairwise_iff_getElem.mp t _ _ b.2 a.2 z x y h
    rw [List.getElem_idxOf, List.getElem_idxOf] at p
    exact absurd (p rfl rfl) id
  · exact z
theorem sc_topR (hE : ∀ a b, E a b → a < N ∧ b < N) (hl : ∀ a, a < N → l a ∈ ln) (t : sc_Top E l ln) {x y : Nat} (hx : x < N) (h : sc_R E x y) : ln.idxOf (l x) ≤ ln.idxOf (l y) := by
  have key : y < N ∧ ln.idxOf (l x) ≤ ln.idxOf (l y) := sc_R_ind (F := E) (M := fun y => y < N ∧ ln.idxOf (l x) ≤ ln.idxOf (l y)) ⟨hx, Nat.le_refl _⟩ (fun w v _ hw h => ⟨(hE w v h).2, Nat.le_trans hw.2 (sc_top t (hl w hw.1) (hl v (hE w v h).2) h)⟩) h
  exact key.2
end
end
section
/-! the component's reading helpers -/
def sc_E (T : Nat → Int32) (a b : Nat) : Prop := bt (T a) b = true
theorem sc_W_met {F : Nat → Nat → Prop} {B : Nat → Prop} {k v : Nat} : ((∃ j, j ≤ k ∧ sc_S F B j v) ∨ sc_W F B (k + 1) v) ↔ ∃ j, j ≤ k + 1 ∧ sc_S F B j v := by
  constructor
  · rintro (⟨j, hj, hs⟩ | h)
    · exact ⟨j, by omega, hs⟩
    · exact ⟨k + 1, Nat.le_refl _, h.1⟩
  · rintro ⟨j, hj, hs⟩
    by_cases e : ∃ j, j ≤ k ∧ sc_S F B j v
    · exact Or.inl e
    · have : j = k + 1 := by
        rcases Nat.lt_or_ge j (k + 1) with z | z
        · exact absurd ⟨j, by omega, hs⟩ e
        · omega
      subst this
      exact Or.inr ⟨hs, fun i hi hi' => e ⟨i, by omega, hi'⟩⟩
section
variable {N : Nat} {fl fn : Int32} {T S LD M PL LN NL HT PC : Nat → Int32} {post : Int32 → Prop}
theorem sx_isV0 {x : Int32} (h : x < 0 ∨ nI N ≤ x) (p : post 0) : wpX_isVertex post (nI N, fl, fn, T, S, LD, M, PL, LN, NL, HT, PC) x :=
  br_c (fun _ => p) (fun z => br_c (fun _ => p) (fun z' => absurd (h.resolve_left z) z'))
theorem sx_isV1 {j : Nat} (hN : N ≤ 16) (hj : j < N) (p : post 1) : wpX_isVertex post (nI N, fl, fn, T, S, LD, M, PL, LN, NL, HT, PC) (nI j) :=
  br_f (nI_pos (by omega)) (br_f (nI_ge hj (by omega)) p)
theorem sx_tgt_4 (hN : N ≤ 16) {x : Int32} (h : ∀ r, (∀ v, bt r v = true ↔ ∃ u, u < N ∧ bt x u = true ∧ bt (T u) v = true) → post r) : ∀ d i a, i + d = N → (∀ v, bt a v = true ↔ ∃ u, u < i ∧ bt x u = true ∧ bt (T u) v = true) → wX_targetsOf_4 post x (nI N) fl fn T S LD M PL LN NL HT PC (d + 1) a (nI i) := by
  intro d
  induction d with
  | zero =>
    intro i a hi ha
    have e : i = N := by omega
    subst e
    exact br_t (nI_le (Nat.le_refl _) (by omega)) (h a ha)
  | succ d ih =>
    intro i a hi ha
    refine br_f (nI_ge (by omega) (by omega)) (sc_br i (by omega) (fun hb => nm_r (nI_1 i) (ih (i + 1) a (by omega) fun v => ?_)) (fun hb => And.intro (sc_vin (by omega) (by omega)) (nm_e (nm_r (nI_1 i) (ih (i + 1) _ (by omega) fun v => ?_)))))
    · rw [ha]
      refine ⟨fun ⟨u, h1, h2⟩ => ⟨u, by omega, h2⟩, fun ⟨u, h1, h2, h3⟩ => ⟨u, ?_, h2, h3⟩⟩
      rcases Nat.lt_or_ge u i with z | z
      · exact z
      · have : u = i := by omega
        subst this
        rw [hb] at h2
        cases h2
    · rw [sc_orI, ha, sc_cl (by omega)]
      constructor
      · rintro (⟨u, h1, h2⟩ | h1)
        · exact ⟨u, by omega, h2⟩
        · exact ⟨i, by omega, hb, h1⟩
      · rintro ⟨u, h1, h2, h3⟩
        rcases Nat.lt_or_ge u i with z | z
        · exact Or.inl ⟨u, z, h2, h3⟩
        · have : u = i := by omega
          subst this
          exact Or.inr h3
theorem sx_tgt (hN : N ≤ 16) {x : Int32} (h : ∀ r, (∀ v, bt r v = true ↔ ∃ u, u < N ∧ bt x u = true ∧ bt (T u) v = true) → post r) : wpX_targetsOf post (nI N, fl, fn, T, S, LD, M, PL, LN, NL, HT, PC) x :=
  ⟨N + 1, sx_tgt_4 hN h N 0 0 (by omega) fun v => ⟨fun z => absurd z (sc_0I v), fun ⟨u, hu, _⟩ => by omega⟩⟩
theorem sx_src_4 (hN : N ≤ 16) {x : Int32} (h : ∀ r, (∀ v, bt r v = true ↔ ∃ u, u < N ∧ bt x u = true ∧ bt (S u) v = true) → post r) : ∀ d i a, i + d = N → (∀ v, bt a v = true ↔ ∃ u, u < i ∧ bt x u = true ∧ bt (S u) v = true) → wX_sourcesOf_4 post x (nI N) fl fn T S LD M PL LN NL HT PC (d + 1) a (nI i) := by
  intro d
  induction d with
  | zero =>
    intro i a hi ha
    have e : i = N := by omega
    subst e
    exact br_t (nI_le (Nat.le_refl _) (by omega)) (h a ha)
  | succ d ih =>
    intro i a hi ha
    refine br_f (nI_ge (by omega) (by omega)) (sc_br i (by omega) (fun hb => nm_r (nI_1 i) (ih (i + 1) a (by omega) fun v => ?_)) (fun hb => And.intro (sc_vin (by omega) (by omega)) (nm_e (nm_r (nI_1 i) (ih (i + 1) _ (by omega) fun v => ?_)))))
    · rw [ha]
      refine ⟨fun ⟨u, h1, h2⟩ => ⟨u, by omega, h2⟩, fun ⟨u, h1, h2, h3⟩ => ⟨u, ?_, h2, h3⟩⟩
      rcases Nat.lt_or_ge u i with z | z
      · exact z
      · have : u = i := by omega
        subst this
        rw [hb] at h2
        cases h2
    · rw [sc_orI, ha, sc_cl (by omega)]
      constructor
      · rintro (⟨u, h1, h2⟩ | h1)
        · exact ⟨u, by omega, h2⟩
        · exact ⟨i, by omega, hb, h1⟩
      · rintro ⟨u, h1, h2, h3⟩
        rcases Nat.lt_or_ge u i with z | z
        · exact Or.inl ⟨u, z, h2, h3⟩
        · have : u = i := by omega
          subst this
          exact Or.inr h3
theorem sx_src (hN : N ≤ 16) {x : Int32} (h : ∀ r, (∀ v, bt r v = true ↔ ∃ u, u < N ∧ bt x u = true ∧ bt (S u) v = true) → post r) : wpX_sourcesOf post (nI N, fl, fn, T, S, LD, M, PL, LN, NL, HT, PC) x :=
  ⟨N + 1, sx_src_4 hN h N 0 0 (by omega) fun v => ⟨fun z => absurd z (sc_0I v), fun ⟨u, hu, _⟩ => by omega⟩⟩
theorem sx_lds_4 (hN : N ≤ 16) {x : Int32} {l : Nat → Nat} (hl : ∀ a, a < N → l a < N ∧ LD a = nI (l a)) (h : ∀ r, (∀ v, bt r v = true ↔ ∃ u, u < N ∧ bt x u = true ∧ l u = v) → post r) : ∀ d i a, i + d = N → (∀ v, bt a v = true ↔ ∃ u, u < i ∧ bt x u = true ∧ l u = v) → wX_leadersOf_4 post x (nI N) fl fn T S LD M PL LN NL HT PC (d + 1) a (nI i) := by
  intro d
  induction d with
  | zero =>
    intro i a hi ha
    have e : i = N := by omega
    subst e
    exact br_t (nI_le (Nat.le_refl _) (by omega)) (h a ha)
  | succ d ih =>
    intro i a hi ha
    refine br_f (nI_ge (by omega) (by omega)) (sc_br i (by omega) (fun hb => nm_r (nI_1 i) (ih (i + 1) a (by omega) fun v => ?_)) (fun hb => And.intro (sc_vin (by omega) (by omega)) (nm_e (nm_r (nI_1 i) (ih (i + 1) _ (by omega) fun v => ?_)))))
    · rw [ha]
      refine ⟨fun ⟨u, h1, h2⟩ => ⟨u, by omega, h2⟩, fun ⟨u, h1, h2, h3⟩ => ⟨u, ?_, h2, h3⟩⟩
      rcases Nat.lt_or_ge u i with z | z
      · exact z
      · have : u = i := by omega
        subst this
        rw [hb] at h2
        cases h2
    · have hli := hl i (by omega)
      rw [sc_orI, ha, sc_cl (by omega), hli.2, sc_one _ (by omega)]
      constructor
      · rintro (⟨u, h1, h2⟩ | h1)
        · exact ⟨u, by omega, h2⟩
        · exact ⟨i, by omega, hb, h1.symm⟩
      · rintro ⟨u, h1, h2, h3⟩
        rcases Nat.lt_or_ge u i with z | z
        · exact Or.inl ⟨u, z, h2, h3⟩
        · have : u = i := by omega
          subst this
          exact Or.inr h3.symm
theorem sx_lds (hN : N ≤ 16) {x : Int32} {l : Nat → Nat} (hl : ∀ a, a < N → l a < N ∧ LD a = nI (l a)) (h : ∀ r, (∀ v, bt r v = true ↔ ∃ u, u < N ∧ bt x u = true ∧ l u = v) → post r) : wpX_leadersOf post (nI N, fl, fn, T, S, LD, M, PL, LN, NL, HT, PC) x :=
  ⟨N + 1, sx_lds_4 hN hl h N 0 0 (by omega) fun v => ⟨fun z => absurd z (sc_0I v), fun ⟨u, hu, _⟩ => by omega⟩⟩
theorem sx_bits_4 {x : Int32} (h : post (nI (sc_cn (bt x) 16))) : ∀ d i, i + d = 16 → wX_bitsIn_4 post x (nI N) fl fn T S LD M PL LN NL HT PC (d + 1) (nI (sc_cn (bt x) i)) (nI i) := by
  intro d
  induction d with
  | zero =>
    intro i hi
    have e : i = 16 := by omega
    subst e
    exact br_t (nI_le (a := 16) (b := 16) (by omega) (by omega)) h
  | succ d ih =>
    intro i hi
    have e : nI (sc_cn (bt x) i) + ((x >>> (nI i &&& 31)) &&& 1) = nI (sc_cn (bt x) (i + 1)) := by
      rw [sc_tb x (by omega), nI_add]
      rfl
    exact br_f (nI_ge (b := 16) (by omega) (by omega)) (nm_r e (nm_r (nI_1 i) (ih (i + 1) (by omega))))
theorem sx_bits {x : Int32} (h : post (nI (sc_cn (bt x) 16))) : wpX_bitsIn post (nI N, fl, fn, T, S, LD, M, PL, LN, NL, HT, PC) x := ⟨17, sx_bits_4 h 16 0 rfl⟩
theorem sx_low_2 {x : Int32} {m : Nat} (hm : m < 16) (hb : bt x m = true) (hl : ∀ j, j < m → bt x j = false) (h : post (nI m)) : ∀ d i, i + d = m → wX_lowest_2 post x (nI N) fl fn T S LD M PL LN NL HT PC (d + 1) (nI i) := by
  intro d
  induction d with
  | zero =>
    intro i hi
    have e : i = m := by omega
    subst e
    exact br_c (fun _ => h) (fun _ => sc_br i (by omega) (fun z => by rw [hb] at z; cases z) (fun _ => h))
  | succ d ih =>
    intro i hi
    exact br_f (nI_ge (b := 15) (by omega) (by omega)) (sc_br i (by omega) (fun _ => nm_r (nI_1 i) (ih (i + 1) (by omega))) (fun z => by rw [hl i (by omega)] at z; cases z))
theorem sx_low {x : Int32} {j : Nat} (hj : bt x j = true) (hj16 : j < 16) (h : ∀ m, m ≤ j → bt x m = true → (∀ i, i < m → bt x i = false) → post (nI m)) : wpX_lowest post (nI N, fl, fn, T, S, LD, M, PL, LN, NL, HT, PC) x := by
  obtain ⟨m, hm, hmin⟩ := pk_least (fun k => bt x k = true) ⟨j, hj⟩
  have hmj : m ≤ j := by
    rcases Nat.lt_or_ge j m with z | z
    · exact absurd hj (hmin j z)
    · exact z
  have hl : ∀ i, i < m → bt x i = false := fun i hi => sc_fI.mpr (hmin i hi)
  exact ⟨m + 1, sx_low_2 (by omega) hm hl (h m hmj hm hl) m 0 (by omega)⟩
theorem sx_spr_8 (hN : N ≤ 16) (hE : ∀ a b, bt (T a) b = true → a < N ∧ b < N) {x2 : Int32} {s : Nat} (hs : s < N) (h : ∀ r, (∀ v, bt r v = true ↔ sc_R (fun a b => sc_E T a b ∧ bt x2 b = true) s v) → post r) : ∀ d k met wav, k + d = 16 → (∀ v, bt met v = true ↔ ∃ j, j ≤ k ∧ sc_S (fun a b => sc_E T a b ∧ bt x2 b = true) (fun x => s = x) j v) → (∀ v, bt wav v = true ↔ sc_W (fun a b => sc_E T a b ∧ bt x2 b = true) (fun x => s = x) k v) → wX_spreadWithin_8 post x2 (nI N) fl fn T S LD M PL LN NL HT PC (d + 1) met wav (nI k) := by
  have hF : ∀ a b, (sc_E T a b ∧ bt x2 b = true) → b < N := fun a b h => (hE a b h.1).2
  intro d
  induction d with
  | zero =>
    intro k met wav hk hm hw
    have e : k = 16 := by omega
    subst e
    refine br_t (nI_le (a := 16) (b := 16) (by omega) (by omega)) (h met fun v => ?_)
    rw [hm]
    refine ⟨fun ⟨j, _, hj⟩ => ⟨j, hj⟩, fun hr => ?_⟩
    obtain ⟨j, hj, hp⟩ := sc_R_short hF hs hr
    exact ⟨j, by omega, hp⟩
  | succ d ih =>
    intro k met wav hk hm hw
    refine br_f (nI_ge (b := 16) (by omega) (by omega)) (br_c (fun z => h met fun v => ?_) (fun z => sx_tgt hN fun r hr => nm_e (nm_e (nm_r (nI_1 k) ?_))))
    · rw [hm]
      refine ⟨fun ⟨j, _, hj⟩ => ⟨j, hj⟩, fun ⟨m, hr⟩ => sc_W_end (fun v hv => ?_) hr⟩
      exact sc_z.mp z v ((hw v).mpr hv)
    · have key : ∀ v, bt ((r &&& x2) &&& (met ^^^ (-1))) v = true ↔ sc_W (fun a b => sc_E T a b ∧ bt x2 b = true) (fun x => s = x) (k + 1) v := by
        intro v
        rw [sc_dif, sc_andI, hr, hm, sc_W_succ]
        constructor
        · rintro ⟨⟨⟨u, hu, h1, h2⟩, h3⟩, h4⟩
          exact ⟨⟨u, (hw u).mp h1, h2, h3⟩, h4⟩
        · rintro ⟨⟨u, h1, h2, h3⟩, h4⟩
          exact ⟨⟨⟨u, (hE u v h2).1, (hw u).mpr h1, h2⟩, h3⟩, h4⟩
      refine ih (k + 1) _ _ (by omega) (fun v => ?_) key
      rw [sc_orI, key, hm]
      exact sc_W_met
theorem sx_spr (hN : N ≤ 16) (hE : ∀ a b, bt (T a) b = true → a < N ∧ b < N) {x2 : Int32} {s : Nat} (hs : s < N) (h : ∀ r, (∀ v, bt r v = true ↔ sc_R (fun a b => sc_E T a b ∧ bt x2 b = true) s v) → post r) : wpX_spreadWithin post (nI N, fl, fn, T, S, LD, M, PL, LN, NL, HT, PC) ((1 : Int32) <<< (nI s &&& 31)) x2 := by
  refine ⟨17, sx_spr_8 hN hE hs h 16 0 _ _ rfl (fun v => ?_) (fun v => ?_)⟩
  · rw [sc_one s (by omega)]
    refine ⟨fun e => ⟨0, Nat.le_refl _, e.symm⟩, fun ⟨j, hj, hp⟩ => ?_⟩
    have : j = 0 := by omega
    subst this
    have e : s = v := hp
    exact e.symm
  · rw [sc_one s (by omega)]
    refine ⟨fun e => ⟨e.symm, fun j hj => by omega⟩, fun hp => ?_⟩
    have e : s = v := hp.1
    exact e.symm
theorem sx_gat_8 (hN : N ≤ 16) (hE : ∀ a b, bt (S a) b = true → a < N ∧ b < N) {x2 : Int32} {s : Nat} (hs : s < N) (h : ∀ r, (∀ v, bt r v = true ↔ sc_R (fun a b => sc_E S a b ∧ bt x2 b = true) s v) → post r) : ∀ d k met wav, k + d = 16 → (∀ v, bt met v = true ↔ ∃ j, j ≤ k ∧ sc_S (fun a b => sc_E S a b ∧ bt x2 b = true) (fun x => s = x) j v) → (∀ v, bt wav v = true ↔ sc_W (fun a b => sc_E S a b ∧ bt x2 b = true) (fun x => s = x) k v) → wX_gatherWithin_8 post x2 (nI N) fl fn T S LD M PL LN NL HT PC (d + 1) met wav (nI k) := by
  have hF : ∀ a b, (sc_E S a b ∧ bt x2 b = true) → b < N := fun a b h => (hE a b h.1).2
  intro d
  induction d with
  | zero =>
    intro k met wav hk hm hw
    have e : k = 16 := by omega
    subst e
    refine br_t (nI_le (a := 16) (b := 16) (by omega) (by omega)) (h met fun v => ?_)
    rw [hm]
    refine ⟨fun ⟨j, _, hj⟩ => ⟨j, hj⟩, fun hr => ?_⟩
    obtain ⟨j, hj, hp⟩ := sc_R_short hF hs hr
    exact ⟨j, by omega, hp⟩
  | succ d ih =>
    intro k met wav hk hm hw
    refine br_f (nI_ge (b := 16) (by omega) (by omega)) (br_c (fun z => h met fun v => ?_) (fun z => sx_src hN fun r hr => nm_e (nm_e (nm_r (nI_1 k) ?_))))
    · rw [hm]
      refine ⟨fun ⟨j, _, hj⟩ => ⟨j, hj⟩, fun ⟨m, hr⟩ => sc_W_end (fun v hv => ?_) hr⟩
      exact sc_z.mp z v ((hw v).mpr hv)
    · have key : ∀ v, bt ((r &&& x2) &&& (met ^^^ (-1))) v = true ↔ sc_W (fun a b => sc_E S a b ∧ bt x2 b = true) (fun x => s = x) (k + 1) v := by
        intro v
        rw [sc_dif, sc_andI, hr, hm, sc_W_succ]
        constructor
        · rintro ⟨⟨⟨u, hu, h1, h2⟩, h3⟩, h4⟩
          exact ⟨⟨u, (hw u).mp h1, h2, h3⟩, h4⟩
        · rintro ⟨⟨u, h1, h2, h3⟩, h4⟩
          exact ⟨⟨⟨u, (hE u v h2).1, (hw u).mpr h1, h2⟩, h3⟩, h4⟩
      refine ih (k + 1) _ _ (by omega) (fun v => ?_) key
      rw [sc_orI, key, hm]
      exact sc_W_met
theorem sx_gat (hN : N ≤ 16) (hE : ∀ a b, bt (S a) b = true → a < N ∧ b < N) {x2 : Int32} {s : Nat} (hs : s < N) (h : ∀ r, (∀ v, bt r v = true ↔ sc_R (fun a b => sc_E S a b ∧ bt x2 b = true) s v) → post r) : wpX_gatherWithin post (nI N, fl, fn, T, S, LD, M, PL, LN, NL, HT, PC) ((1 : Int32) <<< (nI s &&& 31)) x2 := by
  refine ⟨17, sx_gat_8 hN hE hs h 16 0 _ _ rfl (fun v => ?_) (fun v => ?_)⟩
  · rw [sc_one s (by omega)]
    refine ⟨fun e => ⟨0, Nat.le_refl _, e.symm⟩, fun ⟨j, hj, hp⟩ => ?_⟩
    have : j = 0 := by omega
    subst this
    have e : s = v := hp
    exact e.symm
  · rw [sc_one s (by omega)]
    refine ⟨fun e => ⟨e.symm, fun j hj => by omega⟩, fun hp => ?_⟩
    have e : s = v := hp.1
    exact e.symm
end
end
section
/-! the component's helpers on the line of components -/
section
variable {N : Nat} {fl fn : Int32} {T S LD M PL LN NL HT PC : Nat → Int32} {post : Int32 → Prop} {l : Nat → Nat} {ln : List Nat}
theorem sx_nxf {c : Nat} {r r' : Int32} (hE : ∀ a b, bt (T a) b = true → a < N ∧ b < N) (hY : sc_Lay N l LD M) (hc : c ∈ ln) (hm : ∀ c, c ∈ ln ↔ c < N ∧ l c = c) (hr : ∀ v, bt r v = true ↔ ∃ u, u < N ∧ bt (M c) u = true ∧ bt (T u) v = true) (hr' : ∀ v, bt r' v = true ↔ ∃ u, u < N ∧ bt r u = true ∧ l u = v) (v : Nat) : bt r' v = true ↔ ∃ x y, bt (T x) y = true ∧ l x = c ∧ l y = v := by
  have hc2 := (hm c).mp hc
  rw [hr']
  constructor
  · rintro ⟨u, h1, h2, h3⟩
    obtain ⟨x, h4, h5, h6⟩ := (hr u).mp h2
    exact ⟨x, u, h6, ((hY.2 c hc2.1 hc2.2 x).mp h5).2, h3⟩
  · rintro ⟨x, y, h1, h2, h3⟩
    have hb := hE x y h1
    exact ⟨y, hb.2, (hr y).mpr ⟨x, hb.1, (hY.2 c hc2.1 hc2.2 x).mpr ⟨hb.1, h2⟩, h1⟩, h3⟩
theorem sx_nxb {c : Nat} {r r' : Int32} (hE : ∀ a b, bt (S a) b = true → a < N ∧ b < N) (hY : sc_Lay N l LD M) (hc : c ∈ ln) (hm : ∀ c, c ∈ ln ↔ c < N ∧ l c = c) (hr : ∀ v, bt r v = true ↔ ∃ u, u < N ∧ bt (M c) u = true ∧ bt (S u) v = true) (hr' : ∀ v, bt r' v = true ↔ ∃ u, u < N ∧ bt r u = true ∧ l u = v) (v : Nat) : bt r' v = true ↔ ∃ x y, bt (S x) y = true ∧ l x = c ∧ l y = v := by
  have hc2 := (hm c).mp hc
  rw [hr']
  constructor
  · rintro ⟨u, h1, h2, h3⟩
    obtain ⟨x, h4, h5, h6⟩ := (hr u).mp h2
    exact ⟨x, u, h6, ((hY.2 c hc2.1 hc2.2 x).mp h5).2, h3⟩
  · rintro ⟨x, y, h1, h2, h3⟩
    have hb := hE x y h1
    exact ⟨y, hb.2, (hr y).mpr ⟨x, hb.1, (hY.2 c hc2.1 hc2.2 x).mpr ⟨hb.1, h2⟩, h1⟩, h3⟩
theorem sx_fwd_12 (hN : N ≤ 16) (hE : ∀ a b, bt (T a) b = true → a < N ∧ b < N) (hY : sc_Lay N l LD M) (hL : sc_Lin N l ln PL LN) {f last : Nat} (hf : f ∈ ln) (hlast : last < ln.length)
    (hm : ∀ x y, bt (T x) y = true → ln.idxOf (l x) ≤ ln.idxOf (l y) ∨ l y = f) (hq : ∀ a, a < N → sc_Q (sc_E T) a (l a))
    (h : ∀ r, (∀ c, bt r c = true → c ∈ ln ∧ sc_R (sc_E T) f c) → bt r f = true → (∀ c, bt r c = true → ln.idxOf f ≤ ln.idxOf c → ln.idxOf c ≤ last → ∀ x y, bt (T x) y = true → l x = c → bt r (l y) = true) → post r) :
    ∀ d i met, i + d = last + 1 → ln.idxOf f ≤ i → (∀ c, bt met c = true → c ∈ ln ∧ sc_R (sc_E T) f c) → bt met f = true → (∀ c, bt met c = true → ln.idxOf f ≤ ln.idxOf c → ln.idxOf c < i → ∀ x y, bt (T x) y = true → l x = c → bt met (l y) = true) → wX_forwardUpTo_12 post (nI last) (nI N) fl fn T S LD M PL LN NL HT PC (d + 1) met (nI i) := by
  have hlen := sc_lnN hL.1 hL.2.1
  intro d
  induction d with
  | zero =>
    intro i met hi hfi ha hb hc
    have e : i = last + 1 := by omega
    subst e
    exact br_t (nI_lt (by omega) (by omega)) (h met ha hb fun c h1 h2 h3 => hc c h1 h2 (by omega))
  | succ d ih =>
    intro i met hi hfi ha hb hc
    obtain ⟨c, hgc⟩ := sc_get (ln := ln) (i := i) (by omega)
    have hic := sc_at hL.1 hgc
    have hcN := (hL.2.1 c).mp hic.2.2
    have e1 : LN (nI i).toNatClampNeg = nI c := by rw [sc_cl (by omega)]; exact (hL.2.2 i c hgc).1
    refine br_f (nI_nlt (by omega) (by omega)) (And.intro (sc_vin (by omega) (by omega)) (nm_r e1 (sc_br c (by omega) (fun hbc => nm_r (nI_1 i) (ih (i + 1) met (by omega) (by omega) ha hb ?_)) (fun hbc => And.intro (sc_vin (by omega) (by omega)) (sx_tgt hN fun r hr => sx_lds hN (fun a z => ⟨(hY.1 a z).1, (hY.1 a z).2.2⟩) fun r' hr' => nm_e (nm_r (nI_1 i) (ih (i + 1) _ (by omega) (by omega) ?_ ?_ ?_)))))))
    · intro c' h1 h2 h3 x y h4 h5
      rcases Nat.lt_or_ge (ln.idxOf c') i with z | z
      · exact hc c' h1 h2 z x y h4 h5
      · have : c' = c := sc_ixI (ha c' h1).1 hic.2.2 (by omega)
        subst this
        rw [hbc] at h1
        cases h1
    all_goals rw [sc_cl (by omega)] at hr
    all_goals have key := sx_nxf hE hY hic.2.2 hL.2.1 hr hr'
    · intro c' h1
      rcases (sc_orI _ _ _).mp h1 with z | z
      · exact ha c' z
      · obtain ⟨x, y, h2, h3, h4⟩ := (key c').mp z
        have hxy := hE x y h2
        have hcx : sc_R (sc_E T) c x := by
          have := (hq x hxy.1).2
          rw [h3] at this
          exact this
        have hyc : sc_R (sc_E T) y c' := by
          have := (hq y hxy.2).1
          rw [h4] at this
          exact this
        refine ⟨?_, sc_R_trans (ha c hbc).2 (sc_R_trans hcx (sc_R_head (F := sc_E T) h2 hyc))⟩
        rw [← h4]
        exact sc_mem hL.2.1 (fun a z => ⟨(hY.1 a z).1, (hY.1 a z).2.1⟩) hxy.2
    · exact (sc_orI _ _ _).mpr (Or.inl hb)
    · intro c' h1 h2 h3 x y h4 h5
      have hmet : bt met c' = true := by
        rcases (sc_orI _ _ _).mp h1 with z | z
        · exact z
        · obtain ⟨x', y', g2, g3, g4⟩ := (key c').mp z
          rcases hm x' y' g2 with w | w
          · rw [g3, g4] at w
            have hc'l : c' ∈ ln := by
              rw [← g4]
              exact sc_mem hL.2.1 (fun a z => ⟨(hY.1 a z).1, (hY.1 a z).2.1⟩) (hE x' y' g2).2
            have : c' = c := sc_ixI hc'l hic.2.2 (by omega)
            rw [this]
            exact hbc
          · rw [g4] at w
            rw [w]
            exact hb
      rcases Nat.lt_or_ge (ln.idxOf c') i with z | z
      · exact (sc_orI _ _ _).mpr (Or.inl (hc c' hmet h2 z x y h4 h5))
      · have : c' = c := sc_ixI (ha c' hmet).1 hic.2.2 (by omega)
        subst this
        exact (sc_orI _ _ _).mpr (Or.inr ((key (l y)).mpr ⟨x, y, h4, h5, rfl⟩))
theorem sx_fwd (hN : N ≤ 16) (hE : ∀ a b, bt (T a) b = true → a < N ∧ b < N) (hY : sc_Lay N l LD M) (hL : sc_Lin N l ln PL LN) {f last : Nat} (hf : f ∈ ln) (hlast : last < ln.length) (hfl : ln.idxOf f ≤ last)
    (hm : ∀ x y, bt (T x) y = true → ln.idxOf (l x) ≤ ln.idxOf (l y) ∨ l y = f) (hq : ∀ a, a < N → sc_Q (sc_E T) a (l a))
    (h : ∀ r, (∀ c, bt r c = true → c ∈ ln ∧ sc_R (sc_E T) f c) → bt r f = true → (∀ c, bt r c = true → ln.idxOf f ≤ ln.idxOf c → ln.idxOf c ≤ last → ∀ x y, bt (T x) y = true → l x = c → bt r (l y) = true) → post r) :
    wpX_forwardUpTo post (nI N, fl, fn, T, S, LD, M, PL, LN, NL, HT, PC) (nI f) (nI last) := by
  have hfN := (hL.2.1 f).mp hf
  have e : PL (nI f).toNatClampNeg = nI (ln.idxOf f) := by rw [sc_cl (by omega)]; exact (hL.2.2 _ f (sc_ix hf).1).2
  refine nm_e (And.intro (sc_vin (by omega) (by omega)) (nm_r e ⟨last + 1 - ln.idxOf f + 1, sx_fwd_12 hN hE hY hL hf hlast hm hq h _ _ _ (by omega) (Nat.le_refl _) ?_ ?_ ?_⟩))
  · intro c hc
    rw [sc_one f (by omega)] at hc
    subst hc
    exact ⟨hf, sc_R_refl _⟩
  · exact (sc_one f (by omega) f).mpr rfl
  · intro c hc h1 h2
    omega
theorem sx_bwd_12 (hN : N ≤ 16) (hE : ∀ a b, bt (S a) b = true → a < N ∧ b < N) (hY : sc_Lay N l LD M) (hL : sc_Lin N l ln PL LN) {f low : Nat} (hf : f ∈ ln)
    (hm : ∀ x y, bt (S x) y = true → ln.idxOf (l y) ≤ ln.idxOf (l x) ∨ l y = f) (hq : ∀ a, a < N → sc_Q (sc_E S) a (l a))
    (h : ∀ r, (∀ c, bt r c = true → c ∈ ln ∧ sc_R (sc_E S) f c) → bt r f = true → (∀ c, bt r c = true → ln.idxOf c ≤ ln.idxOf f → low ≤ ln.idxOf c → ∀ x y, bt (S x) y = true → l x = c → bt r (l y) = true) → post r) :
    ∀ d met, low + d ≤ ln.idxOf f + 1 → (∀ c, bt met c = true → c ∈ ln ∧ sc_R (sc_E S) f c) → bt met f = true → (∀ c, bt met c = true → ln.idxOf c ≤ ln.idxOf f → low + d ≤ ln.idxOf c → ∀ x y, bt (S x) y = true → l x = c → bt met (l y) = true) → wX_backwardDownTo_12 post (nI low) (nI N) fl fn T S LD M PL LN NL HT PC (d + 1) met (nI (low + d) + (-1)) := by
  have hlen := sc_lnN hL.1 hL.2.1
  have hfi := (sc_ix hf).2
  intro d
  induction d with
  | zero =>
    intro met hi ha hb hc
    exact br_t (sc_lm (by omega)) (h met ha hb hc)
  | succ d ih =>
    intro met hi ha hb hc
    rw [show nI (low + (d + 1)) + (-1) = nI (low + d) from pk_m1 (low + d)]
    obtain ⟨c, hgc⟩ := sc_get (ln := ln) (i := low + d) (by omega)
    have hic := sc_at hL.1 hgc
    have hcN := (hL.2.1 c).mp hic.2.2
    have e1 : LN (nI (low + d)).toNatClampNeg = nI c := by rw [sc_cl (by omega)]; exact (hL.2.2 (low + d) c hgc).1
    refine br_f (nI_nlt (by omega) (by omega)) (And.intro (sc_vin (by omega) (by omega)) (nm_r e1 (sc_br c (by omega) (fun hbc => nm_e (ih met (by omega) ha hb ?_)) (fun hbc => And.intro (sc_vin (by omega) (by omega)) (sx_src hN fun r hr => sx_lds hN (fun a z => ⟨(hY.1 a z).1, (hY.1 a z).2.2⟩) fun r' hr' => nm_e (nm_e (ih _ (by omega) ?_ ?_ ?_)))))))
    · intro c' h1 h2 h3 x y h4 h5
      rcases Nat.lt_or_ge (low + d) (ln.idxOf c') with z | z
      · exact hc c' h1 h2 (by omega) x y h4 h5
      · have : c' = c := sc_ixI (ha c' h1).1 hic.2.2 (by omega)
        subst this
        rw [hbc] at h1
        cases h1
    all_goals rw [sc_cl (by omega)] at hr
    all_goals have key := sx_nxb hE hY hic.2.2 hL.2.1 hr hr'
    · intro c' h1
      rcases (sc_orI _ _ _).mp h1 with z | z
      · exact ha c' z
      · obtain ⟨x, y, h2, h3, h4⟩ := (key c').mp z
        have hxy := hE x y h2
        have hcx : sc_R (sc_E S) c x := by
          have := (hq x hxy.1).2
          rw [h3] at this
          exact this
        have hyc : sc_R (sc_E S) y c' := by
          have := (hq y hxy.2).1
          rw [h4] at this
          exact this
        refine ⟨?_, sc_R_trans (ha c hbc).2 (sc_R_trans hcx (sc_R_head (F := sc_E S) h2 hyc))⟩
        rw [← h4]
        exact sc_mem hL.2.1 (fun a z => ⟨(hY.1 a z).1, (hY.1 a z).2.1⟩) hxy.2
    · exact (sc_orI _ _ _).mpr (Or.inl hb)
    · intro c' h1 h2 h3 x y h4 h5
      have hmet : bt met c' = true := by
        rcases (sc_orI _ _ _).mp h1 with z | z
        · exact z
        · obtain ⟨x', y', g2, g3, g4⟩ := (key c').mp z
          rcases hm x' y' g2 with w | w
          · rw [g3, g4] at w
            have hc'l : c' ∈ ln := by
              rw [← g4]
              exact sc_mem hL.2.1 (fun a z => ⟨(hY.1 a z).1, (hY.1 a z).2.1⟩) (hE x' y' g2).2
            have : c' = c := sc_ixI hc'l hic.2.2 (by omega)
            rw [this]
            exact hbc
          · rw [g4] at w
            rw [w]
            exact hb
      rcases Nat.lt_or_ge (low + d) (ln.idxOf c') with z | z
      · exact (sc_orI _ _ _).mpr (Or.inl (hc c' hmet h2 (by omega) x y h4 h5))
      · have : c' = c := sc_ixI (ha c' hmet).1 hic.2.2 (by omega)
        subst this
        exact (sc_orI _ _ _).mpr (Or.inr ((key (l y)).mpr ⟨x, y, h4, h5, rfl⟩))
theorem sx_bwd (hN : N ≤ 16) (hE : ∀ a b, bt (S a) b = true → a < N ∧ b < N) (hY : sc_Lay N l LD M) (hL : sc_Lin N l ln PL LN) {f low : Nat} (hf : f ∈ ln) (hfl : low ≤ ln.idxOf f)
    (hm : ∀ x y, bt (S x) y = true → ln.idxOf (l y) ≤ ln.idxOf (l x) ∨ l y = f) (hq : ∀ a, a < N → sc_Q (sc_E S) a (l a))
    (h : ∀ r, (∀ c, bt r c = true → c ∈ ln ∧ sc_R (sc_E S) f c) → bt r f = true → (∀ c, bt r c = true → ln.idxOf c ≤ ln.idxOf f → low ≤ ln.idxOf c → ∀ x y, bt (S x) y = true → l x = c → bt r (l y) = true) → post r) :
    wpX_backwardDownTo post (nI N, fl, fn, T, S, LD, M, PL, LN, NL, HT, PC) (nI f) (nI low) := by
  have hfN := (hL.2.1 f).mp hf
  have e : PL (nI f).toNatClampNeg = nI (low + (ln.idxOf f + 1 - low)) + (-1) := by
    rw [sc_cl (by omega), show low + (ln.idxOf f + 1 - low) = ln.idxOf f + 1 from by omega, pk_m1]
    exact (hL.2.2 _ f (sc_ix hf).1).2
  refine nm_e (And.intro (sc_vin (by omega) (by omega)) (nm_r e ⟨ln.idxOf f + 1 - low + 1, sx_bwd_12 hN hE hY hL hf hm hq h _ _ (by omega) ?_ ?_ ?_⟩))
  · intro c hc
    rw [sc_one f (by omega)] at hc
    subst hc
    exact ⟨hf, sc_R_refl _⟩
  · exact (sc_one f (by omega) f).mpr rfl
  · intro c hc h1 h2
    omega
theorem sx_btw_5 (hN : N ≤ 16) (hL : sc_Lin N l ln PL LN) {low high : Nat} (hh : high < ln.length) (h : ∀ r, (∀ c, bt r c = true ↔ ∃ j, low ≤ j ∧ j ≤ high ∧ ln[j]? = some c) → post r) : ∀ d i a, i + d = high + 1 → low ≤ i → (∀ c, bt a c = true ↔ ∃ j, low ≤ j ∧ j < i ∧ ln[j]? = some c) → wX_leadersBetween_5 post (nI high) (nI N) fl fn T S LD M PL LN NL HT PC (d + 1) a (nI i) := by
  have hlen := sc_lnN hL.1 hL.2.1
  intro d
  induction d with
  | zero =>
    intro i a hi hli ha
    have e : i = high + 1 := by omega
    subst e
    refine br_t (nI_lt (by omega) (by omega)) (h a fun c => ?_)
    rw [ha]
    exact ⟨fun ⟨j, h1, h2, h3⟩ => ⟨j, h1, by omega, h3⟩, fun ⟨j, h1, h2, h3⟩ => ⟨j, h1, by omega, h3⟩⟩
  | succ d ih =>
    intro i a hi hli ha
    obtain ⟨c, hgc⟩ := sc_get (ln := ln) (i := i) (by omega)
    have hcN := (hL.2.1 c).mp (sc_at hL.1 hgc).2.2
    refine br_f (nI_nlt (by omega) (by omega)) (And.intro (sc_vin (by omega) (by omega)) (nm_e (nm_r (nI_1 i) (ih (i + 1) _ (by omega) (by omega) fun v => ?_))))
    rw [sc_orI, ha, sc_cl (by omega), (hL.2.2 i c hgc).1, sc_one c (by omega)]
    constructor
    · rintro (⟨j, h1, h2, h3⟩ | rfl)
      · exact ⟨j, h1, by omega, h3⟩
      · exact ⟨i, hli, by omega, hgc⟩
    · rintro ⟨j, h1, h2, h3⟩
      rcases Nat.lt_or_ge j i with z | z
      · exact Or.inl ⟨j, h1, z, h3⟩
      · have : j = i := by omega
        subst this
        rw [hgc] at h3
        exact Or.inr (Option.some.inj h3).symm
theorem sx_btw (hN : N ≤ 16) (hL : sc_Lin N l ln PL LN) {low high : Nat} (hh : high < ln.length) (hlh : low ≤ high) (h : ∀ r, (∀ c, bt r c = true ↔ ∃ j, low ≤ j ∧ j ≤ high ∧ ln[j]? = some c) → post r) : wpX_leadersBetween post (nI N, fl, fn, T, S, LD, M, PL, LN, NL, HT, PC) (nI low) (nI high) :=
  ⟨high + 1 - low + 1, sx_btw_5 hN hL hh h _ low 0 (by omega) (Nat.le_refl _) fun v => ⟨fun z => absurd z (sc_0I v), fun ⟨j, h1, h2, _⟩ => by omega⟩⟩
end
def sc_At (NL : Nat → Int32) (xs : List Nat) : Prop := ∀ i c, xs[i]? = some c → NL i = nI c
theorem sc_At_nil {NL : Nat → Int32} : sc_At NL [] := fun i c h => by simp at h
theorem sc_At_app {NL : Nat → Int32} {xs : List Nat} (h : sc_At NL xs) (c : Nat) : sc_At (upd NL xs.length (nI c)) (xs ++ [c]) := by
  intro i x hx
  rcases Nat.lt_trichotomy i xs.length with z | z | z
  · rw [List.getElem?_append_left z] at hx
    rw [pk_un (by omega)]
    exact h i x hx
  · subst z
    rw [List.getElem?_append_right (Nat.le_refl _)] at hx
    simp at hx
    rw [pk_us, hx]
  · rw [List.getElem?_append_right (by omega)] at hx
    have : [c][i - xs.length]? = none := List.getElem?_eq_none (by simp; omega)
    rw [this] at hx
    cases hx
def sc_seg (ln : List Nat) (i e : Nat) : List Nat := (ln.take e).drop i
theorem sc_seg_c {ln : List Nat} {i e c : Nat} (h : ln[i]? = some c) (hi : i < e) : sc_seg ln i e = c :: sc_seg ln (i + 1) e := by
  obtain ⟨z, hz⟩ := List.getElem?_eq_some_iff.mp h
  unfold sc_seg
  have hl : i < (ln.take e).length := by rw [List.length_take]; omega
  rw [List.drop_eq_getElem_cons hl, List.getElem_take, hz]
theorem sc_seg_n {ln : List Nat} {i e : Nat} (h : e ≤ i) : sc_seg ln i e = [] := by
  unfold sc_seg
  exact List.drop_eq_nil_of_le (by rw [List.length_take]; omega)
section
variable {N : Nat} {fl fn : Int32} {T S LD M PL LN NL HT PC : Nat → Int32} {ln : List Nat}
theorem sx_app {post : SX → Prop} {q c : Nat} (hq : q < 16) (hc : c < 64) (h : post (nI N, fl, nI (q + 1), T, S, LD, M, PL, LN, upd NL q (nI c), HT, PC)) : wpX_append post (nI N, fl, nI q, T, S, LD, M, PL, LN, NL, HT, PC) (nI c) :=
  And.intro (sc_vin hq (by omega)) (nm_r (e' := upd NL q (nI c)) (by rw [sc_cl (by omega), sc_nb hc]) (nm_r (nI_1 q) h))
theorem sx_ado_10 {post : SX → Prop} {ys : List Nat} (hy : ys.length ≤ 16) (hc : ∀ c, c ∈ ys → c < 16) (d : ys.Nodup) (ha : sc_At NL ys) (h : ∀ PL' LN', (∀ i c, ys[i]? = some c → LN' i = nI c ∧ PL' c = nI i) → post (nI N, nI ys.length, nI ys.length, T, S, LD, M, PL', LN', NL, HT, PC)) : ∀ d i PL LN, i + d = ys.length → (∀ j c, j < i → ys[j]? = some c → LN j = nI c ∧ PL c = nI j) → wX_adoptLine_10 post (nI N) (nI ys.length) (nI ys.length) (d + 1) (nI i) T S LD M PL LN NL HT PC := by
  intro d
  induction d with
  | zero =>
    intro i PL LN hi hj
    refine br_t (nI_le (by omega) (by omega)) (h PL LN fun j c hc => hj j c ?_ hc)
    obtain ⟨z, _⟩ := List.getElem?_eq_some_iff.mp hc
    omega
  | succ d' ih =>
    intro i PL LN hi hj
    obtain ⟨c, hgc⟩ := sc_get (ln := ys) (i := i) (by omega)
    have hic := sc_at d hgc
    have hc16 := hc c hic.2.2
    have e1 : upd LN i (nI c) (nI i).toNatClampNeg = nI c := by rw [sc_cl (by omega), pk_us]
    refine br_f (nI_ge (by omega) (by omega)) (And.intro (sc_vin (by omega) (by omega)) (And.intro (sc_vin (by omega) (by omega)) (nm_r (e' := upd LN i (nI c)) (by rw [sc_cl (by omega), ha i c hgc, sc_nb' (by omega)]) (And.intro (sc_vin (by omega) (by omega)) (And.intro (by rw [e1]; exact sc_vin hc16 (by omega)) (nm_r (e' := upd PL c (nI i)) (by rw [e1, sc_cl (by omega), sc_nb (by omega)]) (nm_r (nI_1 i) (ih (i + 1) _ _ (by omega) ?_))))))))
    intro j c' hj' hgc'
    rcases Nat.lt_or_ge j i with z | z
    · have hne : c' ≠ c := by
        intro e
        have := (sc_at d hgc').1
        rw [e, hic.1] at this
        omega
      rw [pk_un (by omega), pk_un hne]
      exact hj j c' z hgc'
    · have : j = i := by omega
      subst this
      rw [hgc] at hgc'
      cases hgc'
      exact ⟨pk_us, pk_us⟩
theorem sx_ado {post : SX → Prop} {ys : List Nat} (hy : ys.length ≤ 16) (hc : ∀ c, c ∈ ys → c < 16) (d : ys.Nodup) (ha : sc_At NL ys) (h : ∀ PL' LN', (∀ i c, ys[i]? = some c → LN' i = nI c ∧ PL' c = nI i) → post (nI N, nI ys.length, nI ys.length, T, S, LD, M, PL', LN', NL, HT, PC)) : wpX_adoptLine post (nI N, fl, nI ys.length, T, S, LD, M, PL, LN, NL, HT, PC) :=
  ⟨ys.length + 1, sx_ado_10 hy hc d ha h ys.length 0 PL LN (by omega) (fun j c hj => by omega)⟩
theorem sx_cla_15 {post : Int32 → SX → Prop} (hN : N ≤ 16) {x : Int32} {m : Nat} (hm : m < 16) {LD0 : Nat → Int32} (h : ∀ LD', (∀ a, LD' a = if a < N ∧ bt x a = true then nI m else LD0 a) → post (nI m) (nI N, fl, fn, T, S, LD', M, PL, LN, NL, HT, PC)) : ∀ d i LD, i + d = N → (∀ a, LD a = if a < i ∧ bt x a = true then nI m else LD0 a) → wX_claim_15 post x (nI m) (nI N) fl fn (d + 1) (nI i) T S LD M PL LN NL HT PC := by
  intro d
  induction d with
  | zero =>
    intro i LD hi hj
    have e : i = N := by omega
    subst e
    exact br_t (nI_le (Nat.le_refl _) (by omega)) (h LD hj)
  | succ d ih =>
    intro i LD hi hj
    refine br_f (nI_ge (by omega) (by omega)) (sc_br i (by omega) (fun hb => nm_r (nI_1 i) (ih (i + 1) LD (by omega) fun a => ?_)) (fun hb => And.intro (sc_vin (by omega) (by omega)) (nm_r (e' := upd LD i (nI m)) (by rw [sc_cl (by omega), sc_nb (by omega)]) (nm_r (nI_1 i) (ih (i + 1) _ (by omega) fun a => ?_)))))
    · rw [hj]
      by_cases e : a = i
      · subst e
        rw [if_neg (fun z => absurd z.1 (by omega)), if_neg (fun z => by rw [hb] at z; cases z.2)]
      · by_cases w : a < i ∧ bt x a = true
        · rw [if_pos w, if_pos ⟨by omega, w.2⟩]
        · rw [if_neg w, if_neg (fun z => w ⟨by omega, z.2⟩)]
    · by_cases e : a = i
      · subst e
        rw [pk_us, if_pos ⟨by omega, hb⟩]
      · rw [pk_un e, hj]
        by_cases w : a < i ∧ bt x a = true
        · rw [if_pos w, if_pos ⟨by omega, w.2⟩]
        · rw [if_neg w, if_neg (fun z => w ⟨by omega, z.2⟩)]
theorem sx_cla {post : Int32 → SX → Prop} (hN : N ≤ 16) {x : Int32} {j : Nat} (hj : bt x j = true) (hj16 : j < 16) (h : ∀ m LD', m ≤ j → bt x m = true → (∀ i, i < m → bt x i = false) → (∀ a, LD' a = if a < N ∧ bt x a = true then nI m else LD a) → post (nI m) (nI N, fl, fn, T, S, LD', upd M m x, PL, LN, NL, HT, PC)) : wpX_claim post (nI N, fl, fn, T, S, LD, M, PL, LN, NL, HT, PC) x := by
  refine sx_low hj hj16 fun m hmj hb hmin => And.intro (sc_vin (by omega) (by omega)) (nm_r (e' := upd M m x) (by rw [sc_cl (by omega)]) ⟨N + 1, sx_cla_15 hN (by omega) (fun LD' hLD => h m LD' hmj hb hmin hLD) N 0 LD (by omega) fun a => ?_⟩)
  rw [if_neg (fun z => by omega)]
theorem sx_mel_4 {post : Int32 → SX → Prop} (hN : N ≤ 16) {x : Int32} {M0 : Nat → Int32} {j c0 : Nat} (hc0 : c0 < N) (hz0 : bt x c0 = true) (hj : bt (M0 c0) j = true) (hj16 : j < 16)
    (h : ∀ m LD' M' y, (∀ b, bt y b = true ↔ ∃ c, c < N ∧ bt x c = true ∧ bt (M0 c) b = true) → (∀ c, M' c = if c < N ∧ bt x c = true then 0 else M0 c) → bt y m = true → m < 16 → (∀ i, i < m → bt y i = false) → (∀ a, LD' a = if a < N ∧ bt y a = true then nI m else LD a) → post (nI m) (nI N, fl, fn, T, S, LD', upd M' m y, PL, LN, NL, HT, PC)) :
    ∀ d i y M, i + d = N → (∀ b, bt y b = true ↔ ∃ c, c < i ∧ bt x c = true ∧ bt (M0 c) b = true) → (∀ c, M c = if c < i ∧ bt x c = true then 0 else M0 c) → wX_melt_4 post x (nI N) fl fn (d + 1) y (nI i) T S LD M PL LN NL HT PC := by
  intro d
  induction d with
  | zero =>
    intro i y M hi hy hM
    have e : i = N := by omega
    subst e
    exact br_t (nI_le (Nat.le_refl _) (by omega)) (sx_cla (j := j) hN ((hy j).mpr ⟨c0, hc0, hz0, hj⟩) hj16 fun m LD' hmj hb hmin hLD => h m LD' M y hy hM hb (by omega) hmin hLD)
  | succ d ih =>
    intro i y M hi hy hM
    refine br_f (nI_ge (by omega) (by omega)) (sc_br i (by omega) (fun hb => nm_r (nI_1 i) (ih (i + 1) y M (by omega) (fun b => ?_) (fun c => ?_))) (fun hb => And.intro (sc_vin (by omega) (by omega)) (nm_e (And.intro (sc_vin (by omega) (by omega)) (nm_r (e' := upd M i 0) (by rw [sc_cl (by omega)]) (nm_r (nI_1 i) (ih (i + 1) _ _ (by omega) (fun b => ?_) (fun c => ?_))))))))
    · rw [hy]
      refine ⟨fun ⟨c, h1, h2⟩ => ⟨c, by omega, h2⟩, fun ⟨c, h1, h2, h3⟩ => ⟨c, ?_, h2, h3⟩⟩
      rcases Nat.lt_or_ge c i with z | z
      · exact z
      · have : c = i := by omega
        subst this
        rw [hb] at h2
        cases h2
    · rw [hM]
      by_cases e : c = i
      · subst e
        rw [if_neg (fun z => absurd z.1 (by omega)), if_neg (fun z => by rw [hb] at z; cases z.2)]
      · by_cases w : c < i ∧ bt x c = true
        · rw [if_pos w, if_pos ⟨by omega, w.2⟩]
        · rw [if_neg w, if_neg (fun z => w ⟨by omega, z.2⟩)]
    · have e : M (nI i).toNatClampNeg = M0 i := by
        rw [sc_cl (by omega), hM, if_neg (fun z => absurd z.1 (by omega))]
      rw [sc_orI, hy, e]
      constructor
      · rintro (⟨c, h1, h2⟩ | h1)
        · exact ⟨c, by omega, h2⟩
        · exact ⟨i, by omega, hb, h1⟩
      · rintro ⟨c, h1, h2, h3⟩
        rcases Nat.lt_or_ge c i with z | z
        · exact Or.inl ⟨c, z, h2, h3⟩
        · have : c = i := by omega
          subst this
          exact Or.inr h3
    · by_cases e : c = i
      · subst e
        rw [pk_us, if_pos ⟨by omega, hb⟩]
      · rw [pk_un e, hM]
        by_cases w : c < i ∧ bt x c = true
        · rw [if_pos w, if_pos ⟨by omega, w.2⟩]
        · rw [if_neg w, if_neg (fun z => w ⟨by omega, z.2⟩)]
theorem sx_mel {post : Int32 → SX → Prop} (hN : N ≤ 16) {x : Int32} {j c0 : Nat} (hc0 : c0 < N) (hz0 : bt x c0 = true) (hj : bt (M c0) j = true) (hj16 : j < 16)
    (h : ∀ m LD' M' y, (∀ b, bt y b = true ↔ ∃ c, c < N ∧ bt x c = true ∧ bt (M c) b = true) → (∀ c, M' c = if c < N ∧ bt x c = true then 0 else M c) → bt y m = true → m < 16 → (∀ i, i < m → bt y i = false) → (∀ a, LD' a = if a < N ∧ bt y a = true then nI m else LD a) → post (nI m) (nI N, fl, fn, T, S, LD', upd M' m y, PL, LN, NL, HT, PC)) : wpX_melt post (nI N, fl, fn, T, S, LD, M, PL, LN, NL, HT, PC) x :=
  ⟨N + 1, sx_mel_4 hN hc0 hz0 hj hj16 h N 0 0 M (by omega) (fun b => ⟨fun z => absurd z (sc_0I b), fun ⟨c, hc, _⟩ => by omega⟩) (fun c => by rw [if_neg (fun z => by omega)])⟩
end
end
section
/-! the reference: who reaches whom -/
def sc_Ed (T ed : Nat → Int32) : Prop := ∀ a b, a < 16 → b < 16 → ed (16 * a + b) = nI (bt (T a) b).toNat
def sc_RC (T rc : Nat → Int32) : Prop := ∀ a b, a < 16 → b < 16 → (rc (16 * a + b) = 0 ∧ ¬ sc_R (sc_E T) a b) ∨ (rc (16 * a + b) = 1 ∧ sc_R (sc_E T) a b)
def sc_LI (T : Nat → Int32) (N : Nat) (rc0 : Nat → Int32) (uv w : Nat) (g : Int32) (rc : Nat → Int32) : Prop :=
  (∀ x, x < 256 → rc x = 0 ∨ rc x = 1) ∧ (∀ a b, a < 16 → b < 16 → rc (16 * a + b) = 1 → sc_R (sc_E T) a b) ∧ (∀ x, x < 256 → rc0 x = 1 → rc x = 1) ∧
  ((g = 0 ∧ rc = rc0) ∨ g = 1) ∧ (∀ x y, (x < uv ∧ y < N ∨ x = uv ∧ y < w) → rc0 x = 1 → sc_E T (x % 16) y → rc (16 * (x / 16) + y) = 1)
def sc_FI (T : Nat → Int32) (k : Nat) (g : Int32) (rc : Nat → Int32) : Prop :=
  (∀ x, x < 256 → rc x = 0 ∨ rc x = 1) ∧ (∀ a b, a < 16 → b < 16 → rc (16 * a + b) = 1 → sc_R (sc_E T) a b) ∧
  (∀ j a b, j ≤ k → a < 16 → b < 16 → sc_P (sc_E T) j a b → rc (16 * a + b) = 1) ∧ (g = 0 → ∀ a b, a < 16 → b < 16 → sc_R (sc_E T) a b → rc (16 * a + b) = 1)
theorem sc_idx (a b : Nat) : (16 : Int32) * nI a + nI b = nI (16 * a + b) := by
  show nI 16 * nI a + nI b = _
  rw [pk_mul, nI_add]
theorem sc_hi {x : Nat} (h : x < 256) : nI x >>> ((4 : Int32) &&& 31) = nI (x / 16) := pk_shrN (by omega) _ 4 (by decide)
theorem sc_lo {x : Nat} (h : x < 256) : nI x &&& 15 = nI (x % 16) := pk_andN (by omega) 4 (by decide)
theorem sc_ed0 {T ed : Nat → Int32} (h : sc_Ed T ed) {a b : Nat} (ha : a < 16) (hb : b < 16) : ed (16 * a + b) = 0 ↔ ¬ sc_E T a b := by
  rw [h a b ha hb]
  unfold sc_E
  cases bt (T a) b
  · exact ⟨fun _ z => (by cases z), fun _ => rfl⟩
  · exact ⟨fun z => absurd z (by decide), fun z => absurd rfl z⟩
theorem sc_10 : ¬ (1 : Int32) = 0 := by decide
theorem sc_01 : ¬ (0 : Int32) = 1 := by decide
section
variable {N : Nat} {T ed rc hg : Nat → Int32}
theorem sy_isV0 {post : Int32 → Prop} {x : Int32} (h : x < 0 ∨ nI N ≤ x) (p : post 0) : wpY_isVertex post (nI N, ed, rc, hg) x :=
  br_c (fun _ => p) (fun z => br_c (fun _ => p) (fun z' => absurd (h.resolve_left z) z'))
theorem sy_isV1 {post : Int32 → Prop} {j : Nat} (hN : N ≤ 16) (hj : j < N) (p : post 1) : wpY_isVertex post (nI N, ed, rc, hg) (nI j) :=
  br_f (nI_pos (by omega)) (br_f (nI_ge hj (by omega)) p)
theorem sc_LI_w {rc0 : Nat → Int32} {uv w : Nat} {g : Int32} (h : sc_LI T N rc0 uv w g rc) (hn : rc0 uv = 1 → sc_E T (uv % 16) w → rc (16 * (uv / 16) + w) = 1) : sc_LI T N rc0 uv (w + 1) g rc := by
  obtain ⟨h1, h2, h3, h4, h5⟩ := h
  refine ⟨h1, h2, h3, h4, fun x y hxy hx hE => ?_⟩
  rcases hxy with z | ⟨rfl, z⟩
  · exact h5 x y (Or.inl z) hx hE
  · rcases Nat.lt_or_ge y w with z' | z'
    · exact h5 x y (Or.inr ⟨rfl, z'⟩) hx hE
    · have : y = w := by omega
      subst this
      exact hn hx hE
theorem sc_LI_nx {rc0 : Nat → Int32} {uv : Nat} {g : Int32} (h : sc_LI T N rc0 uv N g rc) : sc_LI T N rc0 (uv + 1) 0 g rc := by
  obtain ⟨h1, h2, h3, h4, h5⟩ := h
  refine ⟨h1, h2, h3, h4, fun x y hxy hx hE => ?_⟩
  rcases hxy with z | ⟨rfl, z⟩
  · rcases Nat.lt_or_ge x uv with z' | z'
    · exact h5 x y (Or.inl ⟨z', z.2⟩) hx hE
    · exact h5 x y (Or.inr ⟨by omega, z.2⟩) hx hE
  · omega
theorem sc_LI_put {rc0 : Nat → Int32} {uv w : Nat} {g : Int32} (hN : N ≤ 16) (huv : uv < 256) (hw : w < N) (h : sc_LI T N rc0 uv w g rc) (hr : rc uv = 1) (hE : sc_E T (uv % 16) w) : sc_LI T N rc0 uv (w + 1) 1 (upd rc (16 * (uv / 16) + w) 1) := by
  obtain ⟨h1, h2, h3, h4, h5⟩ := h
  have hm : ∀ x, rc x = 1 → upd rc (16 * (uv / 16) + w) 1 x = 1 := by
    intro x hx
    by_cases e : x = 16 * (uv / 16) + w
    · rw [e, pk_us]
    · rw [pk_un e, hx]
  refine sc_LI_w ⟨?_, ?_, fun x hx hx' => hm x (h3 x hx hx'), Or.inr rfl, fun x y hxy hx hE => hm _ (h5 x y hxy hx hE)⟩ (fun _ _ => pk_us)
  · intro x hx
    by_cases e : x = 16 * (uv / 16) + w
    · rw [e, pk_us]
      exact Or.inr rfl
    · rw [pk_un e]
      exact h1 x hx
  · intro a b ha hb hab
    by_cases e : 16 * a + b = 16 * (uv / 16) + w
    · have ea : a = uv / 16 := by omega
      have eb : b = w := by omega
      subst ea eb
      have := h2 (uv / 16) (uv % 16) (by omega) (by omega) (by rw [show 16 * (uv / 16) + uv % 16 = uv from by omega]; exact hr)
      exact sc_R_tail this hE
    · rw [pk_un e] at hab
      exact h2 a b ha hb hab
theorem sy_len_24 {post : Int32 → SY → Prop} (hN : N ≤ 16) (hed : sc_Ed T ed) {J4 : Int32 → Int32 → (Nat → Int32) → (Nat → Int32) → (Nat → Int32) → Prop} {uv : Nat} (huv : uv < 256) {rc0 : Nat → Int32} (h : ∀ g rc, sc_LI T N rc0 uv N g rc → J4 g (nI (uv + 1)) ed rc hg) : ∀ d w g rc, w + d = N → sc_LI T N rc0 uv w g rc → wY_lengthen_24 post J4 (nI uv) (nI (uv / 16)) (nI (uv % 16)) (nI N) (d + 1) g (nI w) ed rc hg := by
  intro d
  induction d with
  | zero =>
    intro w g rc hw hI
    have e : w = N := by omega
    subst e
    exact br_t (nI_le (Nat.le_refl _) (by omega)) (nm_r (nI_1 uv) (h g rc hI))
  | succ d ih =>
    intro w g rc hw hI
    have c1 : rc (nI uv).toNatClampNeg = rc uv := by rw [sc_cl (by omega)]
    have i2 : (16 : Int32) * nI (uv % 16) + nI w = nI (16 * (uv % 16) + w) := sc_idx _ _
    have i3 : (16 : Int32) * nI (uv / 16) + nI w = nI (16 * (uv / 16) + w) := sc_idx _ _
    have c2 : (16 * (uv % 16) + w) < 256 := by omega
    have c3 : (16 * (uv / 16) + w) < 256 := by omega
    refine br_f (nI_ge (by omega) (by omega)) (And.intro (sc_vin huv (by omega)) (br_c (fun z => nm_r (nI_1 w) (ih (w + 1) g rc (by omega) (sc_LI_w hI fun z' _ => ?_))) (fun z => ?_)))
    · have := hI.2.2.1 uv huv z'
      rw [c1, this] at z
      exact absurd z sc_10
    · rw [c1] at z
      have hr : rc uv = 1 := (hI.1 uv huv).resolve_left z
      rw [i2, i3, sc_cl (by omega), sc_cl (by omega)]
      refine And.intro (sc_vin c2 (by omega)) (br_c (fun z2 => nm_r (nI_1 w) (ih (w + 1) g rc (by omega) (sc_LI_w hI fun _ hE => absurd hE ((sc_ed0 hed (by omega) (by omega)).mp z2)))) (fun z2 => And.intro (sc_vin c3 (by omega)) (br_c (fun z3 => And.intro (sc_vin c3 (by omega)) (nm_r (e' := upd rc (16 * (uv / 16) + w) 1) rfl (nm_r (nI_1 w) (ih (w + 1) 1 _ (by omega) (sc_LI_put hN huv (by omega) hI hr ?_))))) (fun z3 => nm_r (nI_1 w) (ih (w + 1) g rc (by omega) (sc_LI_w hI fun _ _ => (hI.1 _ c3).resolve_left z3))))))
      exact Classical.byContradiction fun z => z2 ((sc_ed0 hed (by omega) (by omega)).mpr z)
theorem sy_len_4 {post : Int32 → SY → Prop} (hN : N ≤ 16) (hed : sc_Ed T ed) {rc0 : Nat → Int32} (h : ∀ g rc, sc_LI T N rc0 256 0 g rc → post g (nI N, ed, rc, hg)) : ∀ d uv g rc, uv + d = 256 → sc_LI T N rc0 uv 0 g rc → wY_lengthen_4 post (nI N) (d + 1) g (nI uv) ed rc hg := by
  intro d
  induction d with
  | zero =>
    intro uv g rc hw hI
    have e : uv = 256 := by omega
    subst e
    refine br_t (nI_le (a := 256) (b := 256) (by omega) (by omega)) (And.intro ?_ (h g rc hI))
    rcases hI.2.2.2.1 with ⟨e, _⟩ | e
    · rw [e]; rfl
    · rw [e]; rfl
  | succ d ih =>
    intro uv g rc hw hI
    exact br_f (nI_ge (b := 256) (by omega) (by omega)) (nm_r (sc_hi (by omega)) (nm_r (sc_lo (by omega)) ⟨N + 1, sy_len_24 hN hed (by omega) (fun g rc hI => ih (uv + 1) g rc (by omega) (sc_LI_nx hI)) N 0 g rc (by omega) hI⟩))
theorem sy_len {post : Int32 → SY → Prop} (hN : N ≤ 16) (hed : sc_Ed T ed) (h1 : ∀ x, x < 256 → rc x = 0 ∨ rc x = 1) (h2 : ∀ a b, a < 16 → b < 16 → rc (16 * a + b) = 1 → sc_R (sc_E T) a b) (h : ∀ g rc', sc_LI T N rc 256 0 g rc' → post g (nI N, ed, rc', hg)) : wpY_lengthen post (nI N, ed, rc, hg) :=
  ⟨257, sy_len_4 hN hed h 256 0 0 rc rfl ⟨h1, h2, fun _ _ z => z, Or.inl ⟨rfl, rfl⟩, fun x y hxy => by omega⟩⟩
theorem sc_FI_s {k : Nat} {g g' : Int32} {rc' : Nat → Int32} (hN : N ≤ 16) (hT : ∀ a b, bt (T a) b = true → a < N ∧ b < N) (h : sc_FI T k g rc) (h' : sc_LI T N rc 256 0 g' rc') : sc_FI T (k + 1) g' rc' := by
  obtain ⟨a1, a2, a3, a4⟩ := h
  obtain ⟨b1, b2, b3, b4, b5⟩ := h'
  have stp : ∀ a w b, a < 16 → sc_E T w b → rc (16 * a + w) = 1 → rc' (16 * a + b) = 1 := by
    intro a w b ha hE hr
    have hwb := hT w b hE
    have := b5 (16 * a + w) b (Or.inl ⟨by omega, hwb.2⟩) hr (by rw [show (16 * a + w) % 16 = w from by omega]; exact hE)
    rw [show (16 * a + w) / 16 = a from by omega] at this
    exact this
  refine ⟨b1, b2, ?_, ?_⟩
  · intro j a b hj ha hb hp
    rcases Nat.lt_or_ge k j with z | z
    · have : j = k + 1 := by omega
      subst this
      obtain ⟨w, hw, hE⟩ := hp
      have hwb := hT w b hE
      exact stp a w b ha hE (a3 k a w (Nat.le_refl _) ha (by omega) hw)
    · exact b3 _ (by omega) (a3 j a b z ha hb hp)
  · intro hg a b ha hb hR
    rcases b4 with ⟨_, e⟩ | e
    · subst e
      exact sc_R_ind (F := sc_E T) (M := fun b => rc' (16 * a + b) = 1) (a3 0 a a (by omega) ha ha rfl) (fun w v _ hw hE => stp a w v ha hE hw) hR
    · rw [e] at hg
      exact absurd hg sc_10
theorem sc_FI_e {k : Nat} {g : Int32} (hN : N ≤ 16) (hT : ∀ a b, bt (T a) b = true → a < N ∧ b < N) (h : sc_FI T k g rc) (hk : 17 ≤ k ∨ g = 0) : sc_RC T rc := by
  obtain ⟨a1, a2, a3, a4⟩ := h
  intro a b ha hb
  rcases a1 (16 * a + b) (by omega) with e | e
  · refine Or.inl ⟨e, fun hR => ?_⟩
    have : rc (16 * a + b) = 1 := by
      rcases hk with hk | hk
      · obtain ⟨j, hj, hp⟩ := sc_R_short (N := 16) (F := sc_E T) (fun a b h => by have := (hT a b h).2; omega) ha hR
        exact a3 j a b (by omega) ha hb hp
      · exact a4 hk a b ha hb hR
    rw [this] at e
    exact absurd e sc_10
  · exact Or.inr ⟨e, a2 a b ha hb e⟩
theorem sy_fr_40 {post : SY → Prop} (hN : N ≤ 16) (hT : ∀ a b, bt (T a) b = true → a < N ∧ b < N) (hed : sc_Ed T ed) (h : ∀ rc, sc_RC T rc → post (nI N, ed, rc, hg)) : ∀ d k g rc, k + d = 17 → sc_FI T k g rc → wY_findReach_40 post (d + 1) g (nI k) (nI N) ed rc hg := by
  intro d
  induction d with
  | zero =>
    intro k g rc hk hI
    exact br_t (nI_le (a := 17) (by omega) (by omega)) (h rc (sc_FI_e hN hT hI (Or.inl (by omega))))
  | succ d ih =>
    intro k g rc hk hI
    exact br_f (nI_ge (b := 17) (by omega) (by omega)) (br_c (fun z => h rc (sc_FI_e hN hT hI (Or.inr z))) (fun z => sy_len hN hed hI.1 hI.2.1 fun g' rc' hI' => nm_r (nI_1 k) (ih (k + 1) g' rc' (by omega) (sc_FI_s hN hT hI hI'))))
theorem sy_fr_2 {post : SY → Prop} (hN : N ≤ 16) (hT : ∀ a b, bt (T a) b = true → a < N ∧ b < N) (hed : sc_Ed T ed) (h : ∀ rc, sc_RC T rc → post (nI N, ed, rc, hg)) : ∀ d i rc, i + d = 256 → (∀ x, x < i → rc x = if x / 16 = x % 16 then 1 else 0) → wY_findReach_2 post (nI N) (d + 1) (nI i) ed rc hg := by
  intro d
  induction d with
  | zero =>
    intro i rc hi hI
    have e : i = 256 := by omega
    subst e
    refine br_t (nI_le (a := 256) (b := 256) (by omega) (by omega)) ⟨18, sy_fr_40 hN hT hed h 17 0 1 rc rfl ⟨?_, ?_, ?_, fun z => absurd z sc_10⟩⟩
    · intro x hx
      rw [hI x hx]
      by_cases e : x / 16 = x % 16
      · rw [if_pos e]; exact Or.inr rfl
      · rw [if_neg e]; exact Or.inl rfl
    · intro a b ha hb hr
      rw [hI _ (by omega)] at hr
      by_cases e : (16 * a + b) / 16 = (16 * a + b) % 16
      · have : a = b := by omega
        subst this
        exact sc_R_refl _
      · rw [if_neg e] at hr
        exact absurd hr sc_01
    · intro j a b hj ha hb hp
      have : j = 0 := by omega
      subst this
      have e : a = b := hp
      subst e
      rw [hI _ (by omega), if_pos (by omega)]
  | succ d ih =>
    intro i rc hi hI
    have c1 : (nI i).toNatClampNeg = i := sc_cl (by omega)
    have ne : nI i >>> ((4 : Int32) &&& 31) = nI i &&& 15 ↔ i / 16 = i % 16 := by
      rw [sc_hi (by omega), sc_lo (by omega), nI_eq (by omega) (by omega)]
    have put : ∀ v : Int32, (v = if i / 16 = i % 16 then 1 else 0) → ∀ x, x < i + 1 → upd rc i v x = if x / 16 = x % 16 then 1 else 0 := by
      intro v hv x hx
      by_cases e : x = i
      · subst e
        rw [pk_us, hv]
      · rw [pk_un e]
        exact hI x (by omega)
    refine br_f (nI_ge (b := 256) (by omega) (by omega)) (br_c (fun z => And.intro (sc_vin (by omega) (by omega)) (nm_r (e' := upd rc i 1) (by rw [c1]; rfl) (nm_r (nI_1 i) (ih (i + 1) _ (by omega) (put 1 ?_))))) (fun z => And.intro (sc_vin (by omega) (by omega)) (nm_r (e' := upd rc i 0) (by rw [c1]; rfl) (nm_r (nI_1 i) (ih (i + 1) _ (by omega) (put 0 ?_))))))
    · rw [if_pos (ne.mp z)]
    · rw [if_neg (fun w => z (ne.mpr w))]
theorem sy_fr {post : SY → Prop} (hN : N ≤ 16) (hT : ∀ a b, bt (T a) b = true → a < N ∧ b < N) (hed : sc_Ed T ed) (h : ∀ rc, sc_RC T rc → post (nI N, ed, rc, hg)) : wpY_findReach post (nI N, ed, rc, hg) :=
  ⟨257, sy_fr_2 hN hT hed h 256 0 rc rfl (fun x hx => by omega)⟩
theorem sy_tog {post : Int32 → Prop} (hRC : sc_RC T rc) {a b : Nat} (ha : a < 16) (hb : b < 16) (f : sc_Q (sc_E T) a b → post 1) (g : ¬ sc_Q (sc_E T) a b → post 0) : wpY_together post (nI N, ed, rc, hg) (nI a) (nI b) := by
  have i2 : (16 : Int32) * nI a + nI b = nI (16 * a + b) := sc_idx _ _
  have i3 : (16 : Int32) * nI b + nI a = nI (16 * b + a) := sc_idx _ _
  unfold wpY_together
  dsimp only
  rw [i2, i3, sc_cl (by omega), sc_cl (by omega)]
  refine And.intro (sc_vin (by omega) (by omega)) (br_c (fun z => g fun q => ?_) (fun z => And.intro (sc_vin (by omega) (by omega)) (br_c (fun z' => g fun q => ?_) (fun z' => f ⟨?_, ?_⟩))))
  · rcases hRC a b ha hb with ⟨_, h⟩ | ⟨h, _⟩
    · exact h q.1
    · rw [h] at z; exact sc_10 z
  · rcases hRC b a hb ha with ⟨_, h⟩ | ⟨h, _⟩
    · exact h q.2
    · rw [h] at z'; exact sc_10 z'
  · rcases hRC a b ha hb with ⟨h, _⟩ | ⟨_, h⟩
    · exact absurd h z
    · exact h
  · rcases hRC b a hb ha with ⟨h, _⟩ | ⟨_, h⟩
    · exact absurd h z'
    · exact h
theorem sy_ldr_2 {post : Int32 → Prop} (hRC : sc_RC T rc) {a : Nat} (ha : a < 16) (h : post (nI (sc_l (sc_E T) a))) : ∀ d i, i + d = a → (∀ j, j < i → ¬ sc_Q (sc_E T) a j) → wY_leaderOf_2 post (nI a) (nI N) ed rc hg (d + 1) (nI i) := by
  intro d
  induction d with
  | zero =>
    intro i hi hj
    have e : i = a := by omega
    subst e
    have : sc_l (sc_E T) i = i := sc_l_is (sc_Q_refl _) fun x hx => by
      rcases Nat.lt_or_ge x i with z | z
      · exact absurd hx (hj x z)
      · exact z
    rw [this] at h
    exact br_t (nI_le (Nat.le_refl _) (by omega)) h
  | succ d ih =>
    intro i hi hj
    refine br_f (nI_ge (by omega) (by omega)) (sy_tog hRC ha (by omega) (fun q => br_f sc_10 ?_) (fun q => br_t rfl (nm_r (nI_1 i) (ih (i + 1) (by omega) fun j hj' => ?_))))
    · have : sc_l (sc_E T) a = i := sc_l_is q fun x hx => by
        rcases Nat.lt_or_ge x i with z | z
        · exact absurd hx (hj x z)
        · exact z
      rw [this] at h
      exact h
    · rcases Nat.lt_or_ge j i with z | z
      · exact hj j z
      · have : j = i := by omega
        subst this
        exact q
theorem sy_ldr {post : Int32 → Prop} (hRC : sc_RC T rc) {a : Nat} (ha : a < 16) (h : post (nI (sc_l (sc_E T) a))) : wpY_leaderOf post (nI N, ed, rc, hg) (nI a) :=
  ⟨a + 1, sy_ldr_2 hRC ha h a 0 (by omega) (fun j hj => by omega)⟩
theorem sy_com_8 {post : Int32 → SY → Prop} (hN : N ≤ 16) (hRC : sc_RC T rc) (h : post (nI (sc_cn (fun u => decide (sc_l (sc_E T) u = u)) N)) (nI N, ed, rc, hg)) : ∀ d i, i + d = N → wY_components_8 post (nI N) ed rc hg (d + 1) (nI (sc_cn (fun u => decide (sc_l (sc_E T) u = u)) i)) (nI i) := by
  intro d
  induction d with
  | zero =>
    intro i hi
    have e : i = N := by omega
    subst e
    exact br_t (nI_le (Nat.le_refl _) (by omega)) h
  | succ d ih =>
    intro i hi
    have hl := sc_l_le (F := sc_E T) i
    have nx : ∀ b : Bool, decide (sc_l (sc_E T) i = i) = b → sc_cn (fun u => decide (sc_l (sc_E T) u = u)) (i + 1) = sc_cn (fun u => decide (sc_l (sc_E T) u = u)) i + b.toNat := by
      intro b hb
      show _ + (decide (sc_l (sc_E T) i = i)).toNat = _
      rw [hb]
    refine br_f (nI_ge (by omega) (by omega)) (sy_ldr hRC (by omega) (br_c (fun z => nm_r (nI_1 _) (nm_r (nI_1 i) ?_)) (fun z => nm_r (nI_1 i) ?_)))
    · rw [nI_eq (by omega) (by omega)] at z
      have := ih (i + 1) (by omega)
      rw [nx true (decide_eq_true z)] at this
      exact this
    · rw [nI_eq (by omega) (by omega)] at z
      have := ih (i + 1) (by omega)
      rw [nx false (decide_eq_false z)] at this
      exact this
theorem sy_com {post : Int32 → SY → Prop} (hN : N ≤ 16) (hT : ∀ a b, bt (T a) b = true → a < N ∧ b < N) (hed : sc_Ed T ed) (h : ∀ rc, sc_RC T rc → post (nI (sc_cn (fun u => decide (sc_l (sc_E T) u = u)) N)) (nI N, ed, rc, hg)) : wpY_components post (nI N, ed, rc, hg) :=
  sy_fr (post := fun u => match u with | (a, b, c, d) => ∃ n8 : Nat, wY_components_8 post a b c d n8 0 0) hN hT hed fun rc hRC => ⟨N + 1, sy_com_8 hN hRC (h rc hRC) N 0 (by omega)⟩
end
end
section
/-! the relation; the component's answers -/
def sc_Inv (N : Nat) (ln : List Nat) (T S LD M PL LN ed : Nat → Int32) : Prop :=
  2 ≤ N ∧ N ≤ 16 ∧ (∀ a b, bt (T a) b = true → a < N ∧ b < N) ∧ (∀ a b, bt (S b) a = bt (T a) b) ∧ sc_Ed T ed ∧
  sc_Lay N (sc_l (sc_E T)) LD M ∧ sc_Lin N (sc_l (sc_E T)) ln PL LN ∧ sc_Top (sc_E T) (sc_l (sc_E T)) ln
/-- both hold one graph; the component's leaders are its strong components' least vertices, its line lists them in order -/
def i_Rel (_ : Nat) (u : SX) (v : SY) : Prop :=
  ∃ (N : Nat) (ln : List Nat) (fn : Int32) (T S LD M PL LN NL HT PC ed rc hg : Nat → Int32), sc_Inv N ln T S LD M PL LN ed ∧ u = (nI N, nI ln.length, fn, T, S, LD, M, PL, LN, NL, HT, PC) ∧ v = (nI N, ed, rc, hg)
theorem i_up {k : Nat} {u : SX} {v : SY} (h : i_Rel k u v) : i_Rel (k + 3) u v := h
theorem sc_el {k : Nat} {u : SX} {v : SY} {P : SX → SY → Prop} (h : ∀ (N : Nat) (ln : List Nat) (fn : Int32) (T S LD M PL LN NL HT PC ed rc hg : Nat → Int32), sc_Inv N ln T S LD M PL LN ed → P (nI N, nI ln.length, fn, T, S, LD, M, PL, LN, NL, HT, PC) (nI N, ed, rc, hg)) (I : i_Rel k u v) : P u v := by
  obtain ⟨N, ln, fn, T, S, LD, M, PL, LN, NL, HT, PC, ed, rc, hg, hI, rfl, rfl⟩ := I
  exact h N ln fn T S LD M PL LN NL HT PC ed rc hg hI
theorem sc_mk {k N : Nat} {ln : List Nat} {fn : Int32} {T S LD M PL LN NL HT PC ed rc hg : Nat → Int32} (h : sc_Inv N ln T S LD M PL LN ed) : i_Rel k (nI N, nI ln.length, fn, T, S, LD, M, PL, LN, NL, HT, PC) (nI N, ed, rc, hg) :=
  ⟨N, ln, fn, T, S, LD, M, PL, LN, NL, HT, PC, ed, rc, hg, h, rfl, rfl⟩
theorem sc_Slt {N : Nat} {T S : Nat → Int32} (hT : ∀ a b, bt (T a) b = true → a < N ∧ b < N) (hS : ∀ a b, bt (S b) a = bt (T a) b) : ∀ a b, bt (S a) b = true → a < N ∧ b < N := fun a b h => by
  rw [hS] at h
  exact ⟨(hT b a h).2, (hT b a h).1⟩
theorem sc_fwd_c {E : Nat → Nat → Prop} {N : Nat} {T : Nat → Int32} {l : Nat → Nat} {ln : List Nat} {r : Int32} {f last : Nat} (hsub : ∀ x y, E x y → bt (T x) y = true) (hE : ∀ a b, E a b → a < N ∧ b < N) (hl : ∀ a, a < N → l a ∈ ln) (t : sc_Top E l ln) (hfN : f < N) (hff : l f = f) (hb : bt r f = true) (hc : ∀ c, bt r c = true → ln.idxOf f ≤ ln.idxOf c → ln.idxOf c ≤ last → ∀ x y, bt (T x) y = true → l x = c → bt r (l y) = true) {y : Nat} (h : sc_R E f y) (hy : ln.idxOf (l y) ≤ last) : bt r (l y) = true := by
  refine sc_R_ind (F := E) (M := fun y => ln.idxOf (l y) ≤ last → bt r (l y) = true) (fun _ => by rw [hff]; exact hb) (fun w v hw ih hE' hv => ?_) h hy
  have hwv := hE w v hE'
  have m := sc_top t (hl w hwv.1) (hl v hwv.2) hE'
  have m2 := sc_topR hE hl t hfN hw
  rw [hff] at m2
  exact hc (l w) (ih (by omega)) m2 (by omega) w v (hsub w v hE') rfl
def sc_J (E : Nat → Nat → Prop) (l : Nat → Nat) (a b : Nat) : Prop := ∃ x y, E x y ∧ l x = a ∧ l y = b
def sc_D (E : Nat → Nat → Prop) (l : Nat → Nat) : Nat → Nat → Prop
  | 0 => fun _ => True
  | k + 1 => fun v => ∃ x y, sc_D E l k x ∧ E x y ∧ l x ≠ l y ∧ l y = l v
def sc_H (E : Nat → Nat → Prop) (l : Nat → Nat) (N : Nat) (h : Nat → Nat) : Prop :=
  (∀ a b, a < N → b < N → l a = l b → h a = h b) ∧ (∀ x y, E x y → l x ≠ l y → h x + 1 ≤ h y) ∧ (∀ v, v < N → h v = 0 ∨ ∃ x y, E x y ∧ l x ≠ l y ∧ l y = l v ∧ h v = h x + 1) ∧ (∀ v, v < N → h v ≤ 15)
theorem sc_grt {P : Nat → Prop} (h0 : P 0) {B : Nat} (hB : ∀ k, P k → k ≤ B) : ∃ k, P k ∧ ∀ j, P j → j ≤ k := by
  obtain ⟨d, ⟨k, hk, e⟩, hmin⟩ := pk_least (fun d => ∃ k, P k ∧ k + d = B) ⟨B, 0, h0, by omega⟩
  refine ⟨k, hk, fun j hj => ?_⟩
  rcases Nat.lt_or_ge k j with z | z
  · have := hB j hj
    exact absurd ⟨j, hj, by omega⟩ (hmin (B - j) (by omega))
  · exact z
section
variable {E : Nat → Nat → Prop} {N : Nat} {l : Nat → Nat} {ln : List Nat}
theorem sc_D_le (hE : ∀ a b, E a b → a < N ∧ b < N) (hl : ∀ a, a < N → l a ∈ ln) (t : sc_Top E l ln) : ∀ k v, v < N → sc_D E l k v → k ≤ ln.idxOf (l v) := by
  intro k
  induction k with
  | zero => intro v _ _; omega
  | succ k ih =>
    intro v hv ⟨x, y, hx, hxy, hne, hyv⟩
    have hb := hE x y hxy
    have a := ih x hb.1 hx
    have b := sc_top t (hl x hb.1) (hl y hb.2) hxy
    have c : ln.idxOf (l x) ≠ ln.idxOf (l y) := fun e => hne (sc_ixI (hl x hb.1) (hl y hb.2) e)
    rw [← hyv]
    omega
theorem sc_H_ex (hN : N ≤ 16) (hlen : ln.length ≤ N) (hE : ∀ a b, E a b → a < N ∧ b < N) (hl : ∀ a, a < N → l a ∈ ln) (t : sc_Top E l ln) : ∃ h, sc_H E l N h := by
  have ch : ∀ v : Nat, ∃ k : Nat, v < N → sc_D E l k v ∧ ∀ j, sc_D E l j v → j ≤ k := by
    intro v
    by_cases hv : v < N
    · obtain ⟨k, hk⟩ := sc_grt (P := fun k => sc_D E l k v) True.intro (fun k hk => sc_D_le hE hl t k v hv hk)
      exact ⟨k, fun _ => hk⟩
    · exact ⟨0, fun z => absurd z hv⟩
  obtain ⟨h, hh⟩ := Classical.axiomOfChoice ch
  have hh : ∀ v, v < N → sc_D E l (h v) v ∧ ∀ j, sc_D E l j v → j ≤ h v := hh
  have co : ∀ a b, l a = l b → ∀ k, sc_D E l k a → sc_D E l k b := by
    intro a b e k
    cases k with
    | zero => exact id
    | succ k => exact fun ⟨x, y, h1, h2, h3, h4⟩ => ⟨x, y, h1, h2, h3, h4.trans e⟩
  have up : ∀ x y, E x y → l x ≠ l y → h x + 1 ≤ h y := by
    intro x y hxy hne
    have hb := hE x y hxy
    exact (hh y hb.2).2 (h x + 1) ⟨x, y, (hh x hb.1).1, hxy, hne, rfl⟩
  refine ⟨h, ?_, up, ?_, ?_⟩
  · intro a b ha hb e
    have x := (hh b hb).2 _ (co a b e _ (hh a ha).1)
    have y := (hh a ha).2 _ (co b a e.symm _ (hh b hb).1)
    omega
  · intro v hv
    cases e : h v with
    | zero => exact Or.inl rfl
    | succ k =>
      have d := (hh v hv).1
      rw [e] at d
      obtain ⟨x, y, h1, h2, h3, h4⟩ := d
      have hb := hE x y h2
      refine Or.inr ⟨x, y, h2, h3, h4, ?_⟩
      have a := (hh x hb.1).2 k h1
      have b := up x y h2 h3
      have c := (hh v hv).2 (h x + 1) ⟨x, y, (hh x hb.1).1, h2, h3, h4⟩
      omega
  · intro v hv
    have a := sc_D_le hE hl t (h v) v hv (hh v hv).1
    have b := (sc_ix (hl v hv)).2
    omega
/-- consecutive components joined: any two vertices are comparable, and conversely -/
theorem sc_line1 (dn : ln.Nodup) (hE : ∀ a b, E a b → a < N ∧ b < N) (hl : ∀ a, a < N → l a ∈ ln) (heq : ∀ a b, a < N → b < N → l a = l b → sc_Q E a b) (h : ∀ i a b, ln[i]? = some a → ln[i + 1]? = some b → sc_J E l a b) : ∀ a b, a < N → b < N → sc_R E a b ∨ sc_R E b a := by
  have key : ∀ d a b, a < N → b < N → ln.idxOf (l a) + d = ln.idxOf (l b) → sc_R E a b := by
    intro d
    induction d with
    | zero =>
      intro a b ha hb e
      exact (heq a b ha hb (sc_ixI (hl a ha) (hl b hb) e)).1
    | succ d ih =>
      intro a b ha hb e
      have ib := sc_ix (hl b hb)
      have ia := sc_ix (hl a ha)
      obtain ⟨c, hc⟩ := sc_get (ln := ln) (i := ln.idxOf (l a) + 1) (by omega)
      obtain ⟨x, y, h1, h2, h3⟩ := h _ _ _ ia.1 hc
      have hxy := hE x y h1
      have hyi : ln.idxOf (l y) + d = ln.idxOf (l b) := by
        rw [h3, (sc_at dn hc).1]
        omega
      exact sc_R_trans (heq a x ha hxy.1 h2.symm).1 (sc_R_head h1 (ih y b hxy.2 hb hyi))
  intro a b ha hb
  rcases Nat.lt_or_ge (ln.idxOf (l a)) (ln.idxOf (l b)) with z | z
  · exact Or.inl (key (ln.idxOf (l b) - ln.idxOf (l a)) a b ha hb (by omega))
  · exact Or.inr (key (ln.idxOf (l a) - ln.idxOf (l b)) b a hb ha (by omega))
theorem sc_line2 (dn : ln.Nodup) (hm : ∀ c, c ∈ ln ↔ c < N ∧ l c = c) (hE : ∀ a b, E a b → a < N ∧ b < N) (hl : ∀ a, a < N → l a ∈ ln) (t : sc_Top E l ln) (h : ∀ a b, a < N → b < N → sc_R E a b ∨ sc_R E b a) {i a b : Nat} (ha : ln[i]? = some a) (hb : ln[i + 1]? = some b) : sc_J E l a b := by
  have ia := sc_at dn ha
  have ib := sc_at dn hb
  have ma := (hm a).mp ia.2.2
  have mb := (hm b).mp ib.2.2
  rcases h a b ma.1 mb.1 with hR | hR
  · have key : ln.idxOf (l b) ≤ i + 1 → ln.idxOf (l b) = i ∨ sc_J E l a b := by
      refine sc_R_ind (F := E) (M := fun y => ln.idxOf (l y) ≤ i + 1 → ln.idxOf (l y) = i ∨ sc_J E l a b) (fun _ => Or.inl (by rw [ma.2]; exact ia.1)) (fun w v _ hw hE' hv => ?_) hR
      have hwv := hE w v hE'
      have m := sc_top t (hl w hwv.1) (hl v hwv.2) hE'
      rcases hw (by omega) with z | z
      · by_cases e : ln.idxOf (l v) = i
        · exact Or.inl e
        · refine Or.inr ⟨w, v, hE', ?_, ?_⟩
          · exact sc_ixI (hl w hwv.1) ia.2.2 (by rw [z, ia.1])
          · exact sc_ixI (hl v hwv.2) ib.2.2 (by rw [ib.1]; omega)
      · exact Or.inr z
    rw [mb.2, ib.1] at key
    exact (key (Nat.le_refl _)).resolve_left (by omega)
  · have := sc_topR hE hl t mb.1 hR
    rw [mb.2, ma.2, ib.1, ia.1] at this
    omega
end
section
variable {N : Nat} {fn : Int32} {T S LD M PL LN NL HT PC ed : Nat → Int32} {ln : List Nat}
theorem sx_rea {post : Int32 → Prop} (I : sc_Inv N ln T S LD M PL LN ed) {a b : Nat} (ha : a < N) (hb : b < N) (f : sc_R (sc_E T) a b → post 1) (g : ¬ sc_R (sc_E T) a b → post 0) : wpX_reaches post (nI N, nI ln.length, fn, T, S, LD, M, PL, LN, NL, HT, PC) (nI a) (nI b) := by
  obtain ⟨hN2, hN, hT, hS, hed, hY, hL, hTop⟩ := I
  have hl : ∀ a, a < N → sc_l (sc_E T) a ∈ ln := fun a z => sc_mem hL.2.1 (fun a z => ⟨(hY.1 a z).1, (hY.1 a z).2.1⟩) z
  have hlen := sc_lnN hL.1 hL.2.1
  have la := (hY.1 a ha).1
  have lb := (hY.1 b hb).1
  have eA : LD (nI a).toNatClampNeg = nI (sc_l (sc_E T) a) := by rw [sc_cl (by omega)]; exact (hY.1 a ha).2.2
  have eB : LD (nI b).toNatClampNeg = nI (sc_l (sc_E T) b) := by rw [sc_cl (by omega)]; exact (hY.1 b hb).2.2
  have iA := sc_ix (hl a ha)
  have iB := sc_ix (hl b hb)
  have pA : PL (nI (sc_l (sc_E T) a)).toNatClampNeg = nI (ln.idxOf (sc_l (sc_E T) a)) := by rw [sc_cl (by omega)]; exact (hL.2.2 _ _ iA.1).2
  have pB : PL (nI (sc_l (sc_E T) b)).toNatClampNeg = nI (ln.idxOf (sc_l (sc_E T) b)) := by rw [sc_cl (by omega)]; exact (hL.2.2 _ _ iB.1).2
  have qa := sc_l_Q (F := sc_E T) a
  have qb := sc_l_Q (F := sc_E T) b
  unfold wpX_reaches
  dsimp only
  refine sx_isV1 hN ha (br_f sc_10 ?_)
  refine sx_isV1 hN hb (br_f sc_10 ?_)
  refine And.intro (sc_vin (by omega) (by omega)) (nm_r eA (And.intro (sc_vin (by omega) (by omega)) (nm_r eB (And.intro (sc_vin (by omega) (by omega)) (And.intro (sc_vin (by omega) (by omega)) ?_)))))
  rw [pA, pB]
  refine pk_le _ _ (fun z => And.intro (sc_vin (by omega) (by omega)) (sx_fwd hN hT hY hL (hl a ha) iB.2 z (fun x y h => Or.inl (sc_top hTop (hl x (hT x y h).1) (hl y (hT x y h).2) h)) (fun a _ => sc_l_Q a) fun r h1 h2 h3 => sc_br _ (by omega) (fun z0 => g fun hR => ?_) (fun z1 => f ?_))) (fun z => g fun hR => ?_)
  · have hR2 : sc_R (sc_E T) (sc_l (sc_E T) a) (sc_l (sc_E T) b) := sc_R_trans qa.2 (sc_R_trans hR qb.1)
    have := sc_fwd_c (E := sc_E T) (T := T) (fun _ _ h => h) hT hl hTop la (sc_l_ll a) h2 h3 hR2 (by rw [sc_l_ll]; exact Nat.le_refl _)
    rw [sc_l_ll, z0] at this
    cases this
  · exact sc_R_trans qa.1 (sc_R_trans (h1 _ z1).2 qb.2)
  · have := sc_topR hT hl hTop ha hR
    omega
theorem sx_hei_54 {fl : Int32} {post : Int32 → SX → Prop} {J12 : Int32 → (Nat → Int32) → (Nat → Int32) → (Nat → Int32) → (Nat → Int32) → (Nat → Int32) → (Nat → Int32) → (Nat → Int32) → (Nat → Int32) → (Nat → Int32) → Prop} {x1 bf : Int32} {i c : Nat} {l h : Nat → Nat} (hN : N ≤ 16) (hc : c < 16) (hl : ∀ a, a < N → l a < N ∧ LD a = nI (l a)) (hh : ∀ w, w < N → bt bf w = true → HT (l w) = nI (h w) ∧ h w < 16)
    (hJ : ∀ m, (∀ w, w < N → bt bf w = true → h w + 1 ≤ m) → (m = 0 ∨ ∃ w, w < N ∧ bt bf w = true ∧ m = h w + 1) → J12 (nI (i + 1)) T S LD M PL LN NL (upd HT c (nI m)) PC) : ∀ d w m, w + d = N → m ≤ 16 → (∀ x, x < w → bt bf x = true → h x + 1 ≤ m) → (m = 0 ∨ ∃ x, x < N ∧ bt bf x = true ∧ m = h x + 1) → wX_height_54 post J12 x1 (nI i) (nI c) bf (nI N) fl fn T S LD M PL LN NL HT PC (d + 1) (nI m) (nI w) := by
  intro d
  induction d with
  | zero =>
    intro w m hw hm h1 h2
    have e : w = N := by omega
    subst e
    exact br_t (nI_le (Nat.le_refl _) (by omega)) (And.intro (sc_vin (by omega) (by omega)) (nm_r (e' := upd HT c (nI m)) (by rw [sc_cl (by omega), sc_nb (by omega)]) (nm_r (nI_1 i) (hJ m h1 h2))))
  | succ d ih =>
    intro w m hw hm h1 h2
    have lw := hl w (by omega)
    have eL : LD (nI w).toNatClampNeg = nI (l w) := by rw [sc_cl (by omega)]; exact lw.2
    refine br_f (nI_ge (by omega) (by omega)) (sc_br w (by omega) (fun hb => nm_r (nI_1 w) (ih (w + 1) m (by omega) hm ?_ h2)) (fun hb => ?_))
    · intro x hx hbx
      rcases Nat.lt_or_ge x w with z | z
      · exact h1 x z hbx
      · have : x = w := by omega
        subst this
        rw [hb] at hbx
        cases hbx
    · have hw' := hh w (by omega) hb
      have eH : HT (nI (l w)).toNatClampNeg = nI (h w) := by rw [sc_cl (by omega)]; exact hw'.1
      rw [eL, eH]
      refine And.intro (sc_vin (by omega) (by omega)) (And.intro (sc_vin (by omega) (by omega)) (pk_lt (h w) m (fun z => nm_r (nI_1 w) (ih (w + 1) m (by omega) hm ?_ h2)) (fun z => And.intro (sc_vin (by omega) (by omega)) (And.intro (sc_vin (by omega) (by omega)) (nm_r (nI_1 (h w)) (nm_r (nI_1 w) (ih (w + 1) (h w + 1) (by omega) (by omega) ?_ (Or.inr ⟨w, by omega, hb, rfl⟩))))))))
      · intro x hx hbx
        rcases Nat.lt_or_ge x w with z' | z'
        · exact h1 x z' hbx
        · have : x = w := by omega
          subst this
          omega
      · intro x hx hbx
        rcases Nat.lt_or_ge x w with z' | z'
        · have := h1 x z' hbx
          omega
        · have : x = w := by omega
          subst this
          omega
theorem sx_hei_12 {post : Int32 → SX → Prop} (I : sc_Inv N ln T S LD M PL LN ed) {h : Nat → Nat} (H : sc_H (sc_E T) (sc_l (sc_E T)) N h) {u : Nat} (hu : u < N) (hp : ∀ HT, post (nI (h u)) (nI N, nI ln.length, fn, T, S, LD, M, PL, LN, NL, HT, PC)) : ∀ d i HT, i + d = ln.length → (∀ j c, j < i → ln[j]? = some c → HT c = nI (h c)) → wX_height_12 post (nI u) (nI N) (nI ln.length) fn (d + 1) (nI i) T S LD M PL LN NL HT PC := by
  obtain ⟨hN2, hN, hT, hS, hed, hY, hL, hTop⟩ := I
  obtain ⟨H1, H2, H3, H4⟩ := H
  have hl : ∀ a, a < N → sc_l (sc_E T) a ∈ ln := fun a z => sc_mem hL.2.1 (fun a z => ⟨(hY.1 a z).1, (hY.1 a z).2.1⟩) z
  have hlen := sc_lnN hL.1 hL.2.1
  have hS2 := sc_Slt hT hS
  have hla : ∀ a, a < N → h (sc_l (sc_E T) a) = h a := fun a ha => H1 _ _ (hY.1 a ha).1 ha (sc_l_ll a)
  intro d
  induction d with
  | zero =>
    intro i HT hi hj
    have lu := (hY.1 u hu)
    have eL : LD (nI u).toNatClampNeg = nI (sc_l (sc_E T) u) := by rw [sc_cl (by omega)]; exact lu.2.2
    have iu := sc_ix (hl u hu)
    have eH : HT (nI (sc_l (sc_E T) u)).toNatClampNeg = nI (h u) := by
      rw [sc_cl (by omega), hj _ _ (by omega) iu.1, hla u hu]
    refine br_t (nI_le (by omega) (by omega)) ?_
    rw [eL, eH]
    exact And.intro (sc_vin (by omega) (by omega)) (And.intro (sc_vin (by omega) (by omega)) (hp HT))
  | succ d ih =>
    intro i HT hi hj
    obtain ⟨c, hgc⟩ := sc_get (ln := ln) (i := i) (by omega)
    have hic := sc_at hL.1 hgc
    have hcN := (hL.2.1 c).mp hic.2.2
    have e1 : LN (nI i).toNatClampNeg = nI c := by rw [sc_cl (by omega)]; exact (hL.2.2 i c hgc).1
    refine br_f (nI_ge (by omega) (by omega)) (And.intro (sc_vin (by omega) (by omega)) (nm_r e1 (And.intro (sc_vin (by omega) (by omega)) (sx_src hN fun r hr => And.intro (sc_vin (by omega) (by omega)) (nm_e ?_)))))
    rw [sc_cl (c := c) (by omega)] at hr ⊢
    have hbf : ∀ x, bt (r &&& (M c ^^^ (-1))) x = true ↔ ∃ y, sc_E T x y ∧ sc_l (sc_E T) y = c ∧ sc_l (sc_E T) x ≠ c := by
      intro x
      rw [sc_dif, hr]
      constructor
      · rintro ⟨⟨y, hy, hy1, hy2⟩, hx⟩
        rw [hS] at hy2
        refine ⟨y, hy2, ((hY.2 c hcN.1 hcN.2 y).mp hy1).2, fun e => hx ((hY.2 c hcN.1 hcN.2 x).mpr ⟨(hT x y hy2).1, e⟩)⟩
      · rintro ⟨y, h1, h2, h3⟩
        have hxy := hT x y h1
        exact ⟨⟨y, hxy.2, (hY.2 c hcN.1 hcN.2 y).mpr ⟨hxy.2, h2⟩, by rw [hS]; exact h1⟩, fun z => h3 ((hY.2 c hcN.1 hcN.2 x).mp z).2⟩
    refine ⟨N + 1, sx_hei_54 (l := sc_l (sc_E T)) (h := h) hN (by omega) (fun a z => ⟨(hY.1 a z).1, (hY.1 a z).2.2⟩) ?_ (fun m h1 h2 => ih (i + 1) _ (by omega) ?_) N 0 0 (by omega) (by omega) (fun x hx => by omega) (Or.inl rfl)⟩
    · intro w hw hb
      obtain ⟨y, h1, h2, h3⟩ := (hbf w).mp hb
      have hxy := hT w y h1
      have m := sc_top hTop (hl w hw) (hl y hxy.2) h1
      have iw := sc_ix (hl w hw)
      have hne : ln.idxOf (sc_l (sc_E T) w) ≠ i := fun e => h3 (sc_ixI (hl w hw) hic.2.2 (by rw [e, hic.1]))
      rw [h2, hic.1] at m
      refine ⟨?_, by have := H4 w hw; omega⟩
      rw [hj _ _ (by omega) iw.1, hla w hw]
    · have hm : m = h c := by
        rcases H3 c hcN.1 with z | ⟨x, y, g1, g2, g3, g4⟩
        · rcases h2 with z' | ⟨w, hw, hb, e⟩
          · omega
          · obtain ⟨y, k1, k2, k3⟩ := (hbf w).mp hb
            have a := H2 w y k1 (fun e => k3 (e.trans k2))
            have b := H1 y c (hT w y k1).2 hcN.1 (by rw [k2, hcN.2])
            omega
        · have hxy := hT x y g1
          have a := h1 x hxy.1 ((hbf x).mpr ⟨y, g1, by rw [g3, hcN.2], fun e => g2 (by rw [e, g3, hcN.2])⟩)
          rcases h2 with z' | ⟨w, hw, hb, e⟩
          · omega
          · obtain ⟨y', k1, k2, k3⟩ := (hbf w).mp hb
            have a := H2 w y' k1 (fun e => k3 (e.trans k2))
            have b := H1 y' c (hT w y' k1).2 hcN.1 (by rw [k2, hcN.2])
            omega
      intro j c' hj' hgc'
      by_cases e : c' = c
      · rw [e, pk_us, hm]
      · rw [pk_un e]
        have : j ≠ i := fun e' => e (by rw [e'] at hgc'; rw [hgc] at hgc'; exact (Option.some.inj hgc').symm)
        exact hj j c' (by omega) hgc'
theorem sx_cyc_37 {fl : Int32} {post : Int32 → Prop} {W : Int32} {u : Nat} (hN : N ≤ 16) (hT : ∀ a b, bt (T a) b = true → a < N ∧ b < N) (hu : u < N) (f : ∀ k, k < 16 → sc_S (fun a b => sc_E T a b ∧ bt W b = true) (fun b => sc_E T u b ∧ bt W b = true) k u → (∀ j, j < k → ¬ sc_S (fun a b => sc_E T a b ∧ bt W b = true) (fun b => sc_E T u b ∧ bt W b = true) j u) → post (nI (k + 1))) (g : (∀ j, ¬ sc_S (fun a b => sc_E T a b ∧ bt W b = true) (fun b => sc_E T u b ∧ bt W b = true) j u) → post (-2)) :
    ∀ d k met wav, k + d = 16 → (∀ v, bt met v = true ↔ ∃ j, j ≤ k ∧ sc_S (fun a b => sc_E T a b ∧ bt W b = true) (fun b => sc_E T u b ∧ bt W b = true) j v) → (∀ v, bt wav v = true ↔ sc_W (fun a b => sc_E T a b ∧ bt W b = true) (fun b => sc_E T u b ∧ bt W b = true) k v) → (∀ j, j < k → ¬ sc_S (fun a b => sc_E T a b ∧ bt W b = true) (fun b => sc_E T u b ∧ bt W b = true) j u) → wX_cycle_37 post (nI u) W (nI N) fl fn T S LD M PL LN NL HT PC (d + 1) wav met (nI (k + 1)) := by
  have hF : ∀ a b, (sc_E T a b ∧ bt W b = true) → b < N := fun a b h => (hT a b h.1).2
  intro d
  induction d with
  | zero =>
    intro k met wav hk hm hw hn
    have e : k = 16 := by omega
    subst e
    refine br_t (nI_lt (a := 16) (b := 17) (by omega) (by omega)) (g fun j hj => ?_)
    obtain ⟨j', h1, h2⟩ := sc_W_short (N := N) hF (fun v hv => hF u v hv) hj
    exact hn j' (by omega) h2
  | succ d ih =>
    intro k met wav hk hm hw hn
    refine br_f (nI_nlt (a := 16) (by omega) (by omega)) (br_c (fun z => g fun j hj => ?_) (fun z => sc_br u (by omega) (fun hb => sx_tgt hN fun r hr => nm_e (nm_e (nm_r (nI_1 (k + 1)) ?_))) (fun hb => ?_)))
    · obtain ⟨j', h1, h2⟩ := sc_W_end (fun v hv => sc_z.mp z v ((hw v).mpr hv)) hj
      rcases Nat.lt_or_ge j' k with z' | z'
      · exact hn j' z' h2
      · have : j' = k := by omega
        subst this
        exact sc_z.mp z u ((hw u).mpr ⟨h2, hn⟩)
    · have key : ∀ v, bt ((r &&& W) &&& (met ^^^ (-1))) v = true ↔ sc_W (fun a b => sc_E T a b ∧ bt W b = true) (fun b => sc_E T u b ∧ bt W b = true) (k + 1) v := by
        intro v
        rw [sc_dif, sc_andI, hr, hm, sc_W_succ]
        constructor
        · rintro ⟨⟨⟨u, hu, h1, h2⟩, h3⟩, h4⟩
          exact ⟨⟨u, (hw u).mp h1, h2, h3⟩, h4⟩
        · rintro ⟨⟨u, h1, h2, h3⟩, h4⟩
          exact ⟨⟨⟨u, (hT u v h2).1, (hw u).mpr h1, h2⟩, h3⟩, h4⟩
      refine ih (k + 1) _ _ (by omega) (fun v => ?_) key ?_
      · rw [sc_orI, key, hm]
        exact sc_W_met
      · intro j hj hs
        have : bt met u = true := (hm u).mpr ⟨j, by omega, hs⟩
        rw [hb] at this
        cases this
    · obtain ⟨j, h1, h2⟩ := (hm u).mp hb
      have : j = k := by
        rcases Nat.lt_or_ge j k with z' | z'
        · exact absurd h2 (hn j z')
        · omega
      subst this
      exact f j (by omega) h2 hn
end
end
section
/-! counts of edges; one line; the least closed walk -/
theorem sc_cn_ext {p : Nat → Bool} {N : Nat} : ∀ {K : Nat}, N ≤ K → (∀ i, N ≤ i → i < K → p i = false) → sc_cn p K = sc_cn p N
  | 0, h, _ => by
    have : N = 0 := by omega
    subst this
    rfl
  | K + 1, h, h' => by
    rcases Nat.lt_or_ge K N with z | z
    · have : N = K + 1 := by omega
      subst this
      rfl
    · have a := sc_cn_ext (p := p) (N := N) (K := K) z (fun i h1 h2 => h' i h1 (by omega))
      simp only [sc_cn, h' K z (by omega), a]
      rfl
theorem sc_cn_row (q : Nat → Nat → Bool) (i : Nat) : ∀ k, k ≤ 16 → sc_cn (fun x => q (x / 16) (x % 16)) (16 * i + k) = sc_cn (fun x => q (x / 16) (x % 16)) (16 * i) + sc_cn (q i) k := by
  intro k
  induction k with
  | zero => intro _; rfl
  | succ k ih =>
    intro h
    have a := ih (by omega)
    show sc_cn (fun x => q (x / 16) (x % 16)) (16 * i + k) + (q ((16 * i + k) / 16) ((16 * i + k) % 16)).toNat = _ + (sc_cn (q i) k + (q i k).toNat)
    rw [a, show (16 * i + k) / 16 = i from by omega, show (16 * i + k) % 16 = k from by omega]
    omega
/-- the answer of cycle -/
def sc_Cy (E : Nat → Nat → Prop) (u : Nat) (r : Int32) : Prop := (∃ k, r = nI (k + 1) ∧ sc_P E (k + 1) u u ∧ ∀ j, j < k → ¬ sc_P E (j + 1) u u) ∨ (r = -2 ∧ ∀ j, ¬ sc_P E (j + 1) u u)
theorem sc_Cy_u {E : Nat → Nat → Prop} {u : Nat} {r r' : Int32} (h : sc_Cy E u r) (h' : sc_Cy E u r') : r' = r := by
  rcases h with ⟨k, e, h1, h2⟩ | ⟨e, h1⟩ <;> rcases h' with ⟨k', e', h1', h2'⟩ | ⟨e', h1'⟩
  · have : k = k' := by
      rcases Nat.lt_trichotomy k k' with z | z | z
      · exact absurd h1 (h2' k z)
      · exact z
      · exact absurd h1' (h2 k' z)
    rw [e, e', this]
  · exact absurd h1 (h1' k)
  · exact absurd h1' (h1 k')
  · rw [e, e']
theorem sc_shift {F : Nat → Nat → Prop} {u : Nat} : ∀ {k v : Nat}, sc_S F (F u) k v ↔ sc_P F (k + 1) u v := by
  intro k
  induction k with
  | zero =>
    intro v
    refine ⟨fun h => ⟨u, rfl, h⟩, fun ⟨w, h1, h2⟩ => ?_⟩
    have e : u = w := h1
    subst e
    exact h2
  | succ k ih =>
    intro v
    exact ⟨fun ⟨w, h1, h2⟩ => ⟨w, ih.mp h1, h2⟩, fun ⟨w, h1, h2⟩ => ⟨w, ih.mpr h1, h2⟩⟩
theorem sc_P_in {F : Nat → Nat → Prop} {S : Nat → Prop} {u v : Nat} (hS : ∀ w, sc_R F u w → sc_R F w v → S w) : ∀ {k w : Nat}, sc_P F k u w → sc_R F w v → sc_P (fun a b => F a b ∧ S b) k u w := by
  intro k
  induction k with
  | zero => intro w h _; exact h
  | succ k ih =>
    intro w ⟨x, h1, h2⟩ hw
    exact ⟨x, ih h1 (sc_R_head h2 hw), h2, hS w (sc_R_tail ⟨k, h1⟩ h2) hw⟩
theorem sc_P_mono {F G : Nat → Nat → Prop} (hm : ∀ a b, F a b → G a b) {u : Nat} : ∀ {k v : Nat}, sc_P F k u v → sc_P G k u v := by
  intro k
  induction k with
  | zero => intro v h; exact h
  | succ k ih => intro v ⟨x, h1, h2⟩; exact ⟨x, ih h1, hm _ _ h2⟩
section
variable {N : Nat} {fn : Int32} {T S LD M PL LN NL HT PC ed : Nat → Int32} {ln : List Nat}
theorem sx_cyc {post : Int32 → Prop} (I : sc_Inv N ln T S LD M PL LN ed) {u : Nat} (hu : u < N) (h : ∀ r, sc_Cy (sc_E T) u r → post r) : wpX_cycle post (nI N, nI ln.length, fn, T, S, LD, M, PL, LN, NL, HT, PC) (nI u) := by
  obtain ⟨hN2, hN, hT, hS, hed, hY, hL, hTop⟩ := I
  have lu := hY.1 u hu
  have eL : LD (nI u).toNatClampNeg = nI (sc_l (sc_E T) u) := by rw [sc_cl (by omega)]; exact lu.2.2
  have hW : ∀ b, bt (M (sc_l (sc_E T) u)) b = true ↔ b < N ∧ sc_l (sc_E T) b = sc_l (sc_E T) u := hY.2 _ lu.1 lu.2.1
  have key : ∀ j, sc_S (fun a b => sc_E T a b ∧ bt (M (sc_l (sc_E T) u)) b = true) (fun b => sc_E T u b ∧ bt (M (sc_l (sc_E T) u)) b = true) j u ↔ sc_P (sc_E T) (j + 1) u u := by
    intro j
    rw [sc_shift (F := fun a b => sc_E T a b ∧ bt (M (sc_l (sc_E T) u)) b = true) (u := u)]
    refine ⟨fun z => sc_P_mono (fun _ _ h => h.1) z, fun z => sc_P_in (S := fun b => bt (M (sc_l (sc_E T) u)) b = true) (v := u) (fun w h1 h2 => ?_) z (sc_R_refl u)⟩
    exact (hW w).mpr ⟨sc_R_bd (fun a b h => (hT a b h).2) hu h1, sc_l_eq.mpr ⟨h2, h1⟩⟩
  unfold wpX_cycle
  dsimp only
  refine sx_isV1 hN hu (br_f sc_10 ?_)
  rw [eL, sc_cl (c := u) (by omega), sc_cl (c := sc_l (sc_E T) u) (by omega)]
  refine And.intro (sc_vin (by omega) (by omega)) (And.intro (sc_vin (by omega) (by omega)) (nm_e (And.intro (sc_vin (by omega) (by omega)) (nm_e ⟨17, sx_cyc_37 hN hT hu (fun k hk h1 h2 => h _ (Or.inl ⟨k, rfl, (key k).mp h1, fun j hj z => h2 j hj ((key j).mpr z)⟩)) (fun h1 => h _ (Or.inr ⟨rfl, fun j z => h1 j ((key j).mpr z)⟩)) 16 0 _ _ rfl (fun v => ?_) (fun v => ?_) (fun j hj => by omega)⟩))))
  · rw [sc_andI]
    refine ⟨fun z => ⟨0, Nat.le_refl _, z⟩, fun ⟨j, hj, z⟩ => ?_⟩
    have : j = 0 := by omega
    subst this
    exact z
  · rw [sc_andI]
    exact ⟨fun z => ⟨z, fun j hj => by omega⟩, fun z => z.1⟩
theorem sx_hei {post : Int32 → SX → Prop} (I : sc_Inv N ln T S LD M PL LN ed) {h : Nat → Nat} (H : sc_H (sc_E T) (sc_l (sc_E T)) N h) {u : Nat} (hu : u < N) (hp : ∀ HT, post (nI (h u)) (nI N, nI ln.length, fn, T, S, LD, M, PL, LN, NL, HT, PC)) : wpX_height post (nI N, nI ln.length, fn, T, S, LD, M, PL, LN, NL, HT, PC) (nI u) := by
  unfold wpX_height
  dsimp only
  refine sx_isV1 I.2.1 hu (br_f sc_10 ?_)
  exact ⟨ln.length + 1, sx_hei_12 I H hu hp ln.length 0 HT (by omega) (fun j c hj => by omega)⟩
theorem sx_out_4 {post : Int32 → Prop} (I : sc_Inv N ln T S LD M PL LN ed) (h : post (nI (sc_cn (fun x => bt (T (x / 16)) (x % 16) && !decide (sc_l (sc_E T) (x / 16) = sc_l (sc_E T) (x % 16))) 256))) : ∀ d i, i + d = N → wX_outerEdges_4 post (nI N) (nI ln.length) fn T S LD M PL LN NL HT PC (d + 1) (nI (sc_cn (fun x => bt (T (x / 16)) (x % 16) && !decide (sc_l (sc_E T) (x / 16) = sc_l (sc_E T) (x % 16))) (16 * i))) (nI i) := by
  obtain ⟨hN2, hN, hT, hS, hed, hY, hL, hTop⟩ := I
  intro d
  induction d with
  | zero =>
    intro i hi
    have e : i = N := by omega
    subst e
    refine br_t (nI_le (Nat.le_refl _) (by omega)) ?_
    rw [sc_cn_ext (N := 16 * i) (K := 256) (by omega)] at h
    · exact h
    · intro x h1 h2
      have : bt (T (x / 16)) (x % 16) = false := sc_fI.mpr fun z => by
        have := (hT _ _ z).1
        omega
      rw [this]
      rfl
  | succ d ih =>
    intro i hi
    have li := hY.1 i (by omega)
    have eL : LD (nI i).toNatClampNeg = nI (sc_l (sc_E T) i) := by rw [sc_cl (by omega)]; exact li.2.2
    have hW : ∀ b, bt (M (sc_l (sc_E T) i)) b = true ↔ b < N ∧ sc_l (sc_E T) b = sc_l (sc_E T) i := hY.2 _ li.1 li.2.1
    have row := sc_cn_row (fun a b => bt (T a) b && !decide (sc_l (sc_E T) a = sc_l (sc_E T) b)) i 16 (by omega)
    have e : sc_cn (bt (T i &&& (M (sc_l (sc_E T) i) ^^^ (-1)))) 16 = sc_cn (fun b => bt (T i) b && !decide (sc_l (sc_E T) i = sc_l (sc_E T) b)) 16 := by
      refine sc_cn_eq fun b hb => ?_
      have a1 := sc_dif (T i) (M (sc_l (sc_E T) i)) b
      rw [Bool.eq_iff_iff, a1, Bool.and_eq_true, hW]
      constructor
      · rintro ⟨h1, h2⟩
        refine ⟨h1, ?_⟩
        rw [decide_eq_false (fun z => h2 ⟨(hT i b h1).2, z.symm⟩)]
        rfl
      · rintro ⟨h1, h2⟩
        refine ⟨h1, fun z => ?_⟩
        rw [decide_eq_true z.2.symm] at h2
        cases h2
    refine br_f (nI_ge (by omega) (by omega)) ?_
    rw [eL, sc_cl (c := i) (by omega), sc_cl (c := sc_l (sc_E T) i) (by omega)]
    refine And.intro (sc_vin (by omega) (by omega)) (And.intro (sc_vin (by omega) (by omega)) (And.intro (sc_vin (by omega) (by omega)) (sx_bits (nm_r (nI_add _ _) (nm_r (nI_1 i) ?_)))))
    have := ih (i + 1) (by omega)
    rw [show 16 * (i + 1) = 16 * i + 16 from by omega, row, ← e] at this
    exact this
theorem sx_out {post : Int32 → Prop} (I : sc_Inv N ln T S LD M PL LN ed) (h : post (nI (sc_cn (fun x => bt (T (x / 16)) (x % 16) && !decide (sc_l (sc_E T) (x / 16) = sc_l (sc_E T) (x % 16))) 256))) : wpX_outerEdges post (nI N, nI ln.length, fn, T, S, LD, M, PL, LN, NL, HT, PC) :=
  ⟨N + 1, sx_out_4 I h N 0 (by omega)⟩
theorem sx_inl_2 {post : Int32 → Prop} (I : sc_Inv N ln T S LD M PL LN ed) (f : (∀ i a b, ln[i]? = some a → ln[i + 1]? = some b → sc_J (sc_E T) (sc_l (sc_E T)) a b) → post 1) (g : ∀ i a b, ln[i]? = some a → ln[i + 1]? = some b → ¬ sc_J (sc_E T) (sc_l (sc_E T)) a b → post 0) : ∀ d i, i + d + 1 = ln.length → (∀ j a b, j < i → ln[j]? = some a → ln[j + 1]? = some b → sc_J (sc_E T) (sc_l (sc_E T)) a b) → wX_inOneLine_2 post (nI N) (nI ln.length) fn T S LD M PL LN NL HT PC (d + 1) (nI i) := by
  obtain ⟨hN2, hN, hT, hS, hed, hY, hL, hTop⟩ := I
  have hlen := sc_lnN hL.1 hL.2.1
  intro d
  induction d with
  | zero =>
    intro i hi hj
    rw [wX_inOneLine_2]
    dsimp only
    rw [nI_1 i]
    refine br_t (nI_le (by omega) (by omega)) (f fun j a b h1 h2 => hj j a b ?_ h1 h2)
    have := (sc_at hL.1 h2).2.1
    omega
  | succ d ih =>
    intro i hi hj
    obtain ⟨a, ha⟩ := sc_get (ln := ln) (i := i) (by omega)
    obtain ⟨b, hb⟩ := sc_get (ln := ln) (i := i + 1) (by omega)
    have ma := (hL.2.1 a).mp (sc_at hL.1 ha).2.2
    have mb := (hL.2.1 b).mp (sc_at hL.1 hb).2.2
    have ea : LN (nI i).toNatClampNeg = nI a := by rw [sc_cl (by omega)]; exact (hL.2.2 i a ha).1
    have eb : LN (nI (i + 1)).toNatClampNeg = nI b := by rw [sc_cl (by omega)]; exact (hL.2.2 (i + 1) b hb).1
    rw [wX_inOneLine_2]
    dsimp only
    rw [nI_1 i, ea]
    refine br_f (nI_ge (by omega) (by omega)) (And.intro (sc_vin (by omega) (by omega)) (nm_r eb (And.intro (sc_vin (by omega) (by omega)) (And.intro (sc_vin (by omega) (by omega)) (sx_tgt hN fun r hr => And.intro (sc_vin (by omega) (by omega)) ?_)))))
    rw [sc_cl (c := a) (by omega)] at hr
    rw [sc_cl (c := b) (by omega)]
    have key : (∃ v, bt (r &&& M b) v = true) ↔ sc_J (sc_E T) (sc_l (sc_E T)) a b := by
      constructor
      · rintro ⟨v, hv⟩
        rw [sc_andI, hr] at hv
        obtain ⟨⟨x, hx, h1, h2⟩, h3⟩ := hv
        exact ⟨x, v, h2, ((hY.2 a ma.1 ma.2 x).mp h1).2, ((hY.2 b mb.1 mb.2 v).mp h3).2⟩
      · rintro ⟨x, y, h1, h2, h3⟩
        have hxy := hT x y h1
        refine ⟨y, ?_⟩
        rw [sc_andI, hr]
        exact ⟨⟨x, hxy.1, (hY.2 a ma.1 ma.2 x).mpr ⟨hxy.1, h2⟩, h1⟩, (hY.2 b mb.1 mb.2 y).mpr ⟨hxy.2, h3⟩⟩
    refine br_c (fun z => g i a b ha hb fun J => ?_) (fun z => nm_r rfl (ih (i + 1) (by omega) ?_))
    · obtain ⟨v, hv⟩ := key.mpr J
      exact sc_z.mp z v hv
    · intro j a' b' hj' h1 h2
      rcases Nat.lt_or_ge j i with z' | z'
      · exact hj j a' b' z' h1 h2
      · have : j = i := by omega
        subst this
        rw [ha] at h1
        rw [hb] at h2
        cases h1
        cases h2
        exact key.mp (sc_nz.mp z)
theorem sx_inl {post : Int32 → Prop} (I : sc_Inv N ln T S LD M PL LN ed) (f : (∀ a b, a < N → b < N → sc_R (sc_E T) a b ∨ sc_R (sc_E T) b a) → post 1) (g : (¬ ∀ a b, a < N → b < N → sc_R (sc_E T) a b ∨ sc_R (sc_E T) b a) → post 0) : wpX_inOneLine post (nI N, nI ln.length, fn, T, S, LD, M, PL, LN, NL, HT, PC) := by
  have I' := I
  obtain ⟨hN2, hN, hT, hS, hed, hY, hL, hTop⟩ := I'
  have hl : ∀ a, a < N → sc_l (sc_E T) a ∈ ln := fun a z => sc_mem hL.2.1 (fun a z => ⟨(hY.1 a z).1, (hY.1 a z).2.1⟩) z
  have hpos : 0 < ln.length := by
    have := (sc_ix (hl 0 (by omega))).2
    omega
  exact ⟨ln.length - 1 + 1, sx_inl_2 I (fun h => f (sc_line1 hL.1 hT hl (fun a b _ _ e => sc_l_eq.mp e) h)) (fun i a b ha hb hJ => g fun h => hJ (sc_line2 hL.1 hL.2.1 hT hl hTop h ha hb)) (ln.length - 1) 0 (by omega) (fun j a b hj => by omega)⟩
end
end
section
/-! the reference's answers -/
def sc_un (kv : Nat → Nat) (v m : Nat) : Nat → Nat := fun x => if x = v then m else kv x
def sc_RI (T : Nat → Int32) (N : Nat) (h kv0 : Nat → Nat) (u v : Nat) (g : Int32) (kv : Nat → Nat) : Prop :=
  (∀ x, x < N → kv x ≤ h x) ∧ (∀ x, x < N → kv0 x ≤ kv x) ∧ ((g = 0 ∧ ∀ x, x < N → kv x = kv0 x) ∨ g = 1) ∧
  (∀ a b, (a < u ∧ b < N ∨ a = u ∧ b < v) → (sc_Q (sc_E T) a b → kv0 a ≤ kv b) ∧ (sc_E T a b → ¬ sc_Q (sc_E T) a b → kv0 a + 1 ≤ kv b))
def sc_HI (T : Nat → Int32) (N : Nat) (h : Nat → Nat) (r : Nat) (g : Int32) (kv : Nat → Nat) : Prop :=
  (∀ x, x < N → kv x ≤ h x) ∧ (∀ v, v < N → 2 * h v ≤ r → h v ≤ kv v) ∧ (∀ x w, sc_E T x w → ¬ sc_Q (sc_E T) x w → h w = h x + 1 → 2 * h x + 1 ≤ r → h w ≤ kv w) ∧ (g = 0 → ∀ x, x < N → h x ≤ kv x)
section
variable {N : Nat} {T ed rc hg : Nat → Int32} {h kv kv0 : Nat → Nat}
theorem sc_RI_eq {u v : Nat} {g : Int32} (hu : u < N) (I : sc_RI T N h kv0 u v g kv) (q : sc_Q (sc_E T) u v → kv u ≤ kv v) (e : sc_E T u v → ¬ sc_Q (sc_E T) u v → kv u + 1 ≤ kv v) : sc_RI T N h kv0 u (v + 1) g kv := by
  obtain ⟨a1, a2, a3, a4⟩ := I
  refine ⟨a1, a2, a3, fun a b hab => ?_⟩
  rcases hab with z | ⟨rfl, z⟩
  · exact a4 a b (Or.inl z)
  · rcases Nat.lt_or_ge b v with z' | z'
    · exact a4 a b (Or.inr ⟨rfl, z'⟩)
    · have : b = v := by omega
      subst this
      have := a2 a hu
      exact ⟨fun w => by have := q w; omega, fun w w' => by have := e w w'; omega⟩
theorem sc_RI_st {u v m : Nat} {g : Int32} (hu : u < N) (hv : v < N) (I : sc_RI T N h kv0 u v g kv) (h1 : kv v ≤ m) (h2 : m ≤ h v) (q : sc_Q (sc_E T) u v → kv u ≤ m) (e : sc_E T u v → ¬ sc_Q (sc_E T) u v → kv u + 1 ≤ m) : sc_RI T N h kv0 u (v + 1) 1 (sc_un kv v m) := by
  obtain ⟨a1, a2, a3, a4⟩ := I
  have up : ∀ x, kv x ≤ sc_un kv v m x := by
    intro x
    unfold sc_un
    by_cases e : x = v
    · rw [if_pos e, e]; exact h1
    · rw [if_neg e]; exact Nat.le_refl _
  have at' : sc_un kv v m v = m := if_pos rfl
  refine ⟨?_, fun x hx => Nat.le_trans (a2 x hx) (up x), Or.inr rfl, fun a b hab => ?_⟩
  · intro x hx
    unfold sc_un
    by_cases e : x = v
    · rw [if_pos e, e]; exact h2
    · rw [if_neg e]; exact a1 x hx
  · have old : (a < u ∧ b < N ∨ a = u ∧ b < v) → (sc_Q (sc_E T) a b → kv0 a ≤ sc_un kv v m b) ∧ (sc_E T a b → ¬ sc_Q (sc_E T) a b → kv0 a + 1 ≤ sc_un kv v m b) := fun z => ⟨fun w => Nat.le_trans ((a4 a b z).1 w) (up b), fun w w' => Nat.le_trans ((a4 a b z).2 w w') (up b)⟩
    rcases hab with z | ⟨rfl, z⟩
    · exact old (Or.inl z)
    · rcases Nat.lt_or_ge b v with z' | z'
      · exact old (Or.inr ⟨rfl, z'⟩)
      · have : b = v := by omega
        subst this
        rw [at']
        have := a2 a hu
        exact ⟨fun w => by have := q w; omega, fun w w' => by have := e w w'; omega⟩
theorem sc_RI_nx {u : Nat} {g : Int32} (I : sc_RI T N h kv0 u N g kv) : sc_RI T N h kv0 (u + 1) 0 g kv := by
  obtain ⟨a1, a2, a3, a4⟩ := I
  refine ⟨a1, a2, a3, fun a b hab => a4 a b ?_⟩
  omega
theorem sc_un_hg {v m : Nat} (hk : ∀ x, x < N → hg x = nI (kv x)) : ∀ x, x < N → upd hg v (nI m) x = nI (sc_un kv v m x) := by
  intro x hx
  unfold sc_un
  by_cases e : x = v
  · rw [e, pk_us, if_pos rfl]
  · rw [pk_un e, if_neg e]; exact hk x hx
theorem sy_rai_104 {post : Int32 → SY → Prop} {J4 J14 : Int32 → Int32 → (Nat → Int32) → (Nat → Int32) → (Nat → Int32) → Prop} {x1 x2 : Int32} {v m k : Nat} (hv : v < 16) (hk : hg v = nI k) (hk16 : k < 64) (hm : m < 64) (f : m ≤ k → J14 x1 (nI (v + 1)) ed rc hg) (g : k < m → J14 1 (nI (v + 1)) ed rc (upd hg v (nI m))) : wY_raise_104 post J4 J14 x1 x2 (nI v) (nI m) (nI N) ed rc hg := by
  unfold wY_raise_104
  rw [sc_cl (c := v) (by omega), hk]
  exact And.intro (sc_vin hv (by omega)) (pk_le m k (fun z => nm_r (nI_1 v) (f z)) (fun z => And.intro (sc_vin hv (by omega)) (nm_e (nm_r (nI_1 v) (g z)))))
theorem sy_rai_58 {post : Int32 → SY → Prop} {J4 J14 : Int32 → Int32 → (Nat → Int32) → (Nat → Int32) → (Nat → Int32) → Prop} {x1 : Int32} {u v m k : Nat} (hed : sc_Ed T ed) (hRC : sc_RC T rc) (hu : u < 16) (hv : v < 16) (hk : hg u = nI k) (hk16 : k < 16) (hm : m < 16)
    (K : ∀ m', m ≤ m' → m' < 64 → (m' = m ∨ (sc_E T u v ∧ ¬ sc_Q (sc_E T) u v ∧ m' = k + 1)) → (sc_E T u v → ¬ sc_Q (sc_E T) u v → k + 1 ≤ m') → wY_raise_104 post J4 J14 x1 (nI u) (nI v) (nI m') (nI N) ed rc hg) : wY_raise_58 post J4 J14 x1 (nI u) (nI v) (nI m) (nI N) ed rc hg := by
  unfold wY_raise_58
  rw [sc_idx, sc_cl (c := u) (by omega), hk, sc_cl (c := 16 * u + v) (by omega)]
  refine And.intro (sc_vin (by omega) (by omega)) (br_c (fun z => K m (Nat.le_refl _) (by omega) (Or.inl rfl) (fun e => absurd e ((sc_ed0 hed hu hv).mp z))) (fun z => sy_tog hRC hu hv (fun q => br_f sc_10 (K m (Nat.le_refl _) (by omega) (Or.inl rfl) (fun _ nq => absurd q nq))) (fun q => br_t rfl (And.intro (sc_vin (by omega) (by omega)) ?_))))
  rw [nI_1 k]
  refine pk_le (k + 1) m (fun z' => K m (Nat.le_refl _) (by omega) (Or.inl rfl) (fun _ _ => z')) (fun z' => And.intro (sc_vin (by omega) (by omega)) (nm_e (K (k + 1) (by omega) (by omega) (Or.inr ⟨?_, q, rfl⟩) (fun _ _ => Nat.le_refl _))))
  exact Classical.byContradiction fun e => z ((sc_ed0 hed hu hv).mpr e)
theorem sy_rai_14 {post : Int32 → SY → Prop} {J4 : Int32 → Int32 → (Nat → Int32) → (Nat → Int32) → (Nat → Int32) → Prop} (hN : N ≤ 16) (hT : ∀ a b, bt (T a) b = true → a < N ∧ b < N) (hed : sc_Ed T ed) (hRC : sc_RC T rc) (H : sc_H (sc_E T) (sc_l (sc_E T)) N h) {u : Nat} (hu : u < N) (hJ : ∀ g kv hg, (∀ x, x < N → hg x = nI (kv x)) → sc_RI T N h kv0 u N g kv → J4 g (nI (u + 1)) ed rc hg) : ∀ d v g kv hg, v + d = N → (∀ x, x < N → hg x = nI (kv x)) → sc_RI T N h kv0 u v g kv → wY_raise_14 post J4 (nI u) (nI N) (d + 1) g (nI v) ed rc hg := by
  obtain ⟨H1, H2, H3, H4⟩ := H
  intro d
  induction d with
  | zero =>
    intro v g kv hg hv hk I
    have e : v = N := by omega
    subst e
    exact br_t (nI_le (Nat.le_refl _) (by omega)) (nm_r (nI_1 u) (hJ g kv hg hk I))
  | succ d ih =>
    intro v g kv hg hv hk I
    have hvN : v < N := by omega
    have bu := I.1 u hu
    have bv := I.1 v hvN
    have cu := H4 u hu
    have cv := H4 v hvN
    have ev : hg (nI v).toNatClampNeg = nI (kv v) := by rw [sc_cl (by omega)]; exact hk v hvN
    have eu : hg (nI u).toNatClampNeg = nI (kv u) := by rw [sc_cl (by omega)]; exact hk u hu
    have fin : ∀ m, kv v ≤ m → m ≤ h v → (sc_Q (sc_E T) u v → kv u ≤ m) → (sc_E T u v → ¬ sc_Q (sc_E T) u v → kv u + 1 ≤ m) → wY_raise_104 post J4 (wY_raise_14 post J4 (nI u) (nI N) (d + 1)) g (nI u) (nI v) (nI m) (nI N) ed rc hg := by
      intro m m1 m2 m3 m4
      refine sy_rai_104 (by omega) (hk v hvN) (by omega) (by omega) (fun z => ih (v + 1) g kv hg (by omega) hk ?_) (fun z => ih (v + 1) 1 _ _ (by omega) (sc_un_hg hk) (sc_RI_st hu hvN I m1 m2 m3 m4))
      have e : m = kv v := by omega
      rw [e] at m3 m4
      exact sc_RI_eq hu I m3 m4
    have mid : ∀ m, kv v ≤ m → m ≤ h v → (sc_Q (sc_E T) u v → kv u ≤ m) → wY_raise_58 post J4 (wY_raise_14 post J4 (nI u) (nI N) (d + 1)) g (nI u) (nI v) (nI m) (nI N) ed rc hg := by
      intro m m1 m2 m3
      refine sy_rai_58 hed hRC (by omega) (by omega) (hk u hu) (by omega) (by omega) fun m' n1 n2 n3 n4 => fin m' (by omega) ?_ (fun q => by have := m3 q; omega) n4
      rcases n3 with z | ⟨z1, z2, z3⟩
      · omega
      · have := H2 u v z1 (fun e => z2 (sc_l_eq.mp e))
        omega
    refine br_f (nI_ge (by omega) (by omega)) (And.intro (sc_vin (by omega) (by omega)) (nm_r ev (sy_tog hRC (by omega) (by omega) (fun q => br_f sc_10 (And.intro (sc_vin (by omega) (by omega)) ?_)) (fun q => br_t rfl (mid (kv v) (Nat.le_refl _) bv (fun w => absurd w q))))))
    rw [eu]
    have huv : h u = h v := H1 u v hu hvN (sc_l_eq.mpr q)
    exact pk_le (kv u) (kv v) (fun z => mid (kv v) (Nat.le_refl _) bv (fun _ => z)) (fun z => And.intro (sc_vin (by omega) (by omega)) (nm_e (mid (kv u) (by omega) (by omega) (fun _ => Nat.le_refl _))))
theorem sy_rai_4 {post : Int32 → SY → Prop} (hN : N ≤ 16) (hT : ∀ a b, bt (T a) b = true → a < N ∧ b < N) (hed : sc_Ed T ed) (hRC : sc_RC T rc) (H : sc_H (sc_E T) (sc_l (sc_E T)) N h) (hp : ∀ g kv hg, (∀ x, x < N → hg x = nI (kv x)) → sc_RI T N h kv0 N 0 g kv → post g (nI N, ed, rc, hg)) : ∀ d u g kv hg, u + d = N → (∀ x, x < N → hg x = nI (kv x)) → sc_RI T N h kv0 u 0 g kv → wY_raise_4 post (nI N) (d + 1) g (nI u) ed rc hg := by
  intro d
  induction d with
  | zero =>
    intro u g kv hg hu hk I
    have e : u = N := by omega
    subst e
    refine br_t (nI_le (Nat.le_refl _) (by omega)) (And.intro ?_ (hp g kv hg hk I))
    rcases I.2.2.1 with ⟨e, _⟩ | e
    · rw [e]; rfl
    · rw [e]; rfl
  | succ d ih =>
    intro u g kv hg hu hk I
    exact br_f (nI_ge (by omega) (by omega)) ⟨N + 1, sy_rai_14 hN hT hed hRC H (by omega) (fun g kv hg hk I => ih (u + 1) g kv hg (by omega) hk (sc_RI_nx I)) N 0 g kv hg (by omega) hk I⟩
theorem sy_rai {post : Int32 → SY → Prop} (hN : N ≤ 16) (hT : ∀ a b, bt (T a) b = true → a < N ∧ b < N) (hed : sc_Ed T ed) (hRC : sc_RC T rc) (H : sc_H (sc_E T) (sc_l (sc_E T)) N h) (hk : ∀ x, x < N → hg x = nI (kv x)) (hle : ∀ x, x < N → kv x ≤ h x) (hp : ∀ g kv' hg, (∀ x, x < N → hg x = nI (kv' x)) → sc_RI T N h kv N 0 g kv' → post g (nI N, ed, rc, hg)) : wpY_raise post (nI N, ed, rc, hg) :=
  ⟨N + 1, sy_rai_4 hN hT hed hRC H hp N 0 0 kv hg (by omega) hk ⟨hle, fun _ _ => Nat.le_refl _, Or.inl ⟨rfl, fun _ _ => rfl⟩, fun a b hab => by omega⟩⟩
theorem sc_HI_s {r : Nat} {g g' : Int32} {kv' : Nat → Nat} (hT : ∀ a b, bt (T a) b = true → a < N ∧ b < N) (H : sc_H (sc_E T) (sc_l (sc_E T)) N h) (I : sc_HI T N h r g kv) (I' : sc_RI T N h kv N 0 g' kv') : sc_HI T N h (r + 1) g' kv' := by
  obtain ⟨H1, H2, H3, H4⟩ := H
  obtain ⟨a1, a2, a3, a4⟩ := I
  obtain ⟨b1, b2, b3, b4⟩ := I'
  refine ⟨b1, ?_, ?_, ?_⟩
  · intro v hv hr
    rcases Nat.lt_or_ge r (2 * h v) with z | z
    · rcases H3 v hv with z' | ⟨x, y, h1, h2, h3, h4⟩
      · omega
      · have hxy := hT x y h1
        have ey : h y = h v := H1 y v hxy.2 hv h3
        have c := a3 x y h1 (fun q => h2 (sc_l_eq.mpr q)) (by omega) (by omega)
        have d := (b4 y v (Or.inl ⟨hxy.2, hv⟩)).1 (sc_l_eq.mp h3)
        omega
    · exact Nat.le_trans (a2 v hv z) (b2 v hv)
  · intro x w hE hQ e hr
    have hxy := hT x w hE
    have c := a2 x hxy.1 (by omega)
    have d := (b4 x w (Or.inl ⟨hxy.1, hxy.2⟩)).2 hE hQ
    omega
  · intro hg
    rcases b3 with ⟨_, e⟩ | e
    · have key : ∀ n x, x < N → h x ≤ n → h x ≤ kv' x := by
        intro n
        induction n with
        | zero => intro x _ hx; omega
        | succ n ih =>
          intro x hx hn
          rcases H3 x hx with z' | ⟨y, w, h1, h2, h3, h4⟩
          · omega
          · have hyw := hT y w h1
            have c := ih y hyw.1 (by omega)
            have d := (b4 y w (Or.inl ⟨hyw.1, hyw.2⟩)).2 h1 (fun q => h2 (sc_l_eq.mpr q))
            have d' := (b4 w x (Or.inl ⟨hyw.2, hx⟩)).1 (sc_l_eq.mp h3)
            have e1 := e y hyw.1
            have e2 := e w hyw.2
            omega
      exact fun x hx => key (h x) x hx (Nat.le_refl _)
    · rw [e] at hg
      exact absurd hg sc_10
theorem sy_hei_41 {post : Int32 → SY → Prop} (hN : N ≤ 16) (hT : ∀ a b, bt (T a) b = true → a < N ∧ b < N) (hed : sc_Ed T ed) (hRC : sc_RC T rc) (H : sc_H (sc_E T) (sc_l (sc_E T)) N h) {u : Nat} (hu : u < N) (hp : ∀ hg, post (nI (h u)) (nI N, ed, rc, hg)) : ∀ d r g kv hg, r + d = 40 → (∀ x, x < N → hg x = nI (kv x)) → sc_HI T N h r g kv → wY_height_41 post (nI u) (d + 1) g (nI r) (nI N) ed rc hg := by
  have fin : ∀ (hg : Nat → Int32) (kv : Nat → Nat), (∀ x, x < N → hg x = nI (kv x)) → h u ≤ kv u → kv u ≤ h u → vp_in (nI u) 16 ∧ post (hg (nI u).toNatClampNeg) (nI N, ed, rc, hg) := by
    intro hg kv hk h1 h2
    rw [sc_cl (c := u) (by omega), hk u hu, show kv u = h u from by omega]
    exact And.intro (sc_vin (by omega) (by omega)) (hp hg)
  intro d
  induction d with
  | zero =>
    intro r g kv hg hr hk I
    exact br_t (nI_le (a := 40) (by omega) (by omega)) (fin hg kv hk (I.2.1 u hu (by have := H.2.2.2 u hu; omega)) (I.1 u hu))
  | succ d ih =>
    intro r g kv hg hr hk I
    exact br_f (nI_ge (b := 40) (by omega) (by omega)) (br_c (fun z => fin hg kv hk (I.2.2.2 z u hu) (I.1 u hu)) (fun z => sy_rai hN hT hed hRC H hk I.1 fun g' kv' hg' hk' I' => nm_r (nI_1 r) (ih (r + 1) g' kv' hg' (by omega) hk' (sc_HI_s hT H I I'))))
theorem sy_hei_16 {post : Int32 → SY → Prop} (hN : N ≤ 16) (hT : ∀ a b, bt (T a) b = true → a < N ∧ b < N) (hed : sc_Ed T ed) (hRC : sc_RC T rc) (H : sc_H (sc_E T) (sc_l (sc_E T)) N h) {u : Nat} (hu : u < N) (hp : ∀ hg, post (nI (h u)) (nI N, ed, rc, hg)) : ∀ d i hg, i + d = N → (∀ x, x < i → hg x = nI 0) → wY_height_16 post (nI u) (nI N) (d + 1) (nI i) ed rc hg := by
  intro d
  induction d with
  | zero =>
    intro i hg hi hk
    have e : i = N := by omega
    subst e
    exact br_t (nI_le (Nat.le_refl _) (by omega)) ⟨41, sy_hei_41 hN hT hed hRC H hu hp 40 0 1 (fun _ => 0) hg rfl hk ⟨fun x _ => Nat.zero_le _, fun v _ z => by omega, fun x w _ _ _ z => by omega, fun z => absurd z sc_10⟩⟩
  | succ d ih =>
    intro i hg hi hk
    refine br_f (nI_ge (by omega) (by omega)) (And.intro (sc_vin (by omega) (by omega)) (nm_r (e' := upd hg i (nI 0)) (by rw [sc_cl (by omega)]; rfl) (nm_r (nI_1 i) (ih (i + 1) _ (by omega) fun x hx => ?_))))
    by_cases e : x = i
    · rw [e, pk_us]
    · rw [pk_un e]
      exact hk x (by omega)
theorem sy_hei {post : Int32 → SY → Prop} (hN : N ≤ 16) (hT : ∀ a b, bt (T a) b = true → a < N ∧ b < N) (hed : sc_Ed T ed) (H : sc_H (sc_E T) (sc_l (sc_E T)) N h) {u : Nat} (hu : u < N) (hp : ∀ rc hg, post (nI (h u)) (nI N, ed, rc, hg)) : wpY_height post (nI N, ed, rc, hg) (nI u) := by
  unfold wpY_height
  dsimp only
  refine sy_isV1 hN hu (br_f sc_10 ?_)
  refine sy_fr hN hT hed fun rc hRC => ?_
  exact ⟨N + 1, sy_hei_16 hN hT hed hRC H hu (fun hg => hp rc hg) N 0 hg (by omega) (fun x hx => by omega)⟩
theorem sy_cyc_30 {post : Int32 → Prop} {J16 : Int32 → Int32 → Prop} (hN : N ≤ 16) (hT : ∀ a b, bt (T a) b = true → a < N ∧ b < N) (hed : sc_Ed T ed) {u k : Nat} (hu : u < N) {at' : Int32} (f : ∀ x4, (∀ v, bt x4 v = true ↔ ∃ w, bt at' w = true ∧ sc_E T w v) → (bt x4 u = true → post (nI k)) ∧ (bt x4 u = false → J16 x4 (nI (k + 1)))) : ∀ d x x4, x + d = 256 → (∀ v, bt x4 v = true ↔ ∃ w, 16 * w + v < x ∧ v < 16 ∧ bt at' w = true ∧ sc_E T w v) → wY_cycle_30 post J16 (nI u) at' (nI k) (nI N) ed rc hg (d + 1) x4 (nI x) := by
  intro d
  induction d with
  | zero =>
    intro x x4 hx h4
    have e : x = 256 := by omega
    subst e
    have F := f x4 (fun v => by
      rw [h4]
      refine ⟨fun ⟨w, _, _, z⟩ => ⟨w, z⟩, fun ⟨w, z1, z2⟩ => ?_⟩
      have := hT w v z2
      exact ⟨w, by omega, by omega, z1, z2⟩)
    exact br_t (nI_le (a := 256) (b := 256) (by omega) (by omega)) (sc_br1 u (by omega) (fun z => F.1 z) (fun z => nm_r (nI_1 k) (F.2 z)))
  | succ d ih =>
    intro x x4 hx h4
    have keep : ¬ (bt at' (x / 16) = true ∧ sc_E T (x / 16) (x % 16)) → ∀ v, bt x4 v = true ↔ ∃ w, 16 * w + v < x + 1 ∧ v < 16 ∧ bt at' w = true ∧ sc_E T w v := by
      intro hn v
      rw [h4]
      refine ⟨fun ⟨w, h1, h2⟩ => ⟨w, by omega, h2⟩, fun ⟨w, h1, h2, h3, h4⟩ => ⟨w, ?_, h2, h3, h4⟩⟩
      rcases Nat.lt_or_ge (16 * w + v) x with z | z
      · exact z
      · have e1 : x / 16 = w := by omega
        have e2 : x % 16 = v := by omega
        rw [e1, e2] at hn
        exact absurd ⟨h3, h4⟩ hn
    have ex : ed x = 0 ↔ ¬ sc_E T (x / 16) (x % 16) := by
      have := sc_ed0 hed (a := x / 16) (b := x % 16) (by omega) (by omega)
      rw [show 16 * (x / 16) + x % 16 = x from by omega] at this
      exact this
    refine br_f (nI_ge (b := 256) (by omega) (by omega)) ?_
    rw [sc_cl (c := x) (by omega), sc_hi (by omega), sc_lo (by omega)]
    refine And.intro (sc_vin (by omega) (by omega)) (br_c (fun z => nm_r (nI_1 x) (ih (x + 1) x4 (by omega) (keep fun w => ex.mp z w.2))) (fun z => sc_br1 (x / 16) (by omega) (fun hb => nm_e (nm_r (nI_1 x) (ih (x + 1) _ (by omega) fun v => ?_))) (fun hb => nm_r (nI_1 x) (ih (x + 1) x4 (by omega) (keep fun w => by rw [hb] at w; cases w.1)))))
    rw [sc_orI, h4, sc_one _ (by omega)]
    constructor
    · rintro (⟨w, h1, h2⟩ | rfl)
      · exact ⟨w, by omega, h2⟩
      · exact ⟨x / 16, by omega, by omega, hb, Classical.byContradiction fun w => z (ex.mpr w)⟩
    · rintro ⟨w, h1, h2, h3, h4⟩
      rcases Nat.lt_or_ge (16 * w + v) x with z' | z'
      · exact Or.inl ⟨w, z', h2, h3, h4⟩
      · exact Or.inr (by omega)
theorem sy_cyc_16 {post : Int32 → Prop} (hN : N ≤ 16) (hT : ∀ a b, bt (T a) b = true → a < N ∧ b < N) (hed : sc_Ed T ed) {u : Nat} (hu : u < N) (h : ∀ r, sc_Cy (sc_E T) u r → post r) : ∀ d k at', k + d = N → (∀ v, bt at' v = true ↔ sc_P (sc_E T) k u v) → (∀ j, j < k → ¬ sc_P (sc_E T) (j + 1) u u) → wY_cycle_16 post (nI u) (nI N) ed rc hg (d + 1) at' (nI (k + 1)) := by
  intro d
  induction d with
  | zero =>
    intro k at' hk ha hn
    refine br_t (nI_lt (by omega) (by omega)) (h _ (Or.inr ⟨rfl, fun j hj => ?_⟩))
    obtain ⟨j', h1, h2⟩ := sc_W_short (N := N) (F := sc_E T) (fun a b h => (hT a b h).2) (fun v hv => (hT u v hv).2) (sc_shift.mpr hj)
    exact hn j' (by omega) (sc_shift.mp h2)
  | succ d ih =>
    intro k at' hk ha hn
    refine br_f (nI_nlt (by omega) (by omega)) ⟨257, sy_cyc_30 hN hT hed hu (fun x4 h4 => ?_) 256 0 0 rfl (fun v => ⟨fun z => absurd z (sc_0I v), fun ⟨w, z, _⟩ => by omega⟩)⟩
    have hP : ∀ v, bt x4 v = true ↔ sc_P (sc_E T) (k + 1) u v := by
      intro v
      rw [h4]
      exact ⟨fun ⟨w, h1, h2⟩ => ⟨w, (ha w).mp h1, h2⟩, fun ⟨w, h1, h2⟩ => ⟨w, (ha w).mpr h1, h2⟩⟩
    refine ⟨fun z => h _ (Or.inl ⟨k, rfl, (hP u).mp z, hn⟩), fun z => ih (k + 1) x4 (by omega) hP fun j hj => ?_⟩
    rcases Nat.lt_or_ge j k with z' | z'
    · exact hn j z'
    · have : j = k := by omega
      subst this
      exact fun w => by
        rw [(hP u).mpr w] at z
        cases z
theorem sy_cyc {post : Int32 → Prop} (hN : N ≤ 16) (hT : ∀ a b, bt (T a) b = true → a < N ∧ b < N) (hed : sc_Ed T ed) {u : Nat} (hu : u < N) (h : ∀ r, sc_Cy (sc_E T) u r → post r) : wpY_cycle post (nI N, ed, rc, hg) (nI u) := by
  unfold wpY_cycle
  dsimp only
  refine sy_isV1 hN hu (br_f sc_10 ?_)
  refine nm_e ⟨N + 1, sy_cyc_16 hN hT hed hu h N 0 _ (by omega) (fun v => ?_) (fun j hj => by omega)⟩
  rw [sc_one u (by omega)]
  exact ⟨fun e => e.symm, fun e => by have e' : u = v := e; exact e'.symm⟩
theorem sy_out_8 {post : Int32 → SY → Prop} (hed : sc_Ed T ed) (hRC : sc_RC T rc) (h : post (nI (sc_cn (fun x => bt (T (x / 16)) (x % 16) && !decide (sc_l (sc_E T) (x / 16) = sc_l (sc_E T) (x % 16))) 256)) (nI N, ed, rc, hg)) : ∀ d x, x + d = 256 → wY_outerEdges_8 post (nI N) ed rc hg (d + 1) (nI (sc_cn (fun x => bt (T (x / 16)) (x % 16) && !decide (sc_l (sc_E T) (x / 16) = sc_l (sc_E T) (x % 16))) x)) (nI x) := by
  intro d
  induction d with
  | zero =>
    intro x hx
    have e : x = 256 := by omega
    subst e
    exact br_t (nI_le (a := 256) (b := 256) (by omega) (by omega)) h
  | succ d ih =>
    intro x hx
    have ex : ed x = 0 ↔ ¬ sc_E T (x / 16) (x % 16) := by
      have := sc_ed0 hed (a := x / 16) (b := x % 16) (by omega) (by omega)
      rw [show 16 * (x / 16) + x % 16 = x from by omega] at this
      exact this
    have nx : ∀ b : Bool, (bt (T (x / 16)) (x % 16) && !decide (sc_l (sc_E T) (x / 16) = sc_l (sc_E T) (x % 16))) = b → wY_outerEdges_8 post (nI N) ed rc hg (d + 1) (nI (sc_cn (fun x => bt (T (x / 16)) (x % 16) && !decide (sc_l (sc_E T) (x / 16) = sc_l (sc_E T) (x % 16))) x + b.toNat)) (nI (x + 1)) := by
      intro b hb
      have := ih (x + 1) (by omega)
      rw [show sc_cn (fun x => bt (T (x / 16)) (x % 16) && !decide (sc_l (sc_E T) (x / 16) = sc_l (sc_E T) (x % 16))) (x + 1) = sc_cn (fun x => bt (T (x / 16)) (x % 16) && !decide (sc_l (sc_E T) (x / 16) = sc_l (sc_E T) (x % 16))) x + (bt (T (x / 16)) (x % 16) && !decide (sc_l (sc_E T) (x / 16) = sc_l (sc_E T) (x % 16))).toNat from rfl, hb] at this
      exact this
    refine br_f (nI_ge (b := 256) (by omega) (by omega)) ?_
    rw [sc_cl (c := x) (by omega), sc_hi (by omega), sc_lo (by omega)]
    refine And.intro (sc_vin (by omega) (by omega)) (br_c (fun z => nm_r (nI_1 x) (nx false ?_)) (fun z => sy_tog hRC (by omega) (by omega) (fun q => br_f sc_10 (nm_r (nI_1 x) (nx false ?_))) (fun q => br_t rfl (nm_r (nI_1 _) (nm_r (nI_1 x) (nx true ?_))))))
    · rw [sc_fI.mpr (ex.mp z)]
      rfl
    · rw [decide_eq_true (sc_l_eq.mpr q), Bool.not_true, Bool.and_false]
    · have e1 : bt (T (x / 16)) (x % 16) = true := Classical.byContradiction fun w => z (ex.mpr w)
      rw [e1, decide_eq_false (fun w => q (sc_l_eq.mp w))]
      rfl
theorem sy_out {post : Int32 → SY → Prop} (hN : N ≤ 16) (hT : ∀ a b, bt (T a) b = true → a < N ∧ b < N) (hed : sc_Ed T ed) (h : ∀ rc, post (nI (sc_cn (fun x => bt (T (x / 16)) (x % 16) && !decide (sc_l (sc_E T) (x / 16) = sc_l (sc_E T) (x % 16))) 256)) (nI N, ed, rc, hg)) : wpY_outerEdges post (nI N, ed, rc, hg) := by
  unfold wpY_outerEdges
  dsimp only
  refine sy_fr hN hT hed fun rc hRC => ?_
  exact ⟨257, sy_out_8 hed hRC (h rc) 256 0 rfl⟩
theorem sy_inl_16 {post : Int32 → SY → Prop} {J6 : Int32 → Prop} (hN : N ≤ 16) (hRC : sc_RC T rc) {a : Nat} (ha : a < N) (f : (∀ b, b < N → sc_R (sc_E T) a b ∨ sc_R (sc_E T) b a) → J6 (nI (a + 1))) (g : ∀ b, b < N → ¬ sc_R (sc_E T) a b → ¬ sc_R (sc_E T) b a → post 0 (nI N, ed, rc, hg)) : ∀ d b, b + d = N → (∀ j, j < b → sc_R (sc_E T) a j ∨ sc_R (sc_E T) j a) → wY_inOneLine_16 post J6 (nI a) (nI N) ed rc hg (d + 1) (nI b) := by
  intro d
  induction d with
  | zero =>
    intro b hb hj
    have e : b = N := by omega
    subst e
    exact br_t (nI_le (Nat.le_refl _) (by omega)) (nm_r (nI_1 a) (f hj))
  | succ d ih =>
    intro b hb hj
    have nx : (sc_R (sc_E T) a b ∨ sc_R (sc_E T) b a) → wY_inOneLine_16 post J6 (nI a) (nI N) ed rc hg (d + 1) (nI (b + 1)) := by
      intro hab
      refine ih (b + 1) (by omega) fun j hj' => ?_
      rcases Nat.lt_or_ge j b with z | z
      · exact hj j z
      · have : j = b := by omega
        subst this
        exact hab
    refine br_f (nI_ge (by omega) (by omega)) ?_
    rw [sc_idx, sc_idx, sc_cl (c := 16 * a + b) (by omega), sc_cl (c := 16 * b + a) (by omega)]
    have r1 := hRC a b (by omega) (by omega)
    have r2 := hRC b a (by omega) (by omega)
    refine And.intro (sc_vin (by omega) (by omega)) (br_c (fun z => And.intro (sc_vin (by omega) (by omega)) (br_c (fun z' => g b (by omega) ?_ ?_) (fun z' => nm_r (nI_1 b) (nx (Or.inr ?_))))) (fun z => nm_r (nI_1 b) (nx (Or.inl ?_))))
    · rcases r1 with ⟨_, w⟩ | ⟨w, _⟩
      · exact w
      · rw [w] at z; exact absurd z sc_10
    · rcases r2 with ⟨_, w⟩ | ⟨w, _⟩
      · exact w
      · rw [w] at z'; exact absurd z' sc_10
    · rcases r2 with ⟨w, _⟩ | ⟨_, w⟩
      · exact absurd w z'
      · exact w
    · rcases r1 with ⟨w, _⟩ | ⟨_, w⟩
      · exact absurd w z
      · exact w
theorem sy_inl_6 {post : Int32 → SY → Prop} (hN : N ≤ 16) (hRC : sc_RC T rc) (f : (∀ a b, a < N → b < N → sc_R (sc_E T) a b ∨ sc_R (sc_E T) b a) → post 1 (nI N, ed, rc, hg)) (g : (¬ ∀ a b, a < N → b < N → sc_R (sc_E T) a b ∨ sc_R (sc_E T) b a) → post 0 (nI N, ed, rc, hg)) : ∀ d a, a + d = N → (∀ i j, i < a → j < N → sc_R (sc_E T) i j ∨ sc_R (sc_E T) j i) → wY_inOneLine_6 post (nI N) ed rc hg (d + 1) (nI a) := by
  intro d
  induction d with
  | zero =>
    intro a ha hj
    have e : a = N := by omega
    subst e
    exact br_t (nI_le (Nat.le_refl _) (by omega)) (f hj)
  | succ d ih =>
    intro a ha hj
    refine br_f (nI_ge (by omega) (by omega)) ⟨N + 1, sy_inl_16 hN hRC (by omega) (fun h => ih (a + 1) (by omega) fun i j hi hj' => ?_) (fun b hb h1 h2 => g fun h => (h a b (by omega) hb).elim h1 h2) N 0 (by omega) (fun j hj => by omega)⟩
    rcases Nat.lt_or_ge i a with z | z
    · exact hj i j z hj'
    · have : i = a := by omega
      subst this
      exact h j hj'
theorem sy_inl {post : Int32 → SY → Prop} (hN : N ≤ 16) (hT : ∀ a b, bt (T a) b = true → a < N ∧ b < N) (hed : sc_Ed T ed) (f : (∀ a b, a < N → b < N → sc_R (sc_E T) a b ∨ sc_R (sc_E T) b a) → ∀ rc, post 1 (nI N, ed, rc, hg)) (g : (¬ ∀ a b, a < N → b < N → sc_R (sc_E T) a b ∨ sc_R (sc_E T) b a) → ∀ rc, post 0 (nI N, ed, rc, hg)) : wpY_inOneLine post (nI N, ed, rc, hg) := by
  unfold wpY_inOneLine
  dsimp only
  refine sy_fr hN hT hed fun rc hRC => ?_
  exact ⟨N + 1, sy_inl_6 hN hRC (fun h => f h rc) (fun h => g h rc) N 0 (by omega) (fun i j hi => by omega)⟩
theorem sy_siz_18 {post : Int32 → SY → Prop} (hN : N ≤ 16) (hRC : sc_RC T rc) {a : Nat} (ha : a < N) (h : post (nI (sc_cn (fun b => decide (sc_l (sc_E T) b = sc_l (sc_E T) a)) N)) (nI N, ed, rc, hg)) : ∀ d i, i + d = N → wY_componentSize_18 post (nI a) (nI N) ed rc hg (d + 1) (nI (sc_cn (fun b => decide (sc_l (sc_E T) b = sc_l (sc_E T) a)) i)) (nI i) := by
  intro d
  induction d with
  | zero =>
    intro i hi
    have e : i = N := by omega
    subst e
    exact br_t (nI_le (Nat.le_refl _) (by omega)) h
  | succ d ih =>
    intro i hi
    have nx : ∀ b : Bool, decide (sc_l (sc_E T) i = sc_l (sc_E T) a) = b → wY_componentSize_18 post (nI a) (nI N) ed rc hg (d + 1) (nI (sc_cn (fun b => decide (sc_l (sc_E T) b = sc_l (sc_E T) a)) i + b.toNat)) (nI (i + 1)) := by
      intro b hb
      have := ih (i + 1) (by omega)
      rw [show sc_cn (fun b => decide (sc_l (sc_E T) b = sc_l (sc_E T) a)) (i + 1) = sc_cn (fun b => decide (sc_l (sc_E T) b = sc_l (sc_E T) a)) i + (decide (sc_l (sc_E T) i = sc_l (sc_E T) a)).toNat from rfl, hb] at this
      exact this
    exact br_f (nI_ge (by omega) (by omega)) (sy_tog hRC (by omega) (by omega) (fun q => br_f sc_10 (nm_r (nI_1 _) (nm_r (nI_1 i) (nx true (decide_eq_true (sc_l_eq.mpr (sc_Q_symm q))))))) (fun q => br_t rfl (nm_r (nI_1 i) (nx false (decide_eq_false fun w => q (sc_Q_symm (sc_l_eq.mp w)))))))
theorem sy_siz {post : Int32 → SY → Prop} (hN : N ≤ 16) (hT : ∀ a b, bt (T a) b = true → a < N ∧ b < N) (hed : sc_Ed T ed) {a : Nat} (ha : a < N) (h : ∀ rc, post (nI (sc_cn (fun b => decide (sc_l (sc_E T) b = sc_l (sc_E T) a)) N)) (nI N, ed, rc, hg)) : wpY_componentSize post (nI N, ed, rc, hg) (nI a) := by
  unfold wpY_componentSize
  dsimp only
  refine sy_isV1 hN ha (br_f sc_10 ?_)
  refine sy_fr hN hT hed fun rc hRC => ?_
  exact ⟨N + 1, sy_siz_18 hN hRC ha (h rc) N 0 (by omega)⟩
theorem sy_rea {post : Int32 → SY → Prop} (hN : N ≤ 16) (hT : ∀ a b, bt (T a) b = true → a < N ∧ b < N) (hed : sc_Ed T ed) {a b : Nat} (ha : a < N) (hb : b < N) (f : sc_R (sc_E T) a b → ∀ rc, post 1 (nI N, ed, rc, hg)) (g : ¬ sc_R (sc_E T) a b → ∀ rc, post 0 (nI N, ed, rc, hg)) : wpY_reaches post (nI N, ed, rc, hg) (nI a) (nI b) := by
  unfold wpY_reaches
  dsimp only
  refine sy_isV1 hN ha (br_f sc_10 ?_)
  refine sy_isV1 hN hb (br_f sc_10 ?_)
  refine sy_fr hN hT hed fun rc hRC => ?_
  dsimp only
  rw [sc_idx, sc_cl (c := 16 * a + b) (by omega)]
  rcases hRC a b (by omega) (by omega) with ⟨e, r⟩ | ⟨e, r⟩
  · rw [e]
    exact And.intro (sc_vin (by omega) (by omega)) (And.intro rfl (g r rc))
  · rw [e]
    exact And.intro (sc_vin (by omega) (by omega)) (And.intro rfl (f r rc))
theorem sy_lea {post : Int32 → SY → Prop} (hN : N ≤ 16) (hT : ∀ a b, bt (T a) b = true → a < N ∧ b < N) (hed : sc_Ed T ed) {a : Nat} (ha : a < N) (h : ∀ rc, post (nI (sc_l (sc_E T) a)) (nI N, ed, rc, hg)) : wpY_leader post (nI N, ed, rc, hg) (nI a) := by
  unfold wpY_leader
  dsimp only
  refine sy_isV1 hN ha (br_f sc_10 ?_)
  refine sy_fr hN hT hed fun rc hRC => ?_
  exact sy_ldr hRC (by omega) (h rc)
end
end
section
/-! the owed statements of the answers, and of the constructors -/
theorem sc_vx (x : Int32) {N : Nat} (hN : N ≤ 16) : (x < 0 ∨ nI N ≤ x) ∨ ∃ j : Nat, j < N ∧ x = nI j := by
  rcases pk_ix x (n := N) (by omega) with h | h | h
  · exact Or.inl (Or.inl h)
  · exact Or.inl (Or.inr h)
  · exact Or.inr h
theorem sc_cnt {N : Nat} {ln : List Nat} {T PL LN : Nat → Int32} (hL : sc_Lin N (sc_l (sc_E T)) ln PL LN) : sc_cn (fun u => decide (sc_l (sc_E T) u = u)) N = ln.length :=
  sc_cn_l hL.1 fun c => by rw [hL.2.1, decide_eq_true_eq]
theorem i_vc_components {k : Nat} {u : SX} {v : SY} (I : i_Rel k u v) (hk : k + 3 ≤ 1537) : wpX_components (fun r => wpY_components (fun r' v' => r' = r ∧ i_Rel (k + 3) u v') v) u := by
  refine sc_el (P := fun u v => wpX_components (fun r => wpY_components (fun r' v' => r' = r ∧ i_Rel (k + 3) u v') v) u) ?_ I
  intro N ln fn T S LD M PL LN NL HT PC ed rc hg J
  unfold wpX_components
  dsimp only
  exact sy_com J.2.1 J.2.2.1 J.2.2.2.2.1 fun rc' _ => ⟨congrArg nI (sc_cnt J.2.2.2.2.2.2.1), sc_mk J⟩
theorem i_vc_leader {k : Nat} {u : SX} {v : SY} (I : i_Rel k u v) (hk : k + 3 ≤ 1537) (v1 : Int32) : wpX_leader (fun r => wpY_leader (fun r' v' => r' = r ∧ i_Rel (k + 3) u v') v v1) u v1 := by
  refine sc_el (P := fun u v => wpX_leader (fun r => wpY_leader (fun r' v' => r' = r ∧ i_Rel (k + 3) u v') v v1) u v1) ?_ I
  intro N ln fn T S LD M PL LN NL HT PC ed rc hg J
  unfold wpX_leader
  dsimp only
  rcases sc_vx v1 J.2.1 with hb | ⟨a, ha, rfl⟩
  · refine sx_isV0 hb (br_t rfl ?_)
    unfold wpY_leader
    dsimp only
    exact sy_isV0 hb (br_t rfl ⟨rfl, sc_mk J⟩)
  · have J' := J
    obtain ⟨hN2, hN, hT, hS, hed, hY, hL, hTop⟩ := J'
    have eL : LD (nI a).toNatClampNeg = nI (sc_l (sc_E T) a) := by rw [sc_cl (by omega)]; exact (hY.1 a ha).2.2
    refine sx_isV1 hN ha (br_f sc_10 (And.intro (sc_vin (by omega) (by omega)) ?_))
    rw [eL]
    exact sy_lea hN hT hed ha fun rc' => ⟨rfl, sc_mk J⟩
theorem i_vc_componentSize {k : Nat} {u : SX} {v : SY} (I : i_Rel k u v) (hk : k + 3 ≤ 1537) (v1 : Int32) : wpX_componentSize (fun r => wpY_componentSize (fun r' v' => r' = r ∧ i_Rel (k + 3) u v') v v1) u v1 := by
  refine sc_el (P := fun u v => wpX_componentSize (fun r => wpY_componentSize (fun r' v' => r' = r ∧ i_Rel (k + 3) u v') v v1) u v1) ?_ I
  intro N ln fn T S LD M PL LN NL HT PC ed rc hg J
  unfold wpX_componentSize
  dsimp only
  rcases sc_vx v1 J.2.1 with hb | ⟨a, ha, rfl⟩
  · refine sx_isV0 hb (br_t rfl ?_)
    unfold wpY_componentSize
    dsimp only
    exact sy_isV0 hb (br_t rfl ⟨rfl, sc_mk J⟩)
  · have J' := J
    obtain ⟨hN2, hN, hT, hS, hed, hY, hL, hTop⟩ := J'
    have la := hY.1 a ha
    have eL : LD (nI a).toNatClampNeg = nI (sc_l (sc_E T) a) := by rw [sc_cl (by omega)]; exact la.2.2
    have hW : ∀ b, bt (M (sc_l (sc_E T) a)) b = true ↔ b < N ∧ sc_l (sc_E T) b = sc_l (sc_E T) a := hY.2 _ la.1 la.2.1
    refine sx_isV1 hN ha (br_f sc_10 (And.intro (sc_vin (by omega) (by omega)) (nm_r eL (And.intro (sc_vin (by omega) (by omega)) (sx_bits ?_)))))
    refine sy_siz hN hT hed ha fun rc' => ⟨congrArg nI ?_, sc_mk J⟩
    rw [sc_cl (c := sc_l (sc_E T) a) (by omega), sc_cn_ext (N := N) (K := 16) hN (fun i h1 h2 => sc_fI.mpr fun z => by have := ((hW i).mp z).1; omega)]
    refine sc_cn_eq fun b hb => ?_
    rw [Bool.eq_iff_iff, hW, decide_eq_true_eq]
    exact ⟨fun z => ⟨hb, z⟩, fun z => z.2⟩
theorem i_vc_reaches {k : Nat} {u : SX} {v : SY} (I : i_Rel k u v) (hk : k + 3 ≤ 1537) (v1 : Int32) (v2 : Int32) : wpX_reaches (fun r => wpY_reaches (fun r' v' => r' = r ∧ i_Rel (k + 3) u v') v v1 v2) u v1 v2 := by
  refine sc_el (P := fun u v => wpX_reaches (fun r => wpY_reaches (fun r' v' => r' = r ∧ i_Rel (k + 3) u v') v v1 v2) u v1 v2) ?_ I
  intro N ln fn T S LD M PL LN NL HT PC ed rc hg J
  rcases sc_vx v1 J.2.1 with hb | ⟨a, ha, rfl⟩
  · unfold wpX_reaches
    dsimp only
    refine sx_isV0 hb (br_t rfl ?_)
    unfold wpY_reaches
    dsimp only
    exact sy_isV0 hb (br_t rfl ⟨rfl, sc_mk J⟩)
  · rcases sc_vx v2 J.2.1 with hb | ⟨b, hb, rfl⟩
    · unfold wpX_reaches
      dsimp only
      refine sx_isV1 J.2.1 ha (br_f sc_10 ?_)
      refine sx_isV0 hb (br_t rfl ?_)
      unfold wpY_reaches
      dsimp only
      refine sy_isV1 J.2.1 ha (br_f sc_10 ?_)
      exact sy_isV0 hb (br_t rfl ⟨rfl, sc_mk J⟩)
    · exact sx_rea J ha hb (fun h => sy_rea J.2.1 J.2.2.1 J.2.2.2.2.1 ha hb (fun _ rc' => ⟨rfl, sc_mk J⟩) (fun h' => absurd h h')) (fun h => sy_rea J.2.1 J.2.2.1 J.2.2.2.2.1 ha hb (fun h' => absurd h' h) (fun _ rc' => ⟨rfl, sc_mk J⟩))
theorem i_vc_height {k : Nat} {u : SX} {v : SY} (I : i_Rel k u v) (hk : k + 3 ≤ 1537) (v1 : Int32) : wpX_height (fun r u' => wpY_height (fun r' v' => r' = r ∧ i_Rel (k + 3) u' v') v v1) u v1 := by
  refine sc_el (P := fun u v => wpX_height (fun r u' => wpY_height (fun r' v' => r' = r ∧ i_Rel (k + 3) u' v') v v1) u v1) ?_ I
  intro N ln fn T S LD M PL LN NL HT PC ed rc hg J
  rcases sc_vx v1 J.2.1 with hb | ⟨a, ha, rfl⟩
  · unfold wpX_height
    dsimp only
    refine sx_isV0 hb (br_t rfl ?_)
    unfold wpY_height
    dsimp only
    exact sy_isV0 hb (br_t rfl ⟨rfl, sc_mk J⟩)
  · have J' := J
    obtain ⟨hN2, hN, hT, hS, hed, hY, hL, hTop⟩ := J'
    obtain ⟨h, H⟩ := sc_H_ex (E := sc_E T) hN (sc_lnN hL.1 hL.2.1) hT (fun a z => sc_mem hL.2.1 (fun a z => ⟨(hY.1 a z).1, (hY.1 a z).2.1⟩) z) hTop
    exact sx_hei J H ha fun HT' => sy_hei hN hT hed H ha fun rc' hg' => ⟨rfl, sc_mk J⟩
theorem i_vc_cycle {k : Nat} {u : SX} {v : SY} (I : i_Rel k u v) (hk : k + 3 ≤ 1537) (v1 : Int32) : wpX_cycle (fun r => wpY_cycle (fun r' => r' = r ∧ i_Rel (k + 3) u v) v v1) u v1 := by
  refine sc_el (P := fun u v => wpX_cycle (fun r => wpY_cycle (fun r' => r' = r ∧ i_Rel (k + 3) u v) v v1) u v1) ?_ I
  intro N ln fn T S LD M PL LN NL HT PC ed rc hg J
  rcases sc_vx v1 J.2.1 with hb | ⟨a, ha, rfl⟩
  · unfold wpX_cycle
    dsimp only
    refine sx_isV0 hb (br_t rfl ?_)
    unfold wpY_cycle
    dsimp only
    exact sy_isV0 hb (br_t rfl ⟨rfl, sc_mk J⟩)
  · exact sx_cyc J ha fun r hr => sy_cyc J.2.1 J.2.2.1 J.2.2.2.2.1 ha fun r' hr' => ⟨sc_Cy_u hr hr', sc_mk J⟩
theorem i_vc_outerEdges {k : Nat} {u : SX} {v : SY} (I : i_Rel k u v) (hk : k + 3 ≤ 1537) : wpX_outerEdges (fun r => wpY_outerEdges (fun r' v' => r' = r ∧ i_Rel (k + 3) u v') v) u := by
  refine sc_el (P := fun u v => wpX_outerEdges (fun r => wpY_outerEdges (fun r' v' => r' = r ∧ i_Rel (k + 3) u v') v) u) ?_ I
  intro N ln fn T S LD M PL LN NL HT PC ed rc hg J
  exact sx_out J (sy_out J.2.1 J.2.2.1 J.2.2.2.2.1 fun rc' => ⟨rfl, sc_mk J⟩)
theorem i_vc_inOneLine {k : Nat} {u : SX} {v : SY} (I : i_Rel k u v) (hk : k + 3 ≤ 1537) : wpX_inOneLine (fun r => wpY_inOneLine (fun r' v' => r' = r ∧ i_Rel (k + 3) u v') v) u := by
  refine sc_el (P := fun u v => wpX_inOneLine (fun r => wpY_inOneLine (fun r' v' => r' = r ∧ i_Rel (k + 3) u v') v) u) ?_ I
  intro N ln fn T S LD M PL LN NL HT PC ed rc hg J
  exact sx_inl J (fun h => sy_inl J.2.1 J.2.2.1 J.2.2.2.2.1 (fun _ rc' => ⟨rfl, sc_mk J⟩) (fun h' => absurd h h')) (fun h => sy_inl J.2.1 J.2.2.1 J.2.2.2.2.1 (fun h' => absurd h' h) (fun _ rc' => ⟨rfl, sc_mk J⟩))
section
variable {N : Nat} {LD M PL LN : Nat → Int32}
theorem sx_ini_103 {post : SX → Prop} (hN : N ≤ 16) (h : ∀ LD M PL LN, (∀ a, a < N → LD a = nI a ∧ M a = (1 : Int32) <<< (nI a &&& 31) ∧ PL a = nI a ∧ LN a = nI a) → post (nI N, nI N, 0, (fun _ => 0), (fun _ => 0), LD, M, PL, LN, (fun _ => 0), (fun _ => 0), (fun _ => 0))) : ∀ d i LD M PL LN, i + d = N → (∀ a, a < i → LD a = nI a ∧ M a = (1 : Int32) <<< (nI a &&& 31) ∧ PL a = nI a ∧ LN a = nI a) → wX_init_103 post (nI N) 0 0 (d + 1) (nI i) (fun _ => 0) (fun _ => 0) LD M PL LN (fun _ => 0) (fun _ => 0) (fun _ => 0) := by
  intro d
  induction d with
  | zero =>
    intro i LD M PL LN hi hj
    have e : i = N := by omega
    subst e
    exact br_t (nI_le (Nat.le_refl _) (by omega)) (h LD M PL LN hj)
  | succ d ih =>
    intro i LD M PL LN hi hj
    have vi : vp_in (nI i) 16 := sc_vin (by omega) (by omega)
    have put : ∀ A : Nat → Int32, upd A (nI i).toNatClampNeg (vp_nar .byte (nI i).toInt8.toInt32) = upd A i (nI i) := fun A => by rw [sc_cl (by omega), sc_nb (by omega)]
    refine br_f (nI_ge (by omega) (by omega)) (And.intro vi (nm_r (put LD) (And.intro vi (nm_r (e' := upd M i ((1 : Int32) <<< (nI i &&& 31))) (by rw [sc_cl (by omega)]) (And.intro vi (nm_r (put PL) (And.intro vi (nm_r (put LN) (nm_r (nI_1 i) (ih (i + 1) _ _ _ _ (by omega) fun a ha => ?_))))))))))
    by_cases e : a = i
    · subst e
      exact ⟨pk_us, pk_us, pk_us, pk_us⟩
    · rw [pk_un e, pk_un e, pk_un e, pk_un e]
      exact hj a (by omega)
theorem sc_inv0 (hN2 : 2 ≤ N) (hN : N ≤ 16) (h : ∀ a, a < N → LD a = nI a ∧ M a = (1 : Int32) <<< (nI a &&& 31) ∧ PL a = nI a ∧ LN a = nI a) : sc_Inv N (List.range N) (fun _ => 0) (fun _ => 0) LD M PL LN (fun _ => 0) := by
  have hE : ∀ a b, ¬ sc_E (fun _ => 0) a b := fun a b => sc_0I b
  have hR : ∀ a b, sc_R (sc_E (fun _ => 0)) a b → a = b := fun a b h => sc_R_ind (F := sc_E (fun _ => 0)) (M := fun b => a = b) rfl (fun w v _ _ z => absurd z (hE w v)) h
  have hl : ∀ a, sc_l (sc_E (fun _ => 0)) a = a := fun a => (hR _ _ (sc_l_Q a).1).symm
  refine ⟨hN2, hN, fun a b z => absurd z (sc_0I b), fun a b => (b_0 a).trans (b_0 b).symm, ?_, ⟨?_, ?_⟩, ⟨List.nodup_range, ?_, ?_⟩, ?_⟩
  · intro a b _ _
    show (0 : Int32) = nI (bt 0 b).toNat
    rw [b_0]
    rfl
  · intro a ha
    rw [hl, hl]
    exact ⟨ha, rfl, (h a ha).1⟩
  · intro c hc _ b
    rw [(h c hc).2.1, sc_one c (by omega), hl]
    exact ⟨fun e => ⟨by omega, e⟩, fun e => e.2⟩
  · intro c
    rw [List.mem_range, hl]
    exact ⟨fun z => ⟨z, rfl⟩, fun z => z.1⟩
  · intro i c hc
    obtain ⟨z, e⟩ := List.getElem?_eq_some_iff.mp hc
    rw [List.length_range] at z
    rw [List.getElem_range] at e
    subst e
    exact ⟨(h i z).2.2.2, (h i z).2.2.1⟩
  · unfold sc_Top
    exact List.Pairwise.imp (fun {a b} _ => fun x y z => absurd z (hE x y)) List.nodup_range
theorem sx_ini {post : SX → Prop} (hN : N ≤ 16) (h : ∀ LD M PL LN, (∀ a, a < N → LD a = nI a ∧ M a = (1 : Int32) <<< (nI a &&& 31) ∧ PL a = nI a ∧ LN a = nI a) → post (nI N, nI N, 0, (fun _ => 0), (fun _ => 0), LD, M, PL, LN, (fun _ => 0), (fun _ => 0), (fun _ => 0))) : ∃ n, wX_init_103 post (nI N) 0 0 n 0 (fun _ => 0) (fun _ => 0) (fun _ => 0) (fun _ => 0) (fun _ => 0) (fun _ => 0) (fun _ => 0) (fun _ => 0) (fun _ => 0) :=
  ⟨N + 1, sx_ini_103 hN h N 0 _ _ _ _ (by omega) (fun a ha => by omega)⟩
theorem sc_rel0 (hN2 : 2 ≤ N) (hN : N ≤ 16) (h : ∀ a, a < N → LD a = nI a ∧ M a = (1 : Int32) <<< (nI a &&& 31) ∧ PL a = nI a ∧ LN a = nI a) : i_Rel 1 (nI N, nI N, 0, (fun _ => 0), (fun _ => 0), LD, M, PL, LN, (fun _ => 0), (fun _ => 0), (fun _ => 0)) (nI N, (fun _ => 0), (fun _ => 0), (fun _ => 0)) := by
  have := sc_mk (k := 1) (fn := 0) (NL := fun _ => 0) (HT := fun _ => 0) (PC := fun _ => 0) (rc := fun _ => 0) (hg := fun _ => 0) (sc_inv0 hN2 hN h)
  rw [List.length_range] at this
  exact this
end
theorem i_vc0 (k0 : Int32) : wpX_init (fun u => wpY_init (fun v => i_Rel 1 u v) k0) k0 := by
  unfold wpX_init
  by_cases h2 : 2 ≤ k0
  · by_cases h16 : k0 ≤ 16
    · have h0 : ¬ k0 < 0 := by
        rw [Int32.lt_iff_toInt_lt]
        rw [Int32.le_iff_toInt_le] at h2
        have a : (2 : Int32).toInt = 2 := by decide
        have b : (0 : Int32).toInt = 0 := by decide
        omega
      obtain ⟨N, hN, rfl⟩ := nI_of2 (M := 16) (n := 16) (by decide) h0 h16
      have hN2 : 2 ≤ N := (nI_leI (a := 2) (by omega) (by omega)).mp h2
      exact br_t h2 (br_t h16 (sx_ini hN fun LD M PL LN h => br_t h2 (br_t h16 (sc_rel0 hN2 hN h))))
    · exact br_t h2 (br_f h16 (sx_ini (N := 16) (by omega) fun LD M PL LN h => br_t h2 (br_f h16 (sc_rel0 (by omega) (by omega) h))))
  · exact br_f h2 (sx_ini (N := 2) (by omega) fun LD M PL LN h => br_f h2 (sc_rel0 (by omega) (by omega) h))
end
section
/-! the walk of repairLine -/
section
variable {N : Nat} {fl fn : Int32} {T S LD M PL LN NL HT PC : Nat → Int32} {ln ys : List Nat} {post : Int32 → SX → Prop}
theorem sx_rep_221 {x7 : Int32} (hln : ∀ i c, ln[i]? = some c → LN i = nI c) (hlen : ln.length ≤ 16) (hy : ys.length ≤ 16) (hc : ∀ c, c ∈ ys → c < 16) (dy : ys.Nodup) (h : ∀ PL' LN' NL', (∀ i c, ys[i]? = some c → LN' i = nI c ∧ PL' c = nI i) → post x7 (nI N, nI ys.length, nI ys.length, T, S, LD, M, PL', LN', NL', HT, PC)) :
    ∀ d i xs NL, i + d = ln.length → sc_At NL xs → xs ++ sc_seg ln i ln.length = ys → wX_repairLine_221 post x7 (d + 1) (nI i) (nI N) (nI ln.length) (nI xs.length) T S LD M PL LN NL HT PC := by
  intro d
  induction d with
  | zero =>
    intro i xs NL hi ha e
    rw [sc_seg_n (by omega), List.append_nil] at e
    subst e
    exact br_t (nI_le (by omega) (by omega)) (sx_ado hy hc dy ha fun PL' LN' hh => h PL' LN' NL hh)
  | succ d ih =>
    intro i xs NL hi ha e
    obtain ⟨c, hgc⟩ := sc_get (ln := ln) (i := i) (by omega)
    have e1 : LN (nI i).toNatClampNeg = nI c := by rw [sc_cl (by omega)]; exact hln i c hgc
    rw [sc_seg_c hgc (by omega)] at e
    have hcy : c < 16 := hc c (by rw [← e]; simp)
    have hq : xs.length < 16 := by
      have := congrArg List.length e
      simp at this
      omega
    have K := ih (i + 1) (xs ++ [c]) (upd NL xs.length (nI c)) (by omega) (sc_At_app ha c) (by rw [List.append_assoc]; exact e)
    rw [show (xs ++ [c]).length = xs.length + 1 from by simp] at K
    refine br_f (nI_ge (by omega) (by omega)) ?_
    rw [e1]
    exact And.intro (sc_vin (by omega) (by omega)) (sx_app hq (by omega) (nm_r (nI_1 i) K))
theorem sx_rep_167 {x7 fw Z : Int32} {high : Nat} (hln : ∀ i c, ln[i]? = some c → LN i = nI c) (hlen : ln.length ≤ 16) (hh : high < ln.length) (hln16 : ∀ c, c ∈ ln → c < 16) (hy : ys.length ≤ 16) (hc : ∀ c, c ∈ ys → c < 16) (dy : ys.Nodup) (h : ∀ PL' LN' NL', (∀ i c, ys[i]? = some c → LN' i = nI c ∧ PL' c = nI i) → post x7 (nI N, nI ys.length, nI ys.length, T, S, LD, M, PL', LN', NL', HT, PC)) :
    ∀ d i xs NL, i + d = high + 1 → sc_At NL xs → xs ++ ((sc_seg ln i (high + 1)).filter (bt (fw &&& (Z ^^^ (-1)))) ++ sc_seg ln (high + 1) ln.length) = ys → wX_repairLine_167 post (nI high) fw Z x7 (d + 1) (nI i) (nI N) (nI ln.length) (nI xs.length) T S LD M PL LN NL HT PC := by
  intro d
  induction d with
  | zero =>
    intro i xs NL hi ha e
    rw [sc_seg_n (i := i) (by omega), List.filter_nil, List.nil_append] at e
    exact br_t (nI_lt (by omega) (by omega)) (nm_r (nI_1 high) ⟨ln.length - (high + 1) + 1, sx_rep_221 hln hlen hy hc dy h _ (high + 1) xs NL (by omega) ha e⟩)
  | succ d ih =>
    intro i xs NL hi ha e
    obtain ⟨c, hgc⟩ := sc_get (ln := ln) (i := i) (by omega)
    have e1 : LN (nI i).toNatClampNeg = nI c := by rw [sc_cl (by omega)]; exact hln i c hgc
    have hcl : c < 16 := hln16 c (List.mem_of_getElem? hgc)
    rw [sc_seg_c hgc (by omega)] at e
    refine br_f (nI_nlt (by omega) (by omega)) (nm_e ?_)
    rw [e1]
    refine And.intro (sc_vin (by omega) (by omega)) (sc_br c (by omega) (fun hb => nm_r (nI_1 i) (ih (i + 1) xs NL (by omega) ha ?_)) (fun hb => And.intro (sc_vin (by omega) (by omega)) ?_))
    · rw [List.filter_cons_of_neg (by rw [hb]; decide)] at e
      exact e
    · rw [List.filter_cons_of_pos hb] at e
      have hq : xs.length < 16 := by
        have := congrArg List.length e
        simp at this
        omega
      have K := ih (i + 1) (xs ++ [c]) (upd NL xs.length (nI c)) (by omega) (sc_At_app ha c) (by rw [List.append_assoc]; exact e)
      rw [show (xs ++ [c]).length = xs.length + 1 from by simp] at K
      exact sx_app hq (by omega) (nm_r (nI_1 i) K)
theorem sx_rep_93 {fw Z : Int32} {low high : Nat} {zs : List Nat} (hln : ∀ i c, ln[i]? = some c → LN i = nI c) (hlen : ln.length ≤ 16) (hh : high < ln.length) (hln16 : ∀ c, c ∈ ln → c < 16) (hz : zs.length ≤ 16) (h : ∀ NL n, sc_At NL zs → wX_repairLine_93 post (nI low) (nI high) fw Z (n + 1) (nI (high + 1)) (nI N) (nI ln.length) (nI zs.length) T S LD M PL LN NL HT PC) :
    ∀ d i xs NL, i + d = high + 1 → sc_At NL xs → xs ++ (sc_seg ln i (high + 1)).filter (fun c => !bt fw c) = zs → wX_repairLine_93 post (nI low) (nI high) fw Z (d + 1) (nI i) (nI N) (nI ln.length) (nI xs.length) T S LD M PL LN NL HT PC := by
  intro d
  induction d with
  | zero =>
    intro i xs NL hi ha e
    rw [sc_seg_n (i := i) (by omega), List.filter_nil, List.append_nil] at e
    subst e
    have : i = high + 1 := by omega
    subst this
    exact h NL 0 ha
  | succ d ih =>
    intro i xs NL hi ha e
    obtain ⟨c, hgc⟩ := sc_get (ln := ln) (i := i) (by omega)
    have e1 : LN (nI i).toNatClampNeg = nI c := by rw [sc_cl (by omega)]; exact hln i c hgc
    have hcl : c < 16 := hln16 c (List.mem_of_getElem? hgc)
    rw [sc_seg_c hgc (by omega)] at e
    refine br_f (nI_nlt (by omega) (by omega)) ?_
    rw [e1]
    refine And.intro (sc_vin (by omega) (by omega)) (sc_br c (by omega) (fun hb => And.intro (sc_vin (by omega) (by omega)) ?_) (fun hb => nm_r (nI_1 i) (ih (i + 1) xs NL (by omega) ha ?_)))
    · rw [List.filter_cons_of_pos (by rw [hb]; decide)] at e
      have hq : xs.length < 16 := by
        have := congrArg List.length e
        simp at this
        omega
      have K := ih (i + 1) (xs ++ [c]) (upd NL xs.length (nI c)) (by omega) (sc_At_app ha c) (by rw [List.append_assoc]; exact e)
      rw [show (xs ++ [c]).length = xs.length + 1 from by simp] at K
      exact sx_app hq (by omega) (nm_r (nI_1 i) K)
    · rw [List.filter_cons_of_neg (by rw [hb]; decide)] at e
      exact e
theorem sx_rep_67 {fw Z : Int32} {low high : Nat} {zs : List Nat} (hln : ∀ i c, ln[i]? = some c → LN i = nI c) (hlen : ln.length ≤ 16) (hll : low ≤ high) (hh : high < ln.length) (hln16 : ∀ c, c ∈ ln → c < 16) (hz : zs.length ≤ 16) (h : ∀ NL n, sc_At NL zs → wX_repairLine_93 post (nI low) (nI high) fw Z (n + 1) (nI (high + 1)) (nI N) (nI ln.length) (nI zs.length) T S LD M PL LN NL HT PC) :
    ∀ d i xs NL, i + d = low → sc_At NL xs → xs ++ (sc_seg ln i low ++ (sc_seg ln low (high + 1)).filter (fun c => !bt fw c)) = zs → wX_repairLine_67 post (nI low) (nI high) fw Z (d + 1) (nI i) (nI N) (nI ln.length) (nI xs.length) T S LD M PL LN NL HT PC := by
  intro d
  induction d with
  | zero =>
    intro i xs NL hi ha e
    rw [sc_seg_n (i := i) (by omega), List.nil_append] at e
    exact br_t (nI_le (by omega) (by omega)) ⟨high + 1 - low + 1, sx_rep_93 hln hlen hh hln16 hz h _ low xs NL (by omega) ha e⟩
  | succ d ih =>
    intro i xs NL hi ha e
    obtain ⟨c, hgc⟩ := sc_get (ln := ln) (i := i) (by omega)
    have e1 : LN (nI i).toNatClampNeg = nI c := by rw [sc_cl (by omega)]; exact hln i c hgc
    have hcl : c < 16 := hln16 c (List.mem_of_getElem? hgc)
    rw [sc_seg_c hgc (by omega)] at e
    have hq : xs.length < 16 := by
      have := congrArg List.length e
      simp at this
      omega
    have K := ih (i + 1) (xs ++ [c]) (upd NL xs.length (nI c)) (by omega) (sc_At_app ha c) (by rw [List.append_assoc]; exact e)
    rw [show (xs ++ [c]).length = xs.length + 1 from by simp] at K
    refine br_f (nI_ge (by omega) (by omega)) ?_
    rw [e1]
    exact And.intro (sc_vin (by omega) (by omega)) (sx_app hq (by omega) (nm_r (nI_1 i) K))
/-- what repairLine does, when nothing melts -/
theorem sx_repA {fw : Int32} {low high : Nat} (hln : ∀ i c, ln[i]? = some c → LN i = nI c) (hlen : ln.length ≤ 16) (hll : low ≤ high) (hh : high < ln.length) (hln16 : ∀ c, c ∈ ln → c < 16) (hy : ys.length ≤ 16) (hc : ∀ c, c ∈ ys → c < 16) (dy : ys.Nodup)
    (e : (sc_seg ln 0 low ++ (sc_seg ln low (high + 1)).filter (fun c => !bt fw c)) ++ ((sc_seg ln low (high + 1)).filter (bt (fw &&& ((0 : Int32) ^^^ (-1)))) ++ sc_seg ln (high + 1) ln.length) = ys)
    (h : ∀ PL' LN' NL', (∀ i c, ys[i]? = some c → LN' i = nI c ∧ PL' c = nI i) → post 0 (nI N, nI ys.length, nI ys.length, T, S, LD, M, PL', LN', NL', HT, PC)) : ∃ n, wX_repairLine_67 post (nI low) (nI high) fw 0 n 0 (nI N) (nI ln.length) 0 T S LD M PL LN NL HT PC := by
  have hz : (sc_seg ln 0 low ++ (sc_seg ln low (high + 1)).filter (fun c => !bt fw c)).length ≤ 16 := by
    have := congrArg List.length e
    rw [List.length_append] at this
    omega
  refine ⟨low + 1, sx_rep_67 (zs := sc_seg ln 0 low ++ (sc_seg ln low (high + 1)).filter (fun c => !bt fw c)) hln hlen hll hh hln16 hz (fun NL n ha => ?_) low 0 [] NL (by omega) sc_At_nil rfl⟩
  exact br_t (nI_lt (by omega) (by omega)) (br_t rfl ⟨high + 1 - low + 1, sx_rep_167 hln hlen hh hln16 hy hc dy h _ low _ NL (by omega) ha e⟩)
/-- .. and when the leaders in Z melt -/
theorem sx_repB {fw Z : Int32} {low high c0 j : Nat} (hN : N ≤ 16) (hln : ∀ i c, ln[i]? = some c → LN i = nI c) (hlen : ln.length ≤ 16) (hll : low ≤ high) (hh : high < ln.length) (hln16 : ∀ c, c ∈ ln → c < 16) (hz16 : (sc_seg ln 0 low ++ (sc_seg ln low (high + 1)).filter (fun c => !bt fw c)).length < 16)
    (hc0 : c0 < N) (hz0 : bt Z c0 = true) (hj : bt (M c0) j = true) (hj16 : j < 16)
    (h : ∀ m LD' M' y, (∀ b, bt y b = true ↔ ∃ c, c < N ∧ bt Z c = true ∧ bt (M c) b = true) → (∀ c, M' c = if c < N ∧ bt Z c = true then 0 else M c) → bt y m = true → m < 16 → (∀ i, i < m → bt y i = false) → (∀ a, LD' a = if a < N ∧ bt y a = true then nI m else LD a) →
      ∃ ys : List Nat, ys.length ≤ 16 ∧ (∀ c, c ∈ ys → c < 16) ∧ ys.Nodup ∧ ((sc_seg ln 0 low ++ (sc_seg ln low (high + 1)).filter (fun c => !bt fw c)) ++ [m]) ++ ((sc_seg ln low (high + 1)).filter (bt (fw &&& (Z ^^^ (-1)))) ++ sc_seg ln (high + 1) ln.length) = ys ∧
      ∀ PL' LN' NL', (∀ i c, ys[i]? = some c → LN' i = nI c ∧ PL' c = nI i) → post (nI (sc_cn (bt Z) 16) - 1) (nI N, nI ys.length, nI ys.length, T, S, LD', upd M' m y, PL', LN', NL', HT, PC)) : ∃ n, wX_repairLine_67 post (nI low) (nI high) fw Z n 0 (nI N) (nI ln.length) 0 T S LD M PL LN NL HT PC := by
  refine ⟨low + 1, sx_rep_67 (zs := sc_seg ln 0 low ++ (sc_seg ln low (high + 1)).filter (fun c => !bt fw c)) hln hlen hll hh hln16 (by omega) (fun NL n ha => ?_) low 0 [] NL (by omega) sc_At_nil rfl⟩
  refine br_t (nI_lt (by omega) (by omega)) (br_f (fun z => sc_z.mp z c0 hz0) (sx_bits (nm_e (sx_mel hN hc0 hz0 hj hj16 fun m LD' M' y h1 h2 h3 h4 h5 h6 => ?_))))
  obtain ⟨ys, y1, y2, y3, y4, y5⟩ := h m LD' M' y h1 h2 h3 h4 h5 h6
  have ha' := sc_At_app ha m
  have K := sx_rep_167 (post := post) (x7 := nI (sc_cn (bt Z) 16) - 1) (fw := fw) (Z := Z) (T := T) (S := S) (LD := LD') (M := upd M' m y) (PL := PL) (HT := HT) (PC := PC) (N := N) hln hlen hh hln16 y1 y2 y3 y5 (high + 1 - low) low _ _ (by omega) ha' y4
  rw [show ((sc_seg ln 0 low ++ (sc_seg ln low (high + 1)).filter (fun c => !bt fw c)) ++ [m]).length = (sc_seg ln 0 low ++ (sc_seg ln low (high + 1)).filter (fun c => !bt fw c)).length + 1 from by rw [List.length_append]; rfl] at K
  exact sx_app hz16 (by omega) ⟨_, K⟩
end
end
section
/-! the plain law of one edge more -/
theorem sc_seg_m {ln : List Nat} (d : ln.Nodup) {i e c : Nat} : c ∈ sc_seg ln i e ↔ c ∈ ln ∧ i ≤ ln.idxOf c ∧ ln.idxOf c < e := by
  unfold sc_seg
  rw [List.mem_iff_getElem?]
  constructor
  · rintro ⟨j, hj⟩
    rw [List.getElem?_drop, List.getElem?_take] at hj
    split at hj
    · have := sc_at d hj
      exact ⟨this.2.2, by omega, by omega⟩
    · cases hj
  · rintro ⟨h1, h2, h3⟩
    refine ⟨ln.idxOf c - i, ?_⟩
    rw [List.getElem?_drop, List.getElem?_take, show i + (ln.idxOf c - i) = ln.idxOf c from by omega, if_pos h3]
    exact (sc_ix h1).1
theorem sc_seg_s {ln : List Nat} {i e : Nat} : (sc_seg ln i e).Sublist ln := (List.drop_sublist i _).trans (List.take_sublist e ln)
section
variable {E E' : Nat → Nat → Prop} {N u v : Nat} {ln mm : List Nat} {p1 p2 : Nat → Bool}
/-- on the cycle that the new edge closes -/
def sc_Z (E : Nat → Nat → Prop) (u v a : Nat) : Prop := sc_R E v a ∧ sc_R E a u
theorem sc_Q_add (hG : ∀ a b, E' a b ↔ E a b ∨ (a = u ∧ b = v)) {a b : Nat} : sc_Q E' a b ↔ sc_Q E a b ∨ (sc_Z E u v a ∧ sc_Z E u v b) := by
  unfold sc_Q sc_Z
  rw [sc_R_add hG, sc_R_add hG]
  constructor
  · rintro ⟨h1 | ⟨h1, h2⟩, h3 | ⟨h3, h4⟩⟩
    · exact Or.inl ⟨h1, h3⟩
    · exact Or.inr ⟨⟨h4, sc_R_trans h1 h3⟩, sc_R_trans h4 h1, h3⟩
    · exact Or.inr ⟨⟨sc_R_trans h2 h3, h1⟩, h2, sc_R_trans h3 h1⟩
    · exact Or.inr ⟨⟨h4, h1⟩, h2, h3⟩
  · rintro (⟨h1, h2⟩ | ⟨⟨h1, h2⟩, h3, h4⟩)
    · exact ⟨Or.inl h1, Or.inl h2⟩
    · exact ⟨Or.inr ⟨h2, h3⟩, Or.inr ⟨h4, h1⟩⟩
theorem sc_Z_Q (hG : ∀ a b, E' a b ↔ E a b ∨ (a = u ∧ b = v)) {a b : Nat} (h : sc_Q E' a b) (ha : sc_Z E u v a) : sc_Z E u v b := by
  rcases (sc_Q_add hG).mp h with z | z
  · exact ⟨sc_R_trans ha.1 z.1, sc_R_trans z.2 ha.2⟩
  · exact z.2
theorem sc_l_nz (hG : ∀ a b, E' a b ↔ E a b ∨ (a = u ∧ b = v)) {a : Nat} (h : ¬ sc_Z E u v a) : sc_l E' a = sc_l E a :=
  sc_l_co fun x => by
    rw [sc_Q_add hG]
    exact ⟨fun z => z.elim id (fun z => absurd z.1 h), Or.inl⟩
theorem sc_l_z (hG : ∀ a b, E' a b ↔ E a b ∨ (a = u ∧ b = v)) {a m : Nat} (h : sc_Z E u v a) (hm : sc_Z E u v m) (hmin : ∀ x, sc_Z E u v x → m ≤ x) : sc_l E' a = m :=
  sc_l_is ((sc_Q_add hG).mpr (Or.inr ⟨h, hm⟩)) fun x hx => hmin x (sc_Z_Q hG hx h)
theorem sc_Zl (a : Nat) : sc_Z E u v (sc_l E a) ↔ sc_Z E u v a := by
  have q := sc_l_Q (F := E) a
  exact ⟨fun z => ⟨sc_R_trans z.1 q.2, sc_R_trans q.1 z.2⟩, fun z => ⟨sc_R_trans z.1 q.1, sc_R_trans q.2 z.2⟩⟩
/-- places of what lies on the new cycle -/
theorem sc_Z_ix (hE : ∀ a b, E a b → a < N ∧ b < N) (hl : ∀ a, a < N → sc_l E a ∈ ln) (t : sc_Top E (sc_l E) ln) (hv : v < N) {a : Nat} (h : sc_Z E u v a) : a < N ∧ ln.idxOf (sc_l E v) ≤ ln.idxOf (sc_l E a) ∧ ln.idxOf (sc_l E a) ≤ ln.idxOf (sc_l E u) := by
  have ha : a < N := sc_R_bd (fun a b h => (hE a b h).2) hv h.1
  exact ⟨ha, sc_topR hE hl t hv h.1, sc_topR hE hl t ha h.2⟩
/-- the new line -/
def sc_ys (ln mm : List Nat) (p1 p2 : Nat → Bool) (low high : Nat) : List Nat := ((sc_seg ln 0 low ++ (sc_seg ln low (high + 1)).filter p1) ++ mm) ++ ((sc_seg ln low (high + 1)).filter p2 ++ sc_seg ln (high + 1) ln.length)
/-- what the law knows of the old line and of the two tests -/
def sc_AH (E : Nat → Nat → Prop) (N u v : Nat) (ln : List Nat) (p1 p2 : Nat → Bool) : Prop :=
  (∀ a b, E a b → a < N ∧ b < N) ∧ u < N ∧ v < N ∧ ln.Nodup ∧ (∀ c, c ∈ ln ↔ c < N ∧ sc_l E c = c) ∧ sc_Top E (sc_l E) ln ∧ ln.idxOf (sc_l E v) < ln.idxOf (sc_l E u) ∧
  (∀ c, c ∈ ln → ln.idxOf c ≤ ln.idxOf (sc_l E u) → (p1 c = true ↔ ¬ sc_R E v c)) ∧ (∀ c, c ∈ ln → ln.idxOf c ≤ ln.idxOf (sc_l E u) → (p2 c = true ↔ sc_R E v c ∧ ¬ sc_R E c u))
theorem sc_ys_m (A : sc_AH E N u v ln p1 p2) {c : Nat} : c ∈ sc_ys ln mm p1 p2 (ln.idxOf (sc_l E v)) (ln.idxOf (sc_l E u)) ↔ (c ∈ ln ∧ ¬ sc_Z E u v c) ∨ c ∈ mm := by
  obtain ⟨hE, hu, hv, d, hm, t, hlt, h1, h2⟩ := A
  have hl : ∀ a, a < N → sc_l E a ∈ ln := fun a ha => (hm _).mpr ⟨sc_l_lt ha, sc_l_ll a⟩
  have iu := (sc_ix (hl u hu)).2
  unfold sc_ys
  simp only [List.mem_append, List.mem_filter, sc_seg_m d]
  constructor
  · rintro (((⟨a1, a2, a3⟩ | ⟨⟨a1, a2, a3⟩, a4⟩) | a1) | ⟨⟨a1, a2, a3⟩, a4⟩ | ⟨a1, a2, a3⟩)
    · refine Or.inl ⟨a1, fun z => ?_⟩
      have := sc_Z_ix hE hl t hv z
      rw [((hm c).mp a1).2] at this
      omega
    · exact Or.inl ⟨a1, fun z => (h1 c a1 (by omega)).mp a4 z.1⟩
    · exact Or.inr a1
    · exact Or.inl ⟨a1, fun z => ((h2 c a1 (by omega)).mp a4).2 z.2⟩
    · refine Or.inl ⟨a1, fun z => ?_⟩
      have := sc_Z_ix hE hl t hv z
      rw [((hm c).mp a1).2] at this
      omega
  · rintro (⟨a1, a2⟩ | a1)
    · have ic := (sc_ix a1).2
      rcases Nat.lt_or_ge (ln.idxOf c) (ln.idxOf (sc_l E v)) with z | z
      · exact Or.inl (Or.inl (Or.inl ⟨a1, by omega, z⟩))
      · rcases Nat.lt_or_ge (ln.idxOf (sc_l E u)) (ln.idxOf c) with z' | z'
        · exact Or.inr (Or.inr ⟨a1, by omega, ic⟩)
        · by_cases r : sc_R E v c
          · exact Or.inr (Or.inl ⟨⟨a1, z, by omega⟩, (h2 c a1 z').mpr ⟨r, fun w => a2 ⟨r, w⟩⟩⟩)
          · exact Or.inl (Or.inl (Or.inr ⟨⟨a1, z, by omega⟩, (h1 c a1 z').mpr r⟩))
    · exact Or.inl (Or.inr a1)
/-- the pairs of the new line, for any relation R that holds between its parts -/
theorem sc_ys_p {R : Nat → Nat → Prop} (A : sc_AH E N u v ln p1 p2) (hmm : mm.Pairwise R)
    (hln : ∀ a b, a ∈ ln → b ∈ ln → ¬ sc_Z E u v a → ¬ sc_Z E u v b → ln.idxOf a < ln.idxOf b → (ln.idxOf (sc_l E v) ≤ ln.idxOf a → ln.idxOf a ≤ ln.idxOf (sc_l E u) → ln.idxOf (sc_l E v) ≤ ln.idxOf b → ln.idxOf b ≤ ln.idxOf (sc_l E u) → (sc_R E v a ↔ sc_R E v b)) → R a b)
    (hx : ∀ a b, a ∈ ln → b ∈ ln → ¬ sc_R E v a → sc_R E v b → ¬ sc_R E b u → ln.idxOf a ≤ ln.idxOf (sc_l E u) → ln.idxOf b ≤ ln.idxOf (sc_l E u) → R a b)
    (hm1 : ∀ a b, a ∈ ln → b ∈ mm → ¬ sc_Z E u v a → ln.idxOf a ≤ ln.idxOf (sc_l E u) → (ln.idxOf (sc_l E v) ≤ ln.idxOf a → ¬ sc_R E v a) → R a b)
    (hm2 : ∀ a b, a ∈ mm → b ∈ ln → ¬ sc_Z E u v b → ln.idxOf (sc_l E v) ≤ ln.idxOf b → (ln.idxOf b ≤ ln.idxOf (sc_l E u) → sc_R E v b ∧ ¬ sc_R E b u) → R a b) :
    (sc_ys ln mm p1 p2 (ln.idxOf (sc_l E v)) (ln.idxOf (sc_l E u))).Pairwise R := by
  have A' := A
  obtain ⟨hE, hu, hv, d, hm, t, hlt, h1, h2⟩ := A
  have hl : ∀ a, a < N → sc_l E a ∈ ln := fun a ha => (hm _).mpr ⟨sc_l_lt ha, sc_l_ll a⟩
  have iu := (sc_ix (hl u hu)).2
  have hlt' : ln.Pairwise (fun a b => ln.idxOf a < ln.idxOf b) := by
    rw [List.pairwise_iff_getElem]
    intro i j hi hj hij
    rw [List.Nodup.idxOf_getElem d i hi, List.Nodup.idxOf_getElem d j hj]
    exact hij
  -- the four parts
  have mA : ∀ c, c ∈ sc_seg ln 0 (ln.idxOf (sc_l E v)) → c ∈ ln ∧ ¬ sc_Z E u v c ∧ ln.idxOf c < ln.idxOf (sc_l E v) := by
    intro c hc
    obtain ⟨a1, a2, a3⟩ := (sc_seg_m d).mp hc
    refine ⟨a1, fun z => ?_, a3⟩
    have := sc_Z_ix hE hl t hv z
    rw [((hm c).mp a1).2] at this
    omega
  have mP : ∀ c, c ∈ (sc_seg ln (ln.idxOf (sc_l E v)) (ln.idxOf (sc_l E u) + 1)).filter p1 → c ∈ ln ∧ ¬ sc_Z E u v c ∧ ln.idxOf (sc_l E v) ≤ ln.idxOf c ∧ ln.idxOf c ≤ ln.idxOf (sc_l E u) ∧ ¬ sc_R E v c := by
    intro c hc
    rw [List.mem_filter, sc_seg_m d] at hc
    obtain ⟨⟨a1, a2, a3⟩, a4⟩ := hc
    have r := (h1 c a1 (by omega)).mp a4
    exact ⟨a1, fun z => r z.1, a2, by omega, r⟩
  have mQ : ∀ c, c ∈ (sc_seg ln (ln.idxOf (sc_l E v)) (ln.idxOf (sc_l E u) + 1)).filter p2 → c ∈ ln ∧ ¬ sc_Z E u v c ∧ ln.idxOf (sc_l E v) ≤ ln.idxOf c ∧ ln.idxOf c ≤ ln.idxOf (sc_l E u) ∧ sc_R E v c ∧ ¬ sc_R E c u := by
    intro c hc
    rw [List.mem_filter, sc_seg_m d] at hc
    obtain ⟨⟨a1, a2, a3⟩, a4⟩ := hc
    have r := (h2 c a1 (by omega)).mp a4
    exact ⟨a1, fun z => r.2 z.2, a2, by omega, r⟩
  have mB : ∀ c, c ∈ sc_seg ln (ln.idxOf (sc_l E u) + 1) ln.length → c ∈ ln ∧ ¬ sc_Z E u v c ∧ ln.idxOf (sc_l E u) < ln.idxOf c := by
    intro c hc
    obtain ⟨a1, a2, a3⟩ := (sc_seg_m d).mp hc
    refine ⟨a1, fun z => ?_, by omega⟩
    have := sc_Z_ix hE hl t hv z
    rw [((hm c).mp a1).2] at this
    omega
  unfold sc_ys
  rw [List.pairwise_append, List.pairwise_append, List.pairwise_append, List.pairwise_append]
  refine ⟨⟨⟨?_, ?_, ?_⟩, hmm, ?_⟩, ⟨?_, ?_, ?_⟩, ?_⟩
  · refine List.Pairwise.imp_of_mem (fun {a b} ha hb hab => ?_) (hlt'.sublist sc_seg_s)
    have xa := mA a ha
    have xb := mA b hb
    exact hln a b xa.1 xb.1 xa.2.1 xb.2.1 hab (fun w => by omega)
  · refine List.Pairwise.imp_of_mem (fun {a b} ha hb hab => ?_) ((hlt'.sublist sc_seg_s).sublist List.filter_sublist)
    have xa := mP a ha
    have xb := mP b hb
    exact hln a b xa.1 xb.1 xa.2.1 xb.2.1 hab (fun _ _ _ _ => ⟨fun w => absurd w xa.2.2.2.2, fun w => absurd w xb.2.2.2.2⟩)
  · intro a ha b hb
    have xa := mA a ha
    have xb := mP b hb
    exact hln a b xa.1 xb.1 xa.2.1 xb.2.1 (by omega) (fun w => by omega)
  · intro a ha b hb
    rcases List.mem_append.mp ha with ha | ha
    · have xa := mA a ha
      exact hm1 a b xa.1 hb xa.2.1 (by omega) (fun w => by omega)
    · have xa := mP a ha
      exact hm1 a b xa.1 hb xa.2.1 xa.2.2.2.1 (fun _ => xa.2.2.2.2)
  · refine List.Pairwise.imp_of_mem (fun {a b} ha hb hab => ?_) ((hlt'.sublist sc_seg_s).sublist List.filter_sublist)
    have xa := mQ a ha
    have xb := mQ b hb
    exact hln a b xa.1 xb.1 xa.2.1 xb.2.1 hab (fun _ _ _ _ => ⟨fun _ => xb.2.2.2.2.1, fun _ => xa.2.2.2.2.1⟩)
  · refine List.Pairwise.imp_of_mem (fun {a b} ha hb hab => ?_) (hlt'.sublist sc_seg_s)
    have xa := mB a ha
    have xb := mB b hb
    exact hln a b xa.1 xb.1 xa.2.1 xb.2.1 hab (fun _ w => by omega)
  · intro a ha b hb
    have xa := mQ a ha
    have xb := mB b hb
    exact hln a b xa.1 xb.1 xa.2.1 xb.2.1 (by omega) (fun _ _ _ w => by omega)
  · intro a ha b hb
    rcases List.mem_append.mp ha with ha | ha
    · rcases List.mem_append.mp ha with ha | ha
      · have xa := mA a ha
        rcases List.mem_append.mp hb with hb | hb
        · have xb := mQ b hb
          exact hln a b xa.1 xb.1 xa.2.1 xb.2.1 (by omega) (fun w => by omega)
        · have xb := mB b hb
          exact hln a b xa.1 xb.1 xa.2.1 xb.2.1 (by omega) (fun w => by omega)
      · have xa := mP a ha
        rcases List.mem_append.mp hb with hb | hb
        · have xb := mQ b hb
          exact hx a b xa.1 xb.1 xa.2.2.2.2 xb.2.2.2.2.1 xb.2.2.2.2.2 xa.2.2.2.1 xb.2.2.2.1
        · have xb := mB b hb
          exact hln a b xa.1 xb.1 xa.2.1 xb.2.1 (by omega) (fun _ _ _ w => by omega)
    · rcases List.mem_append.mp hb with hb | hb
      · have xb := mQ b hb
        exact hm2 a b ha xb.1 xb.2.1 xb.2.2.1 (fun _ => xb.2.2.2.2)
      · have xb := mB b hb
        exact hm2 a b ha xb.1 xb.2.1 (by omega) (fun w => by omega)
theorem sc_ys_nd (A : sc_AH E N u v ln p1 p2) (hmm : mm.Nodup) (hz : ∀ c, c ∈ mm → sc_Z E u v c) : (sc_ys ln mm p1 p2 (ln.idxOf (sc_l E v)) (ln.idxOf (sc_l E u))).Nodup := by
  refine sc_ys_p A hmm (fun a b ha hb _ _ h _ e => ?_) (fun a b _ _ h1 h2 _ _ _ e => ?_) (fun a b _ hb h _ _ e => ?_) (fun a b ha _ h _ _ e => ?_)
  · rw [e] at h
    omega
  · rw [e] at h1
    exact h1 h2
  · rw [e] at h
    exact h (hz b hb)
  · rw [← e] at h
    exact h (hz a ha)
theorem sc_ys_len (A : sc_AH E N u v ln p1 p2) {zs : List Nat} (dz : zs.Nodup) (hz : ∀ c, c ∈ zs ↔ c ∈ ln ∧ sc_Z E u v c) : (sc_ys ln mm p1 p2 (ln.idxOf (sc_l E v)) (ln.idxOf (sc_l E u))).length + zs.length = ln.length + mm.length := by
  have e : (sc_ys ln zs p1 p2 (ln.idxOf (sc_l E v)) (ln.idxOf (sc_l E u))).length = ln.length := by
    refine sc_len (sc_ys_nd A dz fun c hc => ((hz c).mp hc).2) A.2.2.2.1 fun c => ?_
    rw [sc_ys_m A, hz]
    exact ⟨fun w => w.elim (fun w => w.1) (fun w => w.1), fun w => (Classical.em (sc_Z E u v c)).elim (fun z => Or.inr ⟨w, z⟩) (fun z => Or.inl ⟨w, z⟩)⟩
  unfold sc_ys at e ⊢
  simp only [List.length_append] at e ⊢
  omega
/-- the new line is in order -/
theorem sc_ys_top (A : sc_AH E N u v ln p1 p2) (hG : ∀ a b, E' a b ↔ E a b ∨ (a = u ∧ b = v)) (hmm : mm = [] ∨ ∃ m, mm = [m]) (hz : ∀ c, c ∈ mm → sc_Z E u v c) : sc_Top E' (sc_l E') (sc_ys ln mm p1 p2 (ln.idxOf (sc_l E v)) (ln.idxOf (sc_l E u))) := by
  have A' := A
  obtain ⟨hE, hu, hv, d, hm, t, hlt, h1, h2⟩ := A'
  have hl : ∀ a, a < N → sc_l E a ∈ ln := fun a ha => (hm _).mpr ⟨sc_l_lt ha, sc_l_ll a⟩
  have qu := sc_l_Q (F := E) u
  have qv := sc_l_Q (F := E) v
  have zz : ∀ x b, sc_l E' x = b → (sc_Z E u v x ↔ sc_Z E u v b) := by
    intro x b e
    have q : sc_Q E' x b := by rw [← e]; exact sc_l_Q x
    exact ⟨fun z => sc_Z_Q hG q z, fun z => sc_Z_Q hG (sc_Q_symm q) z⟩
  have ll : ∀ x b, sc_l E' x = b → ¬ sc_Z E u v b → sc_l E x = b := by
    intro x b e nz
    rw [← sc_l_nz hG (fun z => nz ((zz x b e).mp z))]
    exact e
  have qq : ∀ x b, sc_l E x = b → sc_Q E x b := fun x b e => by rw [← e]; exact sc_l_Q x
  refine sc_ys_p A ?_ ?_ ?_ ?_ ?_
  · rcases hmm with e | ⟨m, e⟩
    · rw [e]; exact List.Pairwise.nil
    · rw [e]; exact List.pairwise_singleton _ _
  · intro a b ha hb za zb hab hR x y hxy ex ey
    have lx := ll x b ex zb
    have ly := ll y a ey za
    rcases (hG x y).mp hxy with z | ⟨z1, z2⟩
    · have := sc_top t (x := x) (y := y) (by rw [lx]; exact hb) (by rw [ly]; exact ha) z
      rw [lx, ly] at this
      omega
    · subst z1 z2
      rw [← lx, ← ly] at hR
      have r := (hR (Nat.le_refl _) (by omega) (by omega) (Nat.le_refl _)).mp qv.1
      exact zb ⟨by rw [← lx]; exact r, by rw [← lx]; exact qu.2⟩
  · intro a b ha hb ra rb rb' ia ib x y hxy ex ey
    have zb : ¬ sc_Z E u v b := fun z => rb' z.2
    have za : ¬ sc_Z E u v a := fun z => ra z.1
    have lx := ll x b ex zb
    have ly := ll y a ey za
    rcases (hG x y).mp hxy with z | ⟨z1, z2⟩
    · exact ra (sc_R_trans rb (sc_R_trans (qq x b lx).2 (sc_R_head z (qq y a ly).1)))
    · subst z1 z2
      exact ra (by rw [← ly]; exact qv.1)
  · intro a b ha hb za ia hR x y hxy ex ey
    have zx : sc_Z E u v x := (zz x b ex).mpr (hz b hb)
    have ly := ll y a ey za
    rcases (hG x y).mp hxy with z | ⟨z1, z2⟩
    · have r : sc_R E v a := sc_R_trans zx.1 (sc_R_head z (qq y a ly).1)
      have i := sc_topR hE hl t hv r
      rw [((hm a).mp ha).2] at i
      exact hR i r
    · subst z1 z2
      exact za ((zz y a ey).mp ⟨sc_R_refl _, zx.1⟩)
  · intro a b ha hb zb ib hR x y hxy ex ey
    have zy : sc_Z E u v y := (zz y a ey).mpr (hz a ha)
    have lx := ll x b ex zb
    rcases (hG x y).mp hxy with z | ⟨z1, z2⟩
    · have r : sc_R E b u := sc_R_trans (qq x b lx).2 (sc_R_head z zy.2)
      have i := sc_topR hE hl t ((hm b).mp hb).1 r
      rw [((hm b).mp hb).2] at i
      exact (hR i).2 r
    · subst z1 z2
      exact zb ((zz x b ex).mp ⟨zy.2, sc_R_refl _⟩)
end
end
section
/-! addEdge -/
theorem sc_bwd_c {E : Nat → Nat → Prop} {N : Nat} {S : Nat → Int32} {l : Nat → Nat} {ln : List Nat} {r : Int32} {f low : Nat} (hsub : ∀ x y, E x y → bt (S y) x = true) (hE : ∀ a b, E a b → a < N ∧ b < N) (hl : ∀ a, a < N → l a ∈ ln) (t : sc_Top E l ln) (hfN : f < N) (hff : l f = f) (hb : bt r f = true) (hc : ∀ c, bt r c = true → ln.idxOf c ≤ ln.idxOf f → low ≤ ln.idxOf c → ∀ x y, bt (S x) y = true → l x = c → bt r (l y) = true) {y : Nat} (h : sc_R E y f) (hy : low ≤ ln.idxOf (l y)) : bt r (l y) = true := by
  refine sc_R_ind (F := fun a b => E b a) (M := fun y => low ≤ ln.idxOf (l y) → bt r (l y) = true) (fun _ => by rw [hff]; exact hb) (fun w v hw ih hE' hv => ?_) (sc_R_rev' h) hy
  have hwv := hE v w hE'
  have m := sc_top t (hl v hwv.1) (hl w hwv.2) hE'
  have m2 := sc_topR hE hl t hwv.2 (sc_R_rev hw)
  rw [hff] at m2
  exact hc (l w) (ih (by omega)) m2 (by omega) w v (hsub v w hE') rfl
theorem sc_T1 {T : Nat → Int32} {u v : Nat} (hv : v < 16) (a b : Nat) : bt (upd T u (T u ||| ((1 : Int32) <<< (nI v &&& 31))) a) b = true ↔ bt (T a) b = true ∨ (a = u ∧ b = v) := by
  by_cases e : a = u
  · rw [e, pk_us, sc_orI, sc_one v (by omega)]
    exact ⟨fun z => z.elim Or.inl (fun z => Or.inr ⟨rfl, z⟩), fun z => z.elim Or.inl (fun z => Or.inr z.2)⟩
  · rw [pk_un e]
    exact ⟨Or.inl, fun z => z.elim id (fun z => absurd z.1 e)⟩
section
variable {N u v : Nat} {T S LD M PL LN NL HT PC ed rc hg T' S' ed' : Nat → Int32} {ln mm : List Nat} {p1 p2 : Nat → Bool} {fn : Int32}
theorem sc_ys_l {E E' : Nat → Nat → Prop} (A : sc_AH E N u v ln p1 p2) (hG : ∀ a b, E' a b ↔ E a b ∨ (a = u ∧ b = v)) (hmm : ∀ c, c ∈ mm ↔ sc_Z E u v c ∧ sc_l E' c = c) (c : Nat) : c ∈ sc_ys ln mm p1 p2 (ln.idxOf (sc_l E v)) (ln.idxOf (sc_l E u)) ↔ c < N ∧ sc_l E' c = c := by
  rw [sc_ys_m A, hmm]
  obtain ⟨hE, hu, hv, d, hm, t, hlt, h1, h2⟩ := A
  have hl : ∀ a, a < N → sc_l E a ∈ ln := fun a ha => (hm _).mpr ⟨sc_l_lt ha, sc_l_ll a⟩
  by_cases z : sc_Z E u v c
  · exact ⟨fun w => w.elim (fun w => absurd z w.2) (fun w => ⟨(sc_Z_ix hE hl t hv z).1, w.2⟩), fun w => Or.inr ⟨z, w.2⟩⟩
  · rw [sc_l_nz hG z, hm]
    exact ⟨fun w => w.elim (fun w => w.1) (fun w => absurd w.1 z), fun w => Or.inl ⟨w, z⟩⟩
theorem sc_ys16 {E' : Nat → Nat → Prop} {ys : List Nat} (hN : N ≤ 16) (d : ys.Nodup) (hm : ∀ c, c ∈ ys ↔ c < N ∧ sc_l E' c = c) : ys.length ≤ 16 ∧ ∀ c, c ∈ ys → c < 16 := by
  have := sc_lnN (l := sc_l E') d hm
  exact ⟨by omega, fun c hc => by have := ((hm c).mp hc).1; omega⟩
/-- the repaired state is in order -/
theorem sx_addR {post : Int32 → SX → Prop} (I : sc_Inv N ln T S LD M PL LN ed) (hu : u < N) (hv : v < N) (hT1 : ∀ a b, bt (T' a) b = true ↔ bt (T a) b = true ∨ (a = u ∧ b = v)) (hS1 : ∀ a b, bt (S' b) a = bt (T' a) b) (hed1 : sc_Ed T' ed') (hlt : ln.idxOf (sc_l (sc_E T) v) < ln.idxOf (sc_l (sc_E T) u))
    (h : ∀ r ys fn' LD' M' PL' LN' NL', sc_Inv N ys T' S' LD' M' PL' LN' ed' → r = nI ln.length - nI ys.length → post r (nI N, nI ys.length, fn', T', S', LD', M', PL', LN', NL', HT, PC)) : wpX_repairLine post (nI N, nI ln.length, fn, T', S', LD, M, PL, LN, NL, HT, PC) (nI (sc_l (sc_E T) u)) (nI (sc_l (sc_E T) v)) := by
  obtain ⟨hN2, hN, hT, hS, hed, hY, hL, hTop⟩ := I
  have hl : ∀ a, a < N → sc_l (sc_E T) a ∈ ln := fun a z => sc_mem hL.2.1 (fun a z => ⟨(hY.1 a z).1, (hY.1 a z).2.1⟩) z
  have hlen := sc_lnN hL.1 hL.2.1
  have hG : ∀ a b, sc_E T' a b ↔ sc_E T a b ∨ (a = u ∧ b = v) := hT1
  have hT'N : ∀ a b, bt (T' a) b = true → a < N ∧ b < N := fun a b z => ((hT1 a b).mp z).elim (hT a b) (fun w => by rw [w.1, w.2]; exact ⟨hu, hv⟩)
  have hS'N := sc_Slt hT'N hS1
  have hsub : ∀ x y, sc_E T x y → bt (T' x) y = true := fun x y z => (hT1 x y).mpr (Or.inl z)
  have hsubS : ∀ x y, sc_E T x y → bt (S' y) x = true := fun x y z => by rw [hS1]; exact hsub x y z
  have hmo : ∀ {a b : Nat}, sc_R (sc_E T) a b → sc_R (sc_E T') a b := fun z => sc_R_mono hsub z
  have hSe : sc_E S' = fun a b => sc_E T' b a := by
    funext a b
    unfold sc_E
    rw [hS1]
  have qu := sc_l_Q (F := sc_E T) u
  have qv := sc_l_Q (F := sc_E T) v
  have lu := hY.1 u hu
  have lv := hY.1 v hv
  have iU := sc_ix (hl u hu)
  have iV := sc_ix (hl v hv)
  have pU : PL (nI (sc_l (sc_E T) u)).toNatClampNeg = nI (ln.idxOf (sc_l (sc_E T) u)) := by rw [sc_cl (by omega)]; exact (hL.2.2 _ _ iU.1).2
  have pV : PL (nI (sc_l (sc_E T) v)).toNatClampNeg = nI (ln.idxOf (sc_l (sc_E T) v)) := by rw [sc_cl (by omega)]; exact (hL.2.2 _ _ iV.1).2
  have hln : ∀ i c, ln[i]? = some c → LN i = nI c := fun i c z => (hL.2.2 i c z).1
  have hln16 : ∀ c, c ∈ ln → c < 16 := fun c hc => by have := ((hL.2.1 c).mp hc).1; omega
  unfold wpX_repairLine
  dsimp only
  refine And.intro (sc_vin (by omega) (by omega)) (nm_r pV (And.intro (sc_vin (by omega) (by omega)) (nm_r pU ?_)))
  refine sx_fwd (l := sc_l (sc_E T)) hN hT'N hY hL (hl v hv) iU.2 (by omega) ?_ (fun a _ => ⟨hmo (sc_l_Q a).1, hmo (sc_l_Q a).2⟩) fun fw f1 f2 f3 => ?_
  · intro x y hxy
    rcases (hT1 x y).mp hxy with z | ⟨rfl, rfl⟩
    · exact Or.inl (sc_top hTop (hl x (hT x y z).1) (hl y (hT x y z).2) z)
    · exact Or.inr rfl
  have F1 : ∀ c, bt fw c = true → sc_R (sc_E T) v c := by
    intro c hc
    rcases (sc_R_add hG).mp (f1 c hc).2 with z | z
    · exact sc_R_trans qv.1 z
    · exact z.2
  have F2 : ∀ c, c ∈ ln → ln.idxOf c ≤ ln.idxOf (sc_l (sc_E T) u) → sc_R (sc_E T) v c → bt fw c = true := by
    intro c hc hi hr
    have lc := ((hL.2.1 c).mp hc).2
    have := sc_fwd_c (E := sc_E T) (T := T') hsub hT hl hTop lv.1 (sc_l_ll v) f2 f3 (y := c) (sc_R_trans qv.2 hr) (by rw [lc]; exact hi)
    rw [lc] at this
    exact this
  have hp1 : ∀ c, c ∈ ln → ln.idxOf c ≤ ln.idxOf (sc_l (sc_E T) u) → ((!bt fw c) = true ↔ ¬ sc_R (sc_E T) v c) := by
    intro c hc hi
    rw [Bool.not_eq_true', sc_fI]
    exact ⟨fun z w => z (F2 c hc hi w), fun z w => z (F1 c w)⟩
  refine sc_br _ (by omega) (fun z0 => ?_) (fun z1 => ?_)
  · -- nothing melts
    have nuv : ¬ sc_R (sc_E T) v u := by
      intro w
      have := F2 _ (hl u hu) (Nat.le_refl _) (sc_R_trans w qu.1)
      rw [z0] at this
      cases this
    have nz : ∀ a, ¬ sc_Z (sc_E T) u v a := fun a w => nuv (sc_R_trans w.1 w.2)
    have hl' : sc_l (sc_E T') = sc_l (sc_E T) := funext fun a => sc_l_nz hG (nz a)
    have A : sc_AH (sc_E T) N u v ln (fun c => !bt fw c) (bt (fw &&& ((0 : Int32) ^^^ (-1)))) := by
      refine ⟨hT, hu, hv, hL.1, hL.2.1, hTop, hlt, hp1, fun c hc hi => ?_⟩
      rw [sc_dif]
      exact ⟨fun w => ⟨F1 c w.1, fun w' => nuv (sc_R_trans (F1 c w.1) w')⟩, fun w => ⟨F2 c hc hi w.1, sc_0I c⟩⟩
    have hmm : ∀ c, c ∈ ([] : List Nat) ↔ sc_Z (sc_E T) u v c ∧ sc_l (sc_E T') c = c := fun c => ⟨fun w => (by cases w), fun w => absurd w.1 (nz c)⟩
    have hym := sc_ys_l A hG hmm
    have hyd := sc_ys_nd (mm := []) A List.nodup_nil (fun c w => by cases w)
    have hy16 := sc_ys16 hN hyd hym
    have hyl := sc_ys_len (mm := []) A (zs := []) List.nodup_nil (fun c => ⟨fun w => (by cases w), fun w => absurd w.2 (nz c)⟩)
    have hyt := sc_ys_top (mm := []) A hG (Or.inl rfl) (fun c w => by cases w)
    refine sx_repA (post := post) hln (by omega) (by omega) iU.2 hln16 hy16.1 hy16.2 hyd (by unfold sc_ys; rw [List.append_nil]) fun PL' LN' NL' hh => ?_
    refine h 0 _ _ _ _ _ _ _ ⟨hN2, hN, hT'N, hS1, hed1, ?_, ⟨hyd, hym, hh⟩, hyt⟩ ?_
    · rw [hl']
      exact hY
    · rw [List.length_nil, Nat.add_zero, Nat.add_zero] at hyl
      rw [hyl, Int32.sub_self]
  · -- a cycle melts
    refine sx_bwd (l := sc_l (sc_E T)) hN hS'N hY hL (hl u hu) (by omega) ?_ (fun a _ => ?_) fun bw b1 b2 b3 => sx_btw hN hL iU.2 (by omega) fun bb hbb => nm_e ?_
    · intro x y hxy
      rw [hS1] at hxy
      rcases (hT1 y x).mp hxy with z | ⟨rfl, rfl⟩
      · exact Or.inl (sc_top hTop (hl y (hT y x z).1) (hl x (hT y x z).2) z)
      · exact Or.inr rfl
    · rw [hSe]
      exact ⟨sc_R_rev' (F := sc_E T') (hmo (sc_l_Q a).2), sc_R_rev' (F := sc_E T') (hmo (sc_l_Q a).1)⟩
    have B1 : ∀ c, bt bw c = true → sc_R (sc_E T) c u := by
      intro c hc
      have := (b1 c hc).2
      rw [hSe] at this
      rcases (sc_R_add hG).mp (sc_R_rev this) with z | z
      · exact sc_R_trans z qu.2
      · exact z.1
    have B2 : ∀ c, c ∈ ln → ln.idxOf (sc_l (sc_E T) v) ≤ ln.idxOf c → sc_R (sc_E T) c u → bt bw c = true := by
      intro c hc hi hr
      have lc := ((hL.2.1 c).mp hc).2
      have := sc_bwd_c (E := sc_E T) (S := S') hsubS hT hl hTop lu.1 (sc_l_ll u) b2 b3 (y := c) (sc_R_trans hr qu.1) (by rw [lc]; exact hi)
      rw [lc] at this
      exact this
    have hZ : ∀ c, bt ((fw &&& bw) &&& bb) c = true ↔ c ∈ ln ∧ sc_Z (sc_E T) u v c := by
      intro c
      rw [sc_andI, sc_andI, hbb]
      constructor
      · rintro ⟨⟨w1, w2⟩, w3⟩
        exact ⟨(f1 c w1).1, F1 c w1, B1 c w2⟩
      · rintro ⟨w1, w2⟩
        have i := sc_Z_ix (E := sc_E T) hT hl hTop hv w2
        rw [((hL.2.1 c).mp w1).2] at i
        exact ⟨⟨F2 c w1 i.2.2 w2.1, B2 c w1 i.2.1 w2.2⟩, ln.idxOf c, i.2.1, i.2.2, (sc_ix w1).1⟩
    have A : sc_AH (sc_E T) N u v ln (fun c => !bt fw c) (bt (fw &&& (((fw &&& bw) &&& bb) ^^^ (-1)))) := by
      refine ⟨hT, hu, hv, hL.1, hL.2.1, hTop, hlt, hp1, fun c hc hi => ?_⟩
      rw [sc_dif, hZ]
      exact ⟨fun w => ⟨F1 c w.1, fun w' => w.2 ⟨hc, F1 c w.1, w'⟩⟩, fun w => ⟨F2 c hc hi w.1, fun w' => w.2 w'.2.2⟩⟩
    have zU : sc_Z (sc_E T) u v (sc_l (sc_E T) u) := ⟨F1 _ z1, qu.2⟩
    have hzl : ∀ c, c ∈ ln.filter (bt ((fw &&& bw) &&& bb)) ↔ c ∈ ln ∧ sc_Z (sc_E T) u v c := by
      intro c
      rw [List.mem_filter, hZ]
      exact ⟨fun w => w.2, fun w => ⟨w.1, w⟩⟩
    have dz : (ln.filter (bt ((fw &&& bw) &&& bb))).Nodup := hL.1.sublist List.filter_sublist
    have hz1 : 0 < (ln.filter (bt ((fw &&& bw) &&& bb))).length := List.length_pos_of_mem ((hzl _).mpr ⟨hl u hu, zU⟩)
    have hcn : sc_cn (bt ((fw &&& bw) &&& bb)) 16 = (ln.filter (bt ((fw &&& bw) &&& bb))).length := sc_cn_l dz fun c => by
      rw [hzl, hZ]
      exact ⟨fun w => ⟨hln16 c w.1, w⟩, fun w => w.2⟩
    refine sx_repB (post := post) (c0 := sc_l (sc_E T) u) (j := u) hN hln (by omega) (by omega) iU.2 hln16 ?_ lu.1 ((hZ _).mpr ⟨hl u hu, zU⟩) ((hY.2 _ lu.1 (sc_l_ll u) u).mpr ⟨hu, rfl⟩) (by omega) fun m LD' M' y y1 y2 y3 y4 y5 y6 => ?_
    · have := sc_ys_len (mm := []) A dz hzl
      unfold sc_ys at this
      simp only [List.length_append, List.length_nil] at this ⊢
      omega
    have hy : ∀ b, bt y b = true ↔ b < N ∧ sc_Z (sc_E T) u v b := by
      intro b
      rw [y1]
      constructor
      · rintro ⟨c, w1, w2, w3⟩
        have w4 := (hZ c).mp w2
        have w5 := (hY.2 c w1 ((hL.2.1 c).mp w4.1).2 b).mp w3
        refine ⟨w5.1, (sc_Zl b).mp ?_⟩
        rw [w5.2]
        exact w4.2
      · rintro ⟨w1, w2⟩
        have w3 := hY.1 b w1
        exact ⟨sc_l (sc_E T) b, w3.1, (hZ _).mpr ⟨hl b w1, (sc_Zl b).mpr w2⟩, (hY.2 _ w3.1 w3.2.1 b).mpr ⟨w1, rfl⟩⟩
    have hm := (hy m).mp y3
    have hmin : ∀ x, sc_Z (sc_E T) u v x → m ≤ x := by
      intro x hx
      rcases Nat.lt_or_ge x m with w | w
      · have := y5 x w
        rw [(hy x).mpr ⟨(sc_Z_ix hT hl hTop hv hx).1, hx⟩] at this
        cases this
      · exact w
    have lz : ∀ a, sc_Z (sc_E T) u v a → sc_l (sc_E T') a = m := fun a ha => sc_l_z hG ha hm.2 hmin
    have ln' : ∀ a, ¬ sc_Z (sc_E T) u v a → sc_l (sc_E T') a = sc_l (sc_E T) a := fun a ha => sc_l_nz hG ha
    have hmm : ∀ c, c ∈ [m] ↔ sc_Z (sc_E T) u v c ∧ sc_l (sc_E T') c = c := by
      intro c
      rw [List.mem_singleton]
      exact ⟨fun w => by rw [w]; exact ⟨hm.2, lz m hm.2⟩, fun w => by rw [← w.2]; exact lz c w.1⟩
    have hzm : ∀ c, c ∈ [m] → sc_Z (sc_E T) u v c := fun c hc => ((hmm c).mp hc).1
    have hym := sc_ys_l A hG hmm
    have hyd := sc_ys_nd (mm := [m]) A (List.pairwise_singleton _ _) hzm
    have hy16 := sc_ys16 hN hyd hym
    have hyl := sc_ys_len (mm := [m]) A dz hzl
    have hyt := sc_ys_top (mm := [m]) A hG (Or.inr ⟨m, rfl⟩) hzm
    refine ⟨_, hy16.1, hy16.2, hyd, rfl, fun PL' LN' NL' hh => ?_⟩
    refine h _ _ _ _ _ _ _ _ ⟨hN2, hN, hT'N, hS1, hed1, ⟨fun a ha => ?_, fun c hc lc b => ?_⟩, ⟨hyd, hym, hh⟩, hyt⟩ ?_
    · refine ⟨sc_l_lt ha, sc_l_ll a, ?_⟩
      rw [y6]
      by_cases z : sc_Z (sc_E T) u v a
      · rw [if_pos ⟨ha, (hy a).mpr ⟨ha, z⟩⟩, lz a z]
      · rw [if_neg (fun w => z ((hy a).mp w.2).2), ln' a z]
        exact (hY.1 a ha).2.2
    · by_cases e : c = m
      · rw [e, pk_us, hy]
        refine ⟨fun w => ⟨w.1, lz b w.2⟩, fun w => ⟨w.1, ?_⟩⟩
        have q : sc_Q (sc_E T') m b := by
          have := sc_l_Q (F := sc_E T') b
          rw [w.2] at this
          exact sc_Q_symm this
        exact sc_Z_Q hG q hm.2
      · have nc : ¬ sc_Z (sc_E T) u v c := fun w => e (lc.symm.trans (lz c w))
        have lc' : sc_l (sc_E T) c = c := by rw [← ln' c nc]; exact lc
        rw [pk_un e, y2, if_neg (fun w => nc ((hZ c).mp w.2).2), hY.2 c hc lc' b]
        constructor
        · rintro ⟨w1, w2⟩
          have nb : ¬ sc_Z (sc_E T) u v b := fun w => nc (by rw [← w2]; exact (sc_Zl b).mpr w)
          exact ⟨w1, by rw [ln' b nb]; exact w2⟩
        · rintro ⟨w1, w2⟩
          have nb : ¬ sc_Z (sc_E T) u v b := fun w => e (w2.symm.trans (lz b w))
          exact ⟨w1, by rw [← ln' b nb]; exact w2⟩
    · rw [hcn]
      simp only [List.length_singleton] at hyl
      rw [pk_sub (by omega)]
      obtain ⟨k, hk⟩ : ∃ k, (ln.filter (bt ((fw &&& bw) &&& bb))).length = k + 1 := ⟨_, (Nat.succ_pred_eq_of_pos hz1).symm⟩
      rw [hk, nI_pred]
      exact congrArg nI (by omega)
end
end
section
/-! split: the walk and its law -/
/-- what split knows: a component c of the old leaders l0 has fallen apart, the rest stands -/
def sc_SH (N c : Nat) (l0 : Nat → Nat) (ln : List Nat) (T S LD M PL LN : Nat → Int32) : Prop :=
  N ≤ 16 ∧ (∀ a b, bt (T a) b = true → a < N ∧ b < N) ∧ (∀ a b, bt (S b) a = bt (T a) b) ∧ sc_Lay N l0 LD M ∧ sc_Lin N l0 ln PL LN ∧ c ∈ ln ∧
  (∀ a b, sc_Q (sc_E T) a b → l0 a = l0 b) ∧ (∀ a, a < N → l0 a ≠ c → sc_l (sc_E T) a = l0 a) ∧ sc_Top (sc_E T) l0 ln
def sc_PF (N c : Nat) (l0 : Nat → Nat) (T : Nat → Int32) (rs : List Nat) (PC : Nat → Int32) : Prop :=
  rs.Nodup ∧ (∀ r, r ∈ rs ↔ r < N ∧ sc_l (sc_E T) r = r ∧ l0 r = c) ∧ (∀ i r, rs[i]? = some r → ∀ b, (bt (PC i) b = true ↔ b < N ∧ sc_l (sc_E T) b = r))
def sc_PI (N c : Nat) (l0 : Nat → Nat) (T : Nat → Int32) (rs : List Nat) (rest : Int32) (PC : Nat → Int32) : Prop :=
  rs.Nodup ∧ (∀ r, r ∈ rs → r < N ∧ sc_l (sc_E T) r = r ∧ l0 r = c) ∧ (∀ i r, rs[i]? = some r → ∀ b, (bt (PC i) b = true ↔ b < N ∧ sc_l (sc_E T) b = r)) ∧ (∀ b, bt rest b = true ↔ b < N ∧ l0 b = c ∧ sc_l (sc_E T) b ∉ rs)
def sc_Gd (c : Nat) (l0 : Nat → Nat) (T : Nat → Int32) (ds : List Nat) (r : Nat) : Prop := r ∉ ds ∧ ∀ x y, sc_E T x y → sc_l (sc_E T) y = r → l0 x = c → sc_l (sc_E T) x ∉ ds → sc_l (sc_E T) x = r
def sc_DI (N c : Nat) (l0 : Nat → Nat) (T LD0 M0 : Nat → Int32) (rs ds : List Nat) (wt : Int32) (LD M : Nat → Int32) : Prop :=
  ds.Nodup ∧ (∀ d, d ∈ ds → d ∈ rs) ∧ (∀ b, bt wt b = true ↔ b < N ∧ l0 b = c ∧ sc_l (sc_E T) b ∉ ds) ∧ (∀ a, a < N → l0 a = c → sc_l (sc_E T) a ∈ ds → LD a = nI (sc_l (sc_E T) a)) ∧ (∀ a, a < N → l0 a ≠ c → LD a = LD0 a) ∧
  (∀ d, d ∈ ds → ∀ b, (bt (M d) b = true ↔ b < N ∧ sc_l (sc_E T) b = d)) ∧ (∀ x, x < N → l0 x ≠ c → M x = M0 x) ∧ (∀ x y, sc_E T x y → l0 x = c → sc_l (sc_E T) y ∈ ds → sc_l (sc_E T) x ∈ ds) ∧ sc_Top (sc_E T) (sc_l (sc_E T)) ds
section
variable {N c : Nat} {l0 : Nat → Nat} {fl fn : Int32} {T S LD M PL LN NL HT PC : Nat → Int32} {ln rs ds ys : List Nat} {post : Int32 → SX → Prop}
theorem sc_PI_e {rest : Int32} (hN : N ≤ 16) (I : sc_PI N c l0 T rs rest PC) (h : rest = 0 ∨ 16 ≤ rs.length) : sc_PF N c l0 T rs PC := by
  obtain ⟨h1, h2, h3, h4⟩ := I
  refine ⟨h1, fun r => ⟨h2 r, fun hr => ?_⟩, h3⟩
  apply Classical.byContradiction
  intro z
  rcases h with h | h
  · exact sc_z.mp h r ((h4 r).mpr ⟨hr.1, hr.2.2, by rw [hr.2.1]; exact z⟩)
  · have d : (r :: rs).Nodup := List.nodup_cons.mpr ⟨z, h1⟩
    have := List.Nodup.length_le_of_subset (l₂ := List.range N) d (fun x hx => List.mem_range.mpr (by
      rcases List.mem_cons.mp hx with e | e
      · rw [e]; exact hr.1
      · exact (h2 x e).1))
    simp at this
    omega
theorem sx_spl_20 {fl : Int32} {at' : Int32} (H : sc_SH N c l0 ln T S LD M PL LN) (h : ∀ rs PC, sc_PF N c l0 T rs PC → wX_split_82 post (nI c) at' (nI rs.length) (nI N) fl fn T S LD M PL LN NL HT PC) : ∀ d rs rest PC, rs.length + d = 16 → sc_PI N c l0 T rs rest PC → wX_split_20 post (nI c) at' (nI N) fl fn (d + 1) rest (nI rs.length) (nI rs.length) T S LD M PL LN NL HT PC := by
  obtain ⟨hN, hT, hS, hY, hL, hc, hin, hout, hTop⟩ := H
  have hS2 := sc_Slt hT hS
  have hSe : sc_E S = fun a b => sc_E T b a := by
    funext a b
    unfold sc_E
    rw [hS]
  intro d
  induction d with
  | zero =>
    intro rs rest PC hd I
    exact br_t (nI_le (a := 16) (by omega) (by omega)) (h rs PC (sc_PI_e hN I (Or.inr (by omega))))
  | succ d ih =>
    intro rs rest PC hd I
    refine br_f (nI_ge (b := 16) (by omega) (by omega)) (br_c (fun z => h rs PC (sc_PI_e hN I (Or.inl z))) (fun z => ?_))
    obtain ⟨i1, i2, i3, i4⟩ := I
    obtain ⟨j, hj⟩ := sc_nz.mp z
    have hjN := ((i4 j).mp hj).1
    refine sx_low hj (by omega) fun m hmj hbm hmin => nm_e ?_
    have hm := (i4 m).mp hbm
    have lm : sc_l (sc_E T) m = m := by
      have q := sc_l_Q (F := sc_E T) m
      have a : sc_l (sc_E T) m ≤ m := sc_l_le m
      rcases Nat.lt_or_ge (sc_l (sc_E T) m) m with w | w
      · have b : bt rest (sc_l (sc_E T) m) = true := (i4 _).mpr ⟨by omega, by rw [← hin m _ q]; exact hm.2.1, by rw [sc_l_ll]; exact hm.2.2⟩
        rw [hmin _ w] at b
        cases b
      · omega
    have hQr : ∀ w, sc_Q (sc_E T) m w → bt rest w = true := by
      intro w q
      have e : sc_l (sc_E T) w = m := by rw [← sc_l_eq.mpr q]; exact lm
      exact (i4 w).mpr ⟨sc_R_bd (fun a b h => (hT a b h).2) hm.1 q.1, by rw [← hin m w q]; exact hm.2.1, by rw [e, ← lm]; exact hm.2.2⟩
    refine sx_spr hN hT hm.1 fun r hr => sx_gat hN hS2 hm.1 fun r' hr' => nm_e (And.intro (sc_vin (by omega) (by omega)) (nm_r (e' := upd PC rs.length (r &&& r')) (by rw [sc_cl (by omega)]) (nm_r (nI_1 _) (nm_e (nm_r (nI_1 _) ?_)))))
    have hp : ∀ b, bt (r &&& r') b = true ↔ b < N ∧ sc_l (sc_E T) b = m := by
      intro b
      rw [sc_andI, hr, hr']
      constructor
      · rintro ⟨w1, w2⟩
        have w1' := sc_R_out w1
        have w2' := sc_R_out w2
        rw [hSe] at w2'
        have q : sc_Q (sc_E T) m b := ⟨w1', sc_R_rev w2'⟩
        exact ⟨sc_R_bd (fun a b h => (hT a b h).2) hm.1 w1', by rw [← sc_l_eq.mpr q]; exact lm⟩
      · rintro ⟨w1, w2⟩
        have q : sc_Q (sc_E T) m b := sc_l_eq.mp (by rw [lm, w2])
        refine ⟨sc_R_in (S := fun b => bt rest b = true) q.1 fun w a1 a2 => hQr w ⟨a1, sc_R_trans a2 q.2⟩, ?_⟩
        rw [hSe]
        refine sc_R_in (F := fun a b => sc_E T b a) (S := fun b => bt rest b = true) (sc_R_rev' q.2) fun w a1 a2 => hQr w ⟨?_, sc_R_rev a1⟩
        exact sc_R_trans q.1 (sc_R_rev a2)
    have K := ih (rs ++ [m]) (rest &&& ((r &&& r') ^^^ (-1))) (upd PC rs.length (r &&& r')) (by simp; omega) ⟨?_, ?_, ?_, ?_⟩
    · rw [show (rs ++ [m]).length = rs.length + 1 from by simp] at K
      exact K
    · rw [List.nodup_append]
      refine ⟨i1, List.pairwise_singleton _ _, fun a ha b hb e => ?_⟩
      rw [List.mem_singleton] at hb
      rw [e, hb, ← lm] at ha
      exact hm.2.2 ha
    · intro x hx
      rcases List.mem_append.mp hx with w | w
      · exact i2 x w
      · rw [List.mem_singleton] at w
        rw [w]
        exact ⟨hm.1, lm, hm.2.1⟩
    · intro i x hx b
      rcases Nat.lt_trichotomy i rs.length with w | w | w
      · rw [List.getElem?_append_left w] at hx
        rw [pk_un (by omega)]
        exact i3 i x hx b
      · subst w
        rw [List.getElem?_append_right (Nat.le_refl _)] at hx
        simp at hx
        rw [pk_us, ← hx]
        exact hp b
      · rw [List.getElem?_append_right (by omega)] at hx
        have : [m][i - rs.length]? = none := List.getElem?_eq_none (by simp; omega)
        rw [this] at hx
        cases hx
    · intro b
      rw [sc_dif, i4, hp, List.mem_append, List.mem_singleton]
      exact ⟨fun w => ⟨w.1.1, w.1.2.1, fun w' => w'.elim w.1.2.2 (fun w' => w.2 ⟨w.1.1, w'⟩)⟩, fun w => ⟨⟨w.1, w.2.1, fun w' => w.2.2 (Or.inl w')⟩, fun w' => w.2.2 (Or.inr w'.2)⟩⟩
theorem sx_spc_2 {fl : Int32} {post : Int32 → Prop} {wt : Int32} (hN : N ≤ 16) (hT : ∀ a b, bt (T a) b = true → a < N ∧ b < N) (hS : ∀ a b, bt (S b) a = bt (T a) b) (hP : sc_PF N c l0 T rs PC) (hrs : rs.length ≤ 16) (hw : ∀ b, bt wt b = true ↔ b < N ∧ l0 b = c ∧ sc_l (sc_E T) b ∉ ds) (h : ∀ i r, rs[i]? = some r → sc_Gd c l0 T ds r → post (PC i)) : ∀ d i, i + d = rs.length → (∃ j r, i ≤ j ∧ rs[j]? = some r ∧ sc_Gd c l0 T ds r) → wX_sourcePiece_2 post (nI rs.length) wt (nI N) fl fn T S LD M PL LN NL HT PC (d + 1) (nI i) := by
  obtain ⟨p1, p2, p3⟩ := hP
  intro d
  induction d with
  | zero =>
    intro i hi ⟨j, r, hj, hg, _⟩
    have := (sc_at p1 hg).2.1
    omega
  | succ d ih =>
    intro i hi ⟨j, r', hj, hg, hG⟩
    obtain ⟨r, hgr⟩ := sc_get (ln := rs) (i := i) (by omega)
    have hr := (p2 r).mp (sc_at p1 hgr).2.2
    have hpc := p3 i r hgr
    have nx : ¬ sc_Gd c l0 T ds r → wX_sourcePiece_2 post (nI rs.length) wt (nI N) fl fn T S LD M PL LN NL HT PC (d + 1) (nI (i + 1)) := by
      intro ng
      refine ih (i + 1) (by omega) ⟨j, r', ?_, hg, hG⟩
      rcases Nat.lt_or_ge i j with w | w
      · exact w
      · have : j = i := by omega
        subst this
        rw [hgr] at hg
        cases hg
        exact absurd hG ng
    refine br_f (nI_ge (by omega) (by omega)) (And.intro (sc_vin (by omega) (by omega)) (nm_r (e' := PC i) (by rw [sc_cl (by omega)]) (br_c (fun z => nm_r (nI_1 i) (nx fun g => ?_)) (fun z => sx_src hN fun q hq => nm_e (br_c (fun z' => h i r hgr ⟨?_, ?_⟩) (fun z' => nm_r (nI_1 i) (nx fun g => ?_)))))))
    · exact sc_z.mp z r ((sc_andI _ _ _).mpr ⟨(hpc r).mpr ⟨hr.1, hr.2.1⟩, (hw r).mpr ⟨hr.1, hr.2.2, by rw [hr.2.1]; exact g.1⟩⟩)
    · intro w
      obtain ⟨b, hb⟩ := sc_nz.mp z
      obtain ⟨b1, b2⟩ := (sc_andI _ _ _).mp hb
      have e := ((hpc b).mp b1).2
      exact ((hw b).mp b2).2.2 (by rw [e]; exact w)
    · intro x y hxy ly lx ld
      have hb := hT x y hxy
      apply Classical.byContradiction
      intro ne
      refine sc_z.mp z' x ((sc_dif _ _ _).mpr ⟨(sc_andI _ _ _).mpr ⟨(hq x).mpr ⟨y, hb.2, (hpc y).mpr ⟨hb.2, ly⟩, by rw [hS]; exact hxy⟩, (hw x).mpr ⟨hb.1, lx, ld⟩⟩, fun w => ne ((hpc x).mp w).2⟩)
    · obtain ⟨x, hx⟩ := sc_nz.mp z'
      obtain ⟨hx1, hx2⟩ := (sc_dif _ _ _).mp hx
      obtain ⟨hx3, hx4⟩ := (sc_andI _ _ _).mp hx1
      obtain ⟨y, y1, y2, y3⟩ := (hq x).mp hx3
      rw [hS] at y3
      have w := (hw x).mp hx4
      exact hx2 ((hpc x).mpr ⟨w.1, g.2 x y y3 ((hpc y).mp y2).2 w.2.1 w.2.2⟩)
theorem sc_Gd_ex (hP : sc_PF N c l0 T rs PC) (hT : ∀ a b, bt (T a) b = true → a < N ∧ b < N) (hin : ∀ a b, sc_Q (sc_E T) a b → l0 a = l0 b) (dd : ds.Nodup) (hlt : ds.length < rs.length) : ∃ j r, 0 ≤ j ∧ rs[j]? = some r ∧ sc_Gd c l0 T ds r := by
  obtain ⟨p1, p2, p3⟩ := hP
  have ex : ∃ r, r ∈ rs ∧ r ∉ ds := by
    apply Classical.byContradiction
    intro z
    have := List.Nodup.length_le_of_subset (l₂ := ds) p1 (fun x hx => Classical.byContradiction fun w => z ⟨x, hx, w⟩)
    omega
  obtain ⟨r0, hr0, hd0⟩ := ex
  obtain ⟨m, hmN, hm, hmin⟩ := sc_min (R := fun a b => sc_R (sc_E T) a b ∧ ¬ sc_R (sc_E T) b a) (fun a b c h1 h2 => ⟨sc_R_trans h1.1 h2.1, fun z => h1.2 (sc_R_trans h2.1 z)⟩) (fun a h => h.2 h.1) (fun r => r ∈ rs ∧ r ∉ ds) N ⟨r0, ((p2 r0).mp hr0).1, hr0, hd0⟩
  refine ⟨rs.idxOf m, m, Nat.zero_le _, (sc_ix hm.1).1, hm.2, fun x y hxy ly lx ld => ?_⟩
  have hb := hT x y hxy
  have m2 := (p2 m).mp hm.1
  have qx := sc_l_Q (F := sc_E T) x
  have qy : sc_Q (sc_E T) y m := by rw [← ly]; exact sc_l_Q y
  have hx' : sc_l (sc_E T) x ∈ rs := (p2 _).mpr ⟨sc_l_lt hb.1, sc_l_ll x, by rw [← hin _ _ qx]; exact lx⟩
  have nr := hmin _ (sc_l_lt hb.1) ⟨hx', ld⟩
  have up : sc_R (sc_E T) (sc_l (sc_E T) x) m := sc_R_trans qx.2 (sc_R_head hxy qy.1)
  have dn : sc_R (sc_E T) m (sc_l (sc_E T) x) := Classical.byContradiction fun z => nr ⟨up, z⟩
  have := sc_l_eq.mpr (⟨up, dn⟩ : sc_Q (sc_E T) (sc_l (sc_E T) x) m)
  rw [sc_l_ll, m2.2.1] at this
  exact this
theorem sx_spl_186 {x4 : Int32} (hln : ∀ i c, ln[i]? = some c → LN i = nI c) (hlen : ln.length ≤ 16) (hy : ys.length ≤ 16) (hc : ∀ c, c ∈ ys → c < 16) (dy : ys.Nodup) (h : ∀ PL' LN' NL', (∀ i c, ys[i]? = some c → LN' i = nI c ∧ PL' c = nI i) → post (x4 - 1) (nI N, nI ys.length, nI ys.length, T, S, LD, M, PL', LN', NL', HT, PC)) :
    ∀ d i xs NL, i + d = ln.length → sc_At NL xs → xs ++ sc_seg ln i ln.length = ys → wX_split_186 post x4 (d + 1) (nI i) (nI N) (nI ln.length) (nI xs.length) T S LD M PL LN NL HT PC := by
  intro d
  induction d with
  | zero =>
    intro i xs NL hi ha e
    rw [sc_seg_n (by omega), List.append_nil] at e
    subst e
    exact br_t (nI_le (by omega) (by omega)) (sx_ado hy hc dy ha fun PL' LN' hh => h PL' LN' NL hh)
  | succ d ih =>
    intro i xs NL hi ha e
    obtain ⟨c, hgc⟩ := sc_get (ln := ln) (i := i) (by omega)
    have e1 : LN (nI i).toNatClampNeg = nI c := by rw [sc_cl (by omega)]; exact hln i c hgc
    rw [sc_seg_c hgc (by omega)] at e
    have hcy : c < 16 := hc c (by rw [← e]; simp)
    have hq : xs.length < 16 := by
      have := congrArg List.length e
      simp at this
      omega
    have K := ih (i + 1) (xs ++ [c]) (upd NL xs.length (nI c)) (by omega) (sc_At_app ha c) (by rw [List.append_assoc]; exact e)
    rw [show (xs ++ [c]).length = xs.length + 1 from by simp] at K
    refine br_f (nI_ge (by omega) (by omega)) ?_
    rw [e1]
    exact And.intro (sc_vin (by omega) (by omega)) (sx_app hq (by omega) (nm_r (nI_1 i) K))
theorem sx_spl_105 {x4 x5 : Int32} {at' : Nat} {zs : List Nat} (hln : ∀ i c, ln[i]? = some c → LN i = nI c) (hlen : ln.length ≤ 16) (hat : at' ≤ ln.length) (hln16 : ∀ c, c ∈ ln → c < 16) (hz : zs.length ≤ 16) (h : ∀ NL, sc_At NL zs → ∃ n, wX_split_135 post (nI at') x4 n x5 0 (nI N) (nI ln.length) (nI zs.length) T S LD M PL LN NL HT PC) :
    ∀ d i xs NL, i + d = at' → sc_At NL xs → xs ++ sc_seg ln i at' = zs → wX_split_105 post (nI at') x4 x5 (d + 1) (nI i) (nI N) (nI ln.length) (nI xs.length) T S LD M PL LN NL HT PC := by
  intro d
  induction d with
  | zero =>
    intro i xs NL hi ha e
    rw [sc_seg_n (by omega), List.append_nil] at e
    subst e
    exact br_t (nI_le (by omega) (by omega)) (h NL ha)
  | succ d ih =>
    intro i xs NL hi ha e
    obtain ⟨c, hgc⟩ := sc_get (ln := ln) (i := i) (by omega)
    have e1 : LN (nI i).toNatClampNeg = nI c := by rw [sc_cl (by omega)]; exact hln i c hgc
    have hcl : c < 16 := hln16 c (List.mem_of_getElem? hgc)
    rw [sc_seg_c hgc (by omega)] at e
    have hq : xs.length < 16 := by
      have := congrArg List.length e
      simp at this
      omega
    have K := ih (i + 1) (xs ++ [c]) (upd NL xs.length (nI c)) (by omega) (sc_At_app ha c) (by rw [List.append_assoc]; exact e)
    rw [show (xs ++ [c]).length = xs.length + 1 from by simp] at K
    refine br_f (nI_ge (by omega) (by omega)) ?_
    rw [e1]
    exact And.intro (sc_vin (by omega) (by omega)) (sx_app hq (by omega) (nm_r (nI_1 i) K))
end
end
section
/-! split: the order of the pieces; the new line -/
section
variable {N c : Nat} {l0 : Nat → Nat} {fl fn : Int32} {T S LD M PL LN NL HT PC LD0 M0 : Nat → Int32} {ln rs ds ys : List Nat} {post : Int32 → SX → Prop}
theorem sc_DI_s {wt : Int32} {i r : Nat} {LD' : Nat → Int32} (hN : N ≤ 16) (hin : ∀ a b, sc_Q (sc_E T) a b → l0 a = l0 b) (hP : sc_PF N c l0 T rs PC) (I : sc_DI N c l0 T LD0 M0 rs ds wt LD M) (hgr : rs[i]? = some r) (hG : sc_Gd c l0 T ds r) (hLD : ∀ a, LD' a = if a < N ∧ bt (PC i) a = true then nI r else LD a) : sc_DI N c l0 T LD0 M0 rs (ds ++ [r]) (wt &&& (PC i ^^^ (-1))) LD' (upd M r (PC i)) := by
  obtain ⟨p1, p2, p3⟩ := hP
  obtain ⟨d1, d2, d3, d4, d5, d6, d7, d8, d9⟩ := I
  have hrm := (sc_at p1 hgr).2.2
  have hr := (p2 r).mp hrm
  have hpc := p3 i r hgr
  have lr : ∀ a, sc_l (sc_E T) a = r → l0 a = c := by
    intro a e
    have q : sc_Q (sc_E T) a r := by rw [← e]; exact sc_l_Q a
    rw [hin a r q]
    exact hr.2.2
  refine ⟨?_, ?_, ?_, ?_, ?_, ?_, ?_, ?_, ?_⟩
  · rw [List.nodup_append]
    refine ⟨d1, List.pairwise_singleton _ _, fun a ha b hb e => ?_⟩
    rw [List.mem_singleton] at hb
    rw [e, hb] at ha
    exact hG.1 ha
  · intro d hd
    rcases List.mem_append.mp hd with w | w
    · exact d2 d w
    · rw [List.mem_singleton] at w
      rw [w]
      exact hrm
  · intro b
    rw [sc_dif, d3, hpc, List.mem_append, List.mem_singleton]
    exact ⟨fun w => ⟨w.1.1, w.1.2.1, fun w' => w'.elim w.1.2.2 (fun w' => w.2 ⟨w.1.1, w'⟩)⟩, fun w => ⟨⟨w.1, w.2.1, fun w' => w.2.2 (Or.inl w')⟩, fun w' => w.2.2 (Or.inr w'.2)⟩⟩
  · intro a ha lc hm
    rw [hLD]
    by_cases e : sc_l (sc_E T) a = r
    · rw [if_pos ⟨ha, (hpc a).mpr ⟨ha, e⟩⟩, e]
    · rw [if_neg (fun w => e ((hpc a).mp w.2).2)]
      rcases List.mem_append.mp hm with w | w
      · exact d4 a ha lc w
      · exact absurd (List.mem_singleton.mp w) e
  · intro a ha lc
    rw [hLD, if_neg (fun w => lc (lr a ((hpc a).mp w.2).2))]
    exact d5 a ha lc
  · intro d hd b
    by_cases e : d = r
    · rw [e, pk_us]
      exact hpc b
    · rw [pk_un e]
      rcases List.mem_append.mp hd with w | w
      · exact d6 d w b
      · exact absurd (List.mem_singleton.mp w) e
  · intro x hx lc
    rw [pk_un (fun e => lc (by rw [e]; exact hr.2.2))]
    exact d7 x hx lc
  · intro x y hxy lx hm
    rw [List.mem_append] at hm ⊢
    rcases hm with w | w
    · exact Or.inl (d8 x y hxy lx w)
    · rw [List.mem_singleton] at w
      by_cases z : sc_l (sc_E T) x ∈ ds
      · exact Or.inl z
      · exact Or.inr (List.mem_singleton.mpr (hG.2 x y hxy w lx z))
  · unfold sc_Top
    rw [List.pairwise_append]
    refine ⟨d9, List.pairwise_singleton _ _, fun a ha b hb x y hxy lx ly => ?_⟩
    rw [List.mem_singleton] at hb
    rw [hb] at lx
    have := d8 x y hxy (lr x lx) (by rw [ly]; exact ha)
    rw [lx] at this
    exact hG.1 this
theorem sc_pre (hL : sc_Lin N l0 ln PL LN) (hc : c ∈ ln) (dd : ds.Nodup) (hds : ∀ d, d ∈ ds → d < N ∧ l0 d = c) : (sc_seg ln 0 (ln.idxOf c) ++ ds).length ≤ N := by
  have nd : (sc_seg ln 0 (ln.idxOf c) ++ ds).Nodup := by
    rw [List.nodup_append]
    refine ⟨hL.1.sublist sc_seg_s, dd, fun a ha b hb e => ?_⟩
    obtain ⟨a1, a2, a3⟩ := (sc_seg_m hL.1).mp ha
    have x := ((hL.2.1 a).mp a1).2
    have y := (hds b hb).2
    rw [← e, x] at y
    rw [y] at a3
    omega
  have := List.Nodup.length_le_of_subset (l₂ := List.range N) nd (fun x hx => List.mem_range.mpr (by
    rcases List.mem_append.mp hx with w | w
    · exact ((hL.2.1 x).mp ((sc_seg_m hL.1).mp w).1).1
    · exact (hds x w).1))
  simp only [List.length_range] at this
  exact this
theorem sx_spl_135 {LD1 M1 : Nat → Int32} (H : sc_SH N c l0 ln T S LD1 M1 PL LN) (hP : sc_PF N c l0 T rs PC) (hrs : rs.length ≤ 16) (h : ∀ ds wt LD M NL, ds.length = rs.length → sc_DI N c l0 T LD0 M0 rs ds wt LD M → sc_At NL (sc_seg ln 0 (ln.idxOf c) ++ ds) → ∃ n, wX_split_186 post (nI rs.length) n (nI (ln.idxOf c + 1)) (nI N) (nI ln.length) (nI (sc_seg ln 0 (ln.idxOf c) ++ ds).length) T S LD M PL LN NL HT PC) :
    ∀ d ds wt LD M NL, ds.length + d = rs.length → sc_DI N c l0 T LD0 M0 rs ds wt LD M → sc_At NL (sc_seg ln 0 (ln.idxOf c) ++ ds) → wX_split_135 post (nI (ln.idxOf c)) (nI rs.length) (d + 1) wt (nI ds.length) (nI N) (nI ln.length) (nI (sc_seg ln 0 (ln.idxOf c) ++ ds).length) T S LD M PL LN NL HT PC := by
  obtain ⟨hN, hT, hS, hY, hL, hc, hin, hout, hTop⟩ := H
  intro d
  induction d with
  | zero =>
    intro ds wt LD M NL hd I ha
    exact br_t (nI_le (by omega) (by omega)) (nm_r (nI_1 _) (h ds wt LD M NL (by omega) I ha))
  | succ d ih =>
    intro ds wt LD M NL hd I ha
    refine br_f (nI_ge (by omega) (by omega)) ⟨rs.length + 1, sx_spc_2 hN hT hS hP hrs I.2.2.1 (fun i r hgr hG => nm_e ?_) rs.length 0 (by omega) (sc_Gd_ex hP hT hin I.1 (by omega))⟩
    have hrm := (sc_at hP.1 hgr).2.2
    have hr := (hP.2.1 r).mp hrm
    have hpc := hP.2.2 i r hgr
    refine sx_cla (j := r) hN ((hpc r).mpr ⟨hr.1, hr.2.1⟩) (by omega) fun m LD' hmj hb hmin hLD => ?_
    have em : m = r := by
      have a := ((hpc m).mp hb).2
      have b := sc_l_le (F := sc_E T) m
      omega
    subst em
    have I' := sc_DI_s hN hin hP I hgr hG hLD
    have hpre := sc_pre hL hc I'.1 (fun x hx => by have := (hP.2.1 x).mp (I'.2.1 x hx); exact ⟨this.1, this.2.2⟩)
    have ha' := sc_At_app ha m
    rw [List.append_assoc] at ha'
    have K := ih (ds ++ [m]) _ LD' _ _ (by simp; omega) I' ha'
    rw [← List.append_assoc] at hpre K
    rw [show (sc_seg ln 0 (ln.idxOf c) ++ ds ++ [m]).length = (sc_seg ln 0 (ln.idxOf c) ++ ds).length + 1 from by rw [List.length_append]; rfl] at hpre K
    rw [show (ds ++ [m]).length = ds.length + 1 from by simp] at K
    exact sx_app (by omega) (by omega) (nm_r (nI_1 _) K)
/-- the new line and the new leaders -/
theorem sc_spl_law {wt : Int32} (H : sc_SH N c l0 ln T S LD0 M0 PL LN) (hP : sc_PF N c l0 T rs PC) (hd : ds.length = rs.length) (I : sc_DI N c l0 T LD0 (upd M0 c 0) rs ds wt LD M) :
    sc_Lay N (sc_l (sc_E T)) LD M ∧ ((sc_seg ln 0 (ln.idxOf c) ++ ds) ++ sc_seg ln (ln.idxOf c + 1) ln.length).Nodup ∧ (∀ x, x ∈ (sc_seg ln 0 (ln.idxOf c) ++ ds) ++ sc_seg ln (ln.idxOf c + 1) ln.length ↔ x < N ∧ sc_l (sc_E T) x = x) ∧ sc_Top (sc_E T) (sc_l (sc_E T)) ((sc_seg ln 0 (ln.idxOf c) ++ ds) ++ sc_seg ln (ln.idxOf c + 1) ln.length) := by
  obtain ⟨hN, hT, hS, hY, hL, hc, hin, hout, hTop⟩ := H
  obtain ⟨p1, p2, p3⟩ := hP
  obtain ⟨d1, d2, d3, d4, d5, d6, d7, d8, d9⟩ := I
  have hcc := (hL.2.1 c).mp hc
  have all : ∀ r, r ∈ ds ↔ r < N ∧ sc_l (sc_E T) r = r ∧ l0 r = c := by
    intro r
    rw [← p2]
    refine ⟨d2 r, fun hr => Classical.byContradiction fun z => ?_⟩
    have := List.Nodup.length_le_of_subset (l₂ := rs) (List.nodup_cons.mpr ⟨z, d1⟩) (fun x hx => by
      rcases List.mem_cons.mp hx with e | e
      · rw [e]; exact hr
      · exact d2 x e)
    simp at this
    omega
  have l0l : ∀ a b, sc_l (sc_E T) a = b → l0 a = l0 b := fun a b e => hin a b (by rw [← e]; exact sc_l_Q a)
  have mem : ∀ a, a < N → l0 a = c → sc_l (sc_E T) a ∈ ds := fun a ha lc => (all _).mpr ⟨sc_l_lt ha, sc_l_ll a, by rw [← l0l a _ rfl]; exact lc⟩
  have segA : ∀ a, a ∈ sc_seg ln 0 (ln.idxOf c) → a ∈ ln ∧ ln.idxOf a < ln.idxOf c ∧ a < N ∧ l0 a = a ∧ a ≠ c := by
    intro a ha
    obtain ⟨a1, a2, a3⟩ := (sc_seg_m hL.1).mp ha
    have := (hL.2.1 a).mp a1
    exact ⟨a1, a3, this.1, this.2, fun e => by rw [e] at a3; omega⟩
  have segB : ∀ a, a ∈ sc_seg ln (ln.idxOf c + 1) ln.length → a ∈ ln ∧ ln.idxOf c < ln.idxOf a ∧ a < N ∧ l0 a = a ∧ a ≠ c := by
    intro a ha
    obtain ⟨a1, a2, a3⟩ := (sc_seg_m hL.1).mp ha
    have := (hL.2.1 a).mp a1
    exact ⟨a1, by omega, this.1, this.2, fun e => by rw [e] at a2; omega⟩
  have hlt' : ln.Pairwise (fun a b => ln.idxOf a < ln.idxOf b) := by
    rw [List.pairwise_iff_getElem]
    intro i j hi hj hij
    rw [List.Nodup.idxOf_getElem hL.1 i hi, List.Nodup.idxOf_getElem hL.1 j hj]
    exact hij
  have no : ∀ a b, a ∈ ln → b ∈ ln → ln.idxOf a < ln.idxOf b → ∀ x y, sc_E T x y → l0 x = b → l0 y = a → False := by
    intro a b ha hb hab x y hxy lx ly
    have := sc_top hTop (x := x) (y := y) (by rw [lx]; exact hb) (by rw [ly]; exact ha) hxy
    rw [lx, ly] at this
    omega
  refine ⟨⟨fun a ha => ⟨sc_l_lt ha, sc_l_ll a, ?_⟩, fun x hx lx b => ?_⟩, ?_, fun x => ?_, ?_⟩
  · by_cases e : l0 a = c
    · exact d4 a ha e (mem a ha e)
    · rw [d5 a ha e, hout a ha e]
      exact (hY.1 a ha).2.2
  · by_cases e : l0 x = c
    · have := mem x hx e
      rw [lx] at this
      exact d6 x this b
    · have ne : x ≠ c := fun e' => e (by rw [e']; exact hcc.2)
      have l0x : l0 x = x := by rw [← hout x hx e]; exact lx
      rw [d7 x hx e, pk_un ne, hY.2 x hx l0x b]
      refine ⟨fun w => ⟨w.1, ?_⟩, fun w => ⟨w.1, ?_⟩⟩
      · rw [hout b w.1 (by rw [w.2]; exact ne)]
        exact w.2
      · rw [l0l b x w.2]
        exact l0x
  · rw [List.nodup_append, List.nodup_append]
    refine ⟨⟨hL.1.sublist sc_seg_s, d1, fun a ha b hb e => ?_⟩, hL.1.sublist sc_seg_s, fun a ha b hb e => ?_⟩
    · have x := segA a ha
      have y := (all b).mp hb
      rw [← e, x.2.2.2.1] at y
      exact x.2.2.2.2 y.2.2
    · have y := segB b hb
      rcases List.mem_append.mp ha with w | w
      · have x := segA a w
        rw [e] at x
        omega
      · have x := (all a).mp w
        rw [e, y.2.2.2.1] at x
        exact y.2.2.2.2 x.2.2
  · rw [List.mem_append, List.mem_append]
    constructor
    · rintro ((w | w) | w)
      · have z := segA x w
        exact ⟨z.2.2.1, by rw [hout x z.2.2.1 (by rw [z.2.2.2.1]; exact z.2.2.2.2)]; exact z.2.2.2.1⟩
      · have z := (all x).mp w
        exact ⟨z.1, z.2.1⟩
      · have z := segB x w
        exact ⟨z.2.2.1, by rw [hout x z.2.2.1 (by rw [z.2.2.2.1]; exact z.2.2.2.2)]; exact z.2.2.2.1⟩
    · rintro ⟨w1, w2⟩
      by_cases e : l0 x = c
      · exact Or.inl (Or.inr ((all x).mpr ⟨w1, w2, e⟩))
      · have l0x : l0 x = x := by rw [← hout x w1 e]; exact w2
        have hx : x ∈ ln := (hL.2.1 x).mpr ⟨w1, l0x⟩
        have ne : ln.idxOf x ≠ ln.idxOf c := fun e' => e (by rw [l0x]; exact sc_ixI hx hc e')
        rcases Nat.lt_or_ge (ln.idxOf x) (ln.idxOf c) with z | z
        · exact Or.inl (Or.inl ((sc_seg_m hL.1).mpr ⟨hx, by omega, z⟩))
        · exact Or.inr ((sc_seg_m hL.1).mpr ⟨hx, by omega, (sc_ix hx).2⟩)
  · unfold sc_Top
    rw [List.pairwise_append, List.pairwise_append]
    refine ⟨⟨?_, d9, ?_⟩, ?_, ?_⟩
    · refine List.Pairwise.imp_of_mem (fun {a b} ha hb hab => ?_) (hlt'.sublist sc_seg_s)
      intro x y hxy lx ly
      have xa := segA a ha
      have xb := segA b hb
      exact no a b xa.1 xb.1 hab x y hxy (by rw [l0l x b lx]; exact xb.2.2.2.1) (by rw [l0l y a ly]; exact xa.2.2.2.1)
    · intro a ha b hb x y hxy lx ly
      have xa := segA a ha
      have xb := (all b).mp hb
      exact no a c xa.1 hc xa.2.1 x y hxy (by rw [l0l x b lx]; exact xb.2.2) (by rw [l0l y a ly]; exact xa.2.2.2.1)
    · refine List.Pairwise.imp_of_mem (fun {a b} ha hb hab => ?_) (hlt'.sublist sc_seg_s)
      intro x y hxy lx ly
      have xa := segB a ha
      have xb := segB b hb
      exact no a b xa.1 xb.1 hab x y hxy (by rw [l0l x b lx]; exact xb.2.2.2.1) (by rw [l0l y a ly]; exact xa.2.2.2.1)
    · intro a ha b hb x y hxy lx ly
      have xb := segB b hb
      rcases List.mem_append.mp ha with w | w
      · have xa := segA a w
        exact no a b xa.1 xb.1 (by omega) x y hxy (by rw [l0l x b lx]; exact xb.2.2.2.1) (by rw [l0l y a ly]; exact xa.2.2.2.1)
      · have xa := (all a).mp w
        exact no c b hc xb.1 xb.2.1 x y hxy (by rw [l0l x b lx]; exact xb.2.2.2.1) (by rw [l0l y a ly]; exact xa.2.2)
theorem sc_seg_len {i e : Nat} (h : e ≤ ln.length) : (sc_seg ln i e).length = e - i := by
  unfold sc_seg
  rw [List.length_drop, List.length_take]
  omega
theorem sx_spl (H : sc_SH N c l0 ln T S LD M PL LN) (h : ∀ r ys fn' LD' M' PL' LN' NL' PC', sc_Lay N (sc_l (sc_E T)) LD' M' → sc_Lin N (sc_l (sc_E T)) ys PL' LN' → sc_Top (sc_E T) (sc_l (sc_E T)) ys → r = nI ys.length - nI ln.length → post r (nI N, nI ys.length, fn', T, S, LD', M', PL', LN', NL', HT, PC')) : wpX_split post (nI N, nI ln.length, fn, T, S, LD, M, PL, LN, NL, HT, PC) (nI c) := by
  have H' := H
  obtain ⟨hN, hT, hS, hY, hL, hc, hin, hout, hTop⟩ := H'
  have hcc := (hL.2.1 c).mp hc
  have ic := sc_ix hc
  have hlen := sc_lnN hL.1 hL.2.1
  have eP : PL (nI c).toNatClampNeg = nI (ln.idxOf c) := by rw [sc_cl (by omega)]; exact (hL.2.2 _ _ ic.1).2
  have eM : M (nI c).toNatClampNeg = M c := by rw [sc_cl (by omega)]
  have hMc : ∀ b, bt (M c) b = true ↔ b < N ∧ l0 b = c := hY.2 c hcc.1 hcc.2
  have hln : ∀ i c, ln[i]? = some c → LN i = nI c := fun i c z => (hL.2.2 i c z).1
  have hln16 : ∀ c, c ∈ ln → c < 16 := fun c hc => by have := ((hL.2.1 c).mp hc).1; omega
  unfold wpX_split
  dsimp only
  refine And.intro (sc_vin (by omega) (by omega)) (nm_r eP (And.intro (sc_vin (by omega) (by omega)) (nm_r eM ⟨17, sx_spl_20 H (fun rs PC' hP => ?_) 16 [] (M c) PC rfl ⟨List.nodup_nil, fun r hr => (by cases hr), fun i r hr => (by simp at hr), fun b => ?_⟩⟩)))
  · have hrs : rs.length ≤ 16 := by
      have := List.Nodup.length_le_of_subset (l₂ := List.range N) hP.1 (fun x hx => List.mem_range.mpr ((hP.2.1 x).mp hx).1)
      simp at this
      omega
    have hrs1 : 0 < rs.length := List.length_pos_of_mem ((hP.2.1 (sc_l (sc_E T) c)).mpr ⟨sc_l_lt hcc.1, sc_l_ll c, by rw [← hin _ _ (sc_l_Q c)]; exact hcc.2⟩)
    have hz : (sc_seg ln 0 (ln.idxOf c)).length ≤ 16 := by rw [sc_seg_len (by omega)]; omega
    unfold wX_split_82
    refine And.intro (sc_vin (by omega) (by omega)) (nm_r eM (And.intro (sc_vin (by omega) (by omega)) (nm_r (e' := upd M c 0) (by rw [sc_cl (by omega)]) ⟨ln.idxOf c + 1, sx_spl_105 (zs := sc_seg ln 0 (ln.idxOf c)) hln (by omega) (by omega) hln16 hz (fun NL ha => ?_) (ln.idxOf c) 0 [] NL (by omega) sc_At_nil rfl⟩)))
    have D0 : sc_DI N c l0 T LD (upd M c 0) rs [] (M c) LD (upd M c 0) := by
      refine ⟨List.nodup_nil, fun d hd => (by cases hd), fun b => ?_, fun a _ _ hd => (by cases hd), fun _ _ _ => rfl, fun d hd => (by cases hd), fun _ _ _ => rfl, fun x y _ _ hd => (by cases hd), List.Pairwise.nil⟩
      rw [hMc]
      exact ⟨fun w => ⟨w.1, w.2, fun z => by cases z⟩, fun w => ⟨w.1, w.2.1⟩⟩
    have ha0 : sc_At NL (sc_seg ln 0 (ln.idxOf c) ++ []) := by rw [List.append_nil]; exact ha
    have K := sx_spl_135 (post := post) (NL := NL) (LD := LD) (M := upd M c 0) (HT := HT) (ds := []) (wt := M c) (d := rs.length) H hP hrs (fun ds wt LD' M' NL' hd I ha' => ?_) (by simp) D0 ha0
    · rw [List.append_nil] at K
      exact ⟨_, K⟩
    · obtain ⟨w1, w2, w3, w4⟩ := sc_spl_law H hP hd I
      have w5 := sc_ys16 hN w2 w3
      refine ⟨ln.length - (ln.idxOf c + 1) + 1, sx_spl_186 hln (by omega) w5.1 w5.2 w2 (fun PL' LN' NL'' hh => ?_) _ _ _ NL' (by omega) ha' rfl⟩
      refine h _ _ _ _ _ _ _ _ _ w1 ⟨w2, w3, hh⟩ w4 ?_
      have e1 := sc_seg_len (ln := ln) (i := 0) (e := ln.idxOf c) (by omega)
      have e2 := sc_seg_len (ln := ln) (i := ln.idxOf c + 1) (e := ln.length) (by omega)
      rw [List.length_append, List.length_append, e1, e2, pk_sub (by omega)]
      obtain ⟨k, hk⟩ : ∃ k, rs.length = k + 1 := ⟨_, (Nat.succ_pred_eq_of_pos hrs1).symm⟩
      rw [hk, nI_pred]
      exact congrArg nI (by omega)
  · rw [hMc]
    exact ⟨fun w => ⟨w.1, w.2, fun z => by cases z⟩, fun w => ⟨w.1, w.2.1⟩⟩
end
end
section
/-! addEdge and removeEdge -/
theorem sc_T2 {T : Nat → Int32} {u v : Nat} (hv : v < 16) (a b : Nat) : bt (upd T u (T u &&& (((1 : Int32) <<< (nI v &&& 31)) ^^^ (-1))) a) b = true ↔ bt (T a) b = true ∧ ¬ (a = u ∧ b = v) := by
  by_cases e : a = u
  · rw [e, pk_us, sc_dif, sc_one v (by omega)]
    exact ⟨fun z => ⟨z.1, fun w => z.2 w.2⟩, fun z => ⟨z.1, fun w => z.2 ⟨rfl, w⟩⟩⟩
  · rw [pk_un e]
    exact ⟨fun z => ⟨z, fun w => e w.1⟩, fun z => z.1⟩
theorem sc_bI {x y : Bool} (h : x = true ↔ y = true) : x = y := by
  revert h
  cases x <;> cases y <;> simp
section
variable {N u v : Nat} {T S LD M PL LN NL HT PC ed rc hg T' : Nat → Int32} {ln : List Nat} {fn : Int32}
theorem sc_Ed_u {x : Int32} {b0 : Bool} (hed : sc_Ed T ed) (hu : u < 16) (hv : v < 16) (hx : x = nI b0.toNat) (h1 : bt (T' u) v = b0) (h2 : ∀ a b, ¬ (a = u ∧ b = v) → bt (T' a) b = bt (T a) b) : sc_Ed T' (upd ed (16 * u + v) x) := by
  intro a b ha hb
  by_cases e : a = u ∧ b = v
  · rw [e.1, e.2, pk_us, h1, hx]
  · rw [pk_un (fun w => e ⟨by omega, by omega⟩), hed a b ha hb, h2 a b e]
theorem sy_add {post : Int32 → SY → Prop} (hN : N ≤ 16) (hT : ∀ a b, bt (T a) b = true → a < N ∧ b < N) (hed : sc_Ed T ed) (hu : u < N) (hv : v < N) (ne : u ≠ v) (hE : ¬ sc_E T u v) (hT' : ∀ a b, bt (T' a) b = true → a < N ∧ b < N) (hed' : sc_Ed T' (upd ed (16 * u + v) 1))
    (h : ∀ rc, post (nI (sc_cn (fun u => decide (sc_l (sc_E T) u = u)) N) - nI (sc_cn (fun u => decide (sc_l (sc_E T') u = u)) N)) (nI N, upd ed (16 * u + v) 1, rc, hg)) : wpY_addEdge post (nI N, ed, rc, hg) (nI u) (nI v) := by
  unfold wpY_addEdge
  dsimp only
  refine sy_isV1 hN hu (br_f sc_10 ?_)
  refine sy_isV1 hN hv (br_f sc_10 ?_)
  refine br_f (fun z => ne ((nI_eq (by omega) (by omega)).mp z)) ?_
  rw [sc_idx, sc_cl (c := 16 * u + v) (by omega)]
  refine And.intro (sc_vin (by omega) (by omega)) (br_t ((sc_ed0 hed (by omega) (by omega)).mpr hE) (sy_com hN hT hed fun rc' _ => And.intro (sc_vin (by omega) (by omega)) (nm_r (e' := upd ed (16 * u + v) 1) rfl ?_)))
  exact sy_com hN hT' hed' fun rc'' _ => h rc''
theorem sy_rem {post : Int32 → SY → Prop} (hN : N ≤ 16) (hT : ∀ a b, bt (T a) b = true → a < N ∧ b < N) (hed : sc_Ed T ed) (hu : u < N) (hv : v < N) (ne : u ≠ v) (hE : sc_E T u v) (hT' : ∀ a b, bt (T' a) b = true → a < N ∧ b < N) (hed' : sc_Ed T' (upd ed (16 * u + v) 0))
    (h : ∀ rc, post (nI (sc_cn (fun u => decide (sc_l (sc_E T') u = u)) N) - nI (sc_cn (fun u => decide (sc_l (sc_E T) u = u)) N)) (nI N, upd ed (16 * u + v) 0, rc, hg)) : wpY_removeEdge post (nI N, ed, rc, hg) (nI u) (nI v) := by
  unfold wpY_removeEdge
  dsimp only
  refine sy_isV1 hN hu (br_f sc_10 ?_)
  refine sy_isV1 hN hv (br_f sc_10 ?_)
  refine br_f (fun z => ne ((nI_eq (by omega) (by omega)).mp z)) ?_
  rw [sc_idx, sc_cl (c := 16 * u + v) (by omega)]
  refine And.intro (sc_vin (by omega) (by omega)) (br_f (fun z => (sc_ed0 hed (by omega) (by omega)).mp z hE) (sy_com hN hT hed fun rc' _ => And.intro (sc_vin (by omega) (by omega)) (nm_r (e' := upd ed (16 * u + v) 0) rfl ?_)))
  exact sy_com hN hT' hed' fun rc'' _ => h rc''
/-- an edge that changes no component, and leads on in the line -/
theorem sc_keep {S' ed' : Nat → Int32} (I : sc_Inv N ln T S LD M PL LN ed) (hT' : ∀ a b, bt (T' a) b = true → a < N ∧ b < N) (hS' : ∀ a b, bt (S' b) a = bt (T' a) b) (hed' : sc_Ed T' ed') (hl : sc_l (sc_E T') = sc_l (sc_E T)) (ht : ∀ x y, sc_E T' x y → sc_E T x y ∨ ln.idxOf (sc_l (sc_E T) x) ≤ ln.idxOf (sc_l (sc_E T) y)) : sc_Inv N ln T' S' LD M PL LN ed' := by
  obtain ⟨hN2, hN, hT, hS, hed, hY, hL, hTop⟩ := I
  refine ⟨hN2, hN, hT', hS', hed', by rw [hl]; exact hY, by rw [hl]; exact hL, ?_⟩
  rw [hl]
  unfold sc_Top
  rw [List.pairwise_iff_getElem]
  intro i j hi hj hij x y hxy lx ly
  rcases ht x y hxy with z | z
  · exact List.pairwise_iff_getElem.mp hTop i j hi hj hij x y z lx ly
  · rw [lx, ly, List.Nodup.idxOf_getElem hL.1 i hi, List.Nodup.idxOf_getElem hL.1 j hj] at z
    omega
theorem sx_add {post : Int32 → SX → Prop} {S' ed' : Nat → Int32} (I : sc_Inv N ln T S LD M PL LN ed) (hu : u < N) (hv : v < N) (ne : u ≠ v) (hE : ¬ sc_E T u v) (eT : T' = upd T u (T u ||| ((1 : Int32) <<< (nI v &&& 31)))) (eS : S' = upd S v (S v ||| ((1 : Int32) <<< (nI u &&& 31)))) (hed' : sc_Ed T' ed')
    (h : ∀ r ys fn' LD' M' PL' LN' NL', sc_Inv N ys T' S' LD' M' PL' LN' ed' → r = nI ln.length - nI ys.length → post r (nI N, nI ys.length, fn', T', S', LD', M', PL', LN', NL', HT, PC)) : wpX_addEdge post (nI N, nI ln.length, fn, T, S, LD, M, PL, LN, NL, HT, PC) (nI u) (nI v) := by
  have J := I
  obtain ⟨hN2, hN, hT, hS, hed, hY, hL, hTop⟩ := J
  have hT1 : ∀ a b, bt (T' a) b = true ↔ bt (T a) b = true ∨ (a = u ∧ b = v) := fun a b => by rw [eT]; exact sc_T1 (by omega) a b
  have hS1 : ∀ a b, bt (S' b) a = bt (T' a) b := fun a b => sc_bI (by
    rw [hT1, eS, sc_T1 (by omega), hS]
    exact ⟨fun z => z.elim Or.inl (fun w => Or.inr ⟨w.2, w.1⟩), fun z => z.elim Or.inl (fun w => Or.inr ⟨w.2, w.1⟩)⟩)
  have hG : ∀ a b, sc_E T' a b ↔ sc_E T a b ∨ (a = u ∧ b = v) := hT1
  have hT'N : ∀ a b, bt (T' a) b = true → a < N ∧ b < N := fun a b z => ((hT1 a b).mp z).elim (hT a b) (fun w => by rw [w.1, w.2]; exact ⟨hu, hv⟩)
  have hl : ∀ a, a < N → sc_l (sc_E T) a ∈ ln := fun a z => sc_mem hL.2.1 (fun a z => ⟨(hY.1 a z).1, (hY.1 a z).2.1⟩) z
  have hlen := sc_lnN hL.1 hL.2.1
  have lu := (hY.1 u hu)
  have lv := (hY.1 v hv)
  have iU := sc_ix (hl u hu)
  have iV := sc_ix (hl v hv)
  have eA : LD (nI u).toNatClampNeg = nI (sc_l (sc_E T) u) := by rw [sc_cl (by omega)]; exact lu.2.2
  have eB : LD (nI v).toNatClampNeg = nI (sc_l (sc_E T) v) := by rw [sc_cl (by omega)]; exact lv.2.2
  have pU : PL (nI (sc_l (sc_E T) u)).toNatClampNeg = nI (ln.idxOf (sc_l (sc_E T) u)) := by rw [sc_cl (by omega)]; exact (hL.2.2 _ _ iU.1).2
  have pV : PL (nI (sc_l (sc_E T) v)).toNatClampNeg = nI (ln.idxOf (sc_l (sc_E T) v)) := by rw [sc_cl (by omega)]; exact (hL.2.2 _ _ iV.1).2
  have vu : vp_in (nI u) 16 := sc_vin (by omega) (by omega)
  have vv : vp_in (nI v) 16 := sc_vin (by omega) (by omega)
  unfold wpX_addEdge
  dsimp only
  refine sx_isV1 hN hu (br_f sc_10 ?_)
  refine sx_isV1 hN hv (br_f sc_10 ?_)
  refine br_f (fun z => ne ((nI_eq (by omega) (by omega)).mp z)) (And.intro vu ?_)
  rw [sc_cl (c := u) (by omega), sc_cl (c := v) (by omega)]
  refine sc_br v (by omega) (fun _ => And.intro vu (And.intro vu (nm_r eT.symm (And.intro vv (And.intro vv (nm_r eS.symm (And.intro vu ?_))))))) (fun z => absurd z hE)
  rw [sc_cl (c := u) (by omega)] at eA
  rw [sc_cl (c := v) (by omega)] at eB
  refine nm_r eA (And.intro vv (nm_r eB (And.intro (sc_vin (by omega) (by omega)) (And.intro (sc_vin (by omega) (by omega)) ?_))))
  rw [pU, pV]
  refine pk_lt _ _ (fun z => sx_addR (post := post) I hu hv hT1 hS1 hed' z h) (fun z => ?_)
  have hl' : sc_l (sc_E T') = sc_l (sc_E T) := by
    rcases Nat.lt_or_ge (ln.idxOf (sc_l (sc_E T) u)) (ln.idxOf (sc_l (sc_E T) v)) with w | w
    · refine funext fun a => sc_l_nz hG fun y => ?_
      have := sc_Z_ix (E := sc_E T) hT hl hTop hv y
      omega
    · have q := sc_l_eq.mp (sc_ixI (hl u hu) (hl v hv) (by omega))
      refine sc_l_fun fun a b => ?_
      rw [sc_R_add hG]
      exact ⟨fun y => y.elim id (fun y => sc_R_trans y.1 (sc_R_trans q.1 y.2)), Or.inl⟩
  refine h 0 ln _ _ _ _ _ _ (sc_keep I hT'N hS1 hed' hl' fun x y hxy => ?_) (Int32.sub_self _).symm
  rcases (hG x y).mp hxy with w | ⟨rfl, rfl⟩
  · exact Or.inl w
  · exact Or.inr z
theorem sx_rem {post : Int32 → SX → Prop} {S' ed' : Nat → Int32} (I : sc_Inv N ln T S LD M PL LN ed) (hu : u < N) (hv : v < N) (ne : u ≠ v) (hE : sc_E T u v) (eT : T' = upd T u (T u &&& (((1 : Int32) <<< (nI v &&& 31)) ^^^ (-1)))) (eS : S' = upd S v (S v &&& (((1 : Int32) <<< (nI u &&& 31)) ^^^ (-1)))) (hed' : sc_Ed T' ed')
    (h : ∀ r ys fn' LD' M' PL' LN' NL' PC', sc_Inv N ys T' S' LD' M' PL' LN' ed' → r = nI ys.length - nI ln.length → post r (nI N, nI ys.length, fn', T', S', LD', M', PL', LN', NL', HT, PC')) : wpX_removeEdge post (nI N, nI ln.length, fn, T, S, LD, M, PL, LN, NL, HT, PC) (nI u) (nI v) := by
  have J := I
  obtain ⟨hN2, hN, hT, hS, hed, hY, hL, hTop⟩ := J
  have hT1 : ∀ a b, bt (T' a) b = true ↔ bt (T a) b = true ∧ ¬ (a = u ∧ b = v) := fun a b => by rw [eT]; exact sc_T2 (by omega) a b
  have hS1 : ∀ a b, bt (S' b) a = bt (T' a) b := fun a b => sc_bI (by
    rw [hT1, eS, sc_T2 (by omega), hS]
    exact ⟨fun z => ⟨z.1, fun w => z.2 ⟨w.2, w.1⟩⟩, fun z => ⟨z.1, fun w => z.2 ⟨w.2, w.1⟩⟩⟩)
  have hsub : ∀ a b, sc_E T' a b → sc_E T a b := fun a b z => ((hT1 a b).mp z).1
  have hG : ∀ a b, sc_E T a b ↔ sc_E T' a b ∨ (a = u ∧ b = v) := fun a b => by
    refine ⟨fun z => ?_, fun z => z.elim (hsub a b) (fun w => by rw [w.1, w.2]; exact hE)⟩
    by_cases e : a = u ∧ b = v
    · exact Or.inr e
    · exact Or.inl ((hT1 a b).mpr ⟨z, e⟩)
  have mo : ∀ {a b : Nat}, sc_R (sc_E T') a b → sc_R (sc_E T) a b := fun z => sc_R_mono hsub z
  have hT'N : ∀ a b, bt (T' a) b = true → a < N ∧ b < N := fun a b z => hT a b (hsub a b z)
  have hl : ∀ a, a < N → sc_l (sc_E T) a ∈ ln := fun a z => sc_mem hL.2.1 (fun a z => ⟨(hY.1 a z).1, (hY.1 a z).2.1⟩) z
  have hlen := sc_lnN hL.1 hL.2.1
  have lu := (hY.1 u hu)
  have lv := (hY.1 v hv)
  have eA : LD u = nI (sc_l (sc_E T) u) := lu.2.2
  have eB : LD v = nI (sc_l (sc_E T) v) := lv.2.2
  have vu : vp_in (nI u) 16 := sc_vin (by omega) (by omega)
  have vv : vp_in (nI v) 16 := sc_vin (by omega) (by omega)
  have keep : sc_l (sc_E T') = sc_l (sc_E T) → post 0 (nI N, nI ln.length, fn, T', S', LD, M, PL, LN, NL, HT, PC) := fun hl' =>
    h 0 ln _ _ _ _ _ _ _ (sc_keep I hT'N hS1 hed' hl' fun x y hxy => Or.inl (hsub x y hxy)) (Int32.sub_self _).symm
  unfold wpX_removeEdge
  dsimp only
  refine sx_isV1 hN hu (br_f sc_10 ?_)
  refine sx_isV1 hN hv (br_f sc_10 ?_)
  refine br_f (fun z => ne ((nI_eq (by omega) (by omega)).mp z)) (And.intro vu ?_)
  rw [sc_cl (c := u) (by omega), sc_cl (c := v) (by omega)]
  refine sc_br v (by omega) (fun z => absurd hE (sc_fI.mp z)) (fun _ => And.intro vu (And.intro vu (nm_r eT.symm (And.intro vv (And.intro vv (nm_r eS.symm (And.intro vu (nm_r eA (And.intro vv ?_)))))))))
  rw [eB]
  refine pk_eq (sc_l (sc_E T) u) (sc_l (sc_E T) v) (fun z => And.intro (sc_vin (by omega) (by omega)) ?_) (fun z => keep ?_)
  · have quv : sc_Q (sc_E T) u v := sc_l_eq.mp z
    refine sx_spr hN hT'N hu fun r hr => sc_br v (by omega) (fun _ => ?_) (fun hb => keep ?_)
    · refine sx_spl (post := post) (l0 := sc_l (sc_E T)) ⟨hN, hT'N, hS1, hY, hL, hl u hu, fun a b q => sc_l_eq.mpr ⟨mo q.1, mo q.2⟩, fun a ha hn => sc_l_co fun x => ?_, ?_⟩ (fun r ys fn' LD' M' PL' LN' NL' PC' w1 w2 w3 w4 => h r ys fn' LD' M' PL' LN' NL' PC' ⟨hN2, hN, hT'N, hS1, hed', w1, w2, w3⟩ w4)
      · refine ⟨fun q => ⟨mo q.1, mo q.2⟩, fun q => ⟨?_, ?_⟩⟩
        · rcases (sc_R_add hG).mp q.1 with w | ⟨w1, w2⟩
          · exact w
          · exact absurd (sc_l_eq.mpr ⟨mo w1, sc_R_trans quv.1 (sc_R_trans (mo w2) q.2)⟩) hn
        · rcases (sc_R_add hG).mp q.2 with w | ⟨w1, w2⟩
          · exact w
          · exact absurd (sc_l_eq.mpr ⟨sc_R_trans q.1 (mo w1), sc_R_trans quv.1 (mo w2)⟩) hn
      · unfold sc_Top
        exact List.Pairwise.imp (fun {a b} hab x y hxy => hab x y (hsub x y hxy)) hTop
    · have ruv : sc_R (sc_E T') u v := sc_R_out ((hr v).mp hb)
      refine sc_l_fun fun a b => ?_
      rw [sc_R_add hG]
      exact ⟨Or.inl, fun y => y.elim id (fun y => sc_R_trans y.1 (sc_R_trans ruv y.2))⟩
  · refine funext fun a => sc_l_co fun x => ⟨fun q => ⟨mo q.1, mo q.2⟩, fun q => ⟨?_, ?_⟩⟩
    · rcases (sc_R_add hG).mp q.1 with w | ⟨w1, w2⟩
      · exact w
      · exact absurd (sc_l_eq.mpr ⟨sc_R_one hE, sc_R_trans (mo w2) (sc_R_trans q.2 (mo w1))⟩) z
    · rcases (sc_R_add hG).mp q.2 with w | ⟨w1, w2⟩
      · exact w
      · exact absurd (sc_l_eq.mpr ⟨sc_R_one hE, sc_R_trans (mo w2) (sc_R_trans q.1 (mo w1))⟩) z
end
theorem sc_bad_addEdge {k N : Nat} {ln : List Nat} {fn : Int32} {T S LD M PL LN NL HT PC ed rc hg : Nat → Int32} {v1 v2 : Int32} (J : sc_Inv N ln T S LD M PL LN ed) (h : ¬ ∃ a b, a < N ∧ b < N ∧ a ≠ b ∧ v1 = nI a ∧ v2 = nI b) : wpX_addEdge (fun r u' => wpY_addEdge (fun r' v' => r' = r ∧ i_Rel (k + 3) u' v') (nI N, ed, rc, hg) v1 v2) (nI N, nI ln.length, fn, T, S, LD, M, PL, LN, NL, HT, PC) v1 v2 := by
  unfold wpX_addEdge
  dsimp only
  rcases sc_vx v1 J.2.1 with hb | ⟨a, ha, rfl⟩
  · refine sx_isV0 hb (br_t rfl ?_)
    unfold wpY_addEdge
    dsimp only
    exact sy_isV0 hb (br_t rfl ⟨rfl, sc_mk J⟩)
  · refine sx_isV1 J.2.1 ha (br_f sc_10 ?_)
    rcases sc_vx v2 J.2.1 with hb | ⟨b, hb, rfl⟩
    · refine sx_isV0 hb (br_t rfl ?_)
      unfold wpY_addEdge
      dsimp only
      refine sy_isV1 J.2.1 ha (br_f sc_10 ?_)
      exact sy_isV0 hb (br_t rfl ⟨rfl, sc_mk J⟩)
    · refine sx_isV1 J.2.1 hb (br_f sc_10 ?_)
      have e : a = b := Classical.byContradiction fun z => h ⟨a, b, ha, hb, z, rfl, rfl⟩
      refine br_t (by rw [e]) ?_
      unfold wpY_addEdge
      dsimp only
      refine sy_isV1 J.2.1 ha (br_f sc_10 ?_)
      refine sy_isV1 J.2.1 hb (br_f sc_10 ?_)
      exact br_t (by rw [e]) ⟨rfl, sc_mk J⟩
theorem sc_bad_removeEdge {k N : Nat} {ln : List Nat} {fn : Int32} {T S LD M PL LN NL HT PC ed rc hg : Nat → Int32} {v1 v2 : Int32} (J : sc_Inv N ln T S LD M PL LN ed) (h : ¬ ∃ a b, a < N ∧ b < N ∧ a ≠ b ∧ v1 = nI a ∧ v2 = nI b) : wpX_removeEdge (fun r u' => wpY_removeEdge (fun r' v' => r' = r ∧ i_Rel (k + 3) u' v') (nI N, ed, rc, hg) v1 v2) (nI N, nI ln.length, fn, T, S, LD, M, PL, LN, NL, HT, PC) v1 v2 := by
  unfold wpX_removeEdge
  dsimp only
  rcases sc_vx v1 J.2.1 with hb | ⟨a, ha, rfl⟩
  · refine sx_isV0 hb (br_t rfl ?_)
    unfold wpY_removeEdge
    dsimp only
    exact sy_isV0 hb (br_t rfl ⟨rfl, sc_mk J⟩)
  · refine sx_isV1 J.2.1 ha (br_f sc_10 ?_)
    rcases sc_vx v2 J.2.1 with hb | ⟨b, hb, rfl⟩
    · refine sx_isV0 hb (br_t rfl ?_)
      unfold wpY_removeEdge
      dsimp only
      refine sy_isV1 J.2.1 ha (br_f sc_10 ?_)
      exact sy_isV0 hb (br_t rfl ⟨rfl, sc_mk J⟩)
    · refine sx_isV1 J.2.1 hb (br_f sc_10 ?_)
      have e : a = b := Classical.byContradiction fun z => h ⟨a, b, ha, hb, z, rfl, rfl⟩
      refine br_t (by rw [e]) ?_
      unfold wpY_removeEdge
      dsimp only
      refine sy_isV1 J.2.1 ha (br_f sc_10 ?_)
      refine sy_isV1 J.2.1 hb (br_f sc_10 ?_)
      exact br_t (by rw [e]) ⟨rfl, sc_mk J⟩
theorem i_vc_addEdge {k : Nat} {u : SX} {v : SY} (I : i_Rel k u v) (hk : k + 3 ≤ 1537) (v1 : Int32) (v2 : Int32) : wpX_addEdge (fun r u' => wpY_addEdge (fun r' v' => r' = r ∧ i_Rel (k + 3) u' v') v v1 v2) u v1 v2 := by
  refine sc_el (P := fun u v => wpX_addEdge (fun r u' => wpY_addEdge (fun r' v' => r' = r ∧ i_Rel (k + 3) u' v') v v1 v2) u v1 v2) ?_ I
  intro N ln fn T S LD M PL LN NL HT PC ed rc hg J
  by_cases ok : ∃ a b, a < N ∧ b < N ∧ a ≠ b ∧ v1 = nI a ∧ v2 = nI b
  · obtain ⟨a, b, ha, hb, ne, rfl, rfl⟩ := ok
    have J' := J
    obtain ⟨hN2, hN, hT, hS, hed, hY, hL, hTop⟩ := J'
    by_cases hE : sc_E T a b
    · unfold wpX_addEdge
      dsimp only
      refine sx_isV1 hN ha (br_f sc_10 ?_)
      refine sx_isV1 hN hb (br_f sc_10 ?_)
      refine br_f (fun z => ne ((nI_eq (by omega) (by omega)).mp z)) (And.intro (sc_vin (by omega) (by omega)) ?_)
      rw [sc_cl (c := a) (by omega)]
      refine sc_br b (by omega) (fun z => absurd hE (sc_fI.mp z)) (fun _ => ?_)
      unfold wpY_addEdge
      dsimp only
      refine sy_isV1 hN ha (br_f sc_10 ?_)
      refine sy_isV1 hN hb (br_f sc_10 ?_)
      refine br_f (fun z => ne ((nI_eq (by omega) (by omega)).mp z)) ?_
      rw [sc_idx, sc_cl (c := 16 * a + b) (by omega)]
      exact And.intro (sc_vin (by omega) (by omega)) (br_f (fun z => (sc_ed0 hed (by omega) (by omega)).mp z hE) ⟨rfl, sc_mk J⟩)
    · have hT1 := sc_T1 (T := T) (u := a) (v := b) (by omega)
      have hed' : sc_Ed (upd T a (T a ||| ((1 : Int32) <<< (nI b &&& 31)))) (upd ed (16 * a + b) 1) := sc_Ed_u (b0 := true) hed (by omega) (by omega) rfl ((hT1 a b).mpr (Or.inr ⟨rfl, rfl⟩)) (fun x y n => sc_bI (by rw [hT1]; exact ⟨fun z => z.elim id (fun w => absurd w n), Or.inl⟩))
      refine sx_add J ha hb ne hE rfl rfl hed' fun r ys fn' LD' M' PL' LN' NL' J2 e => ?_
      refine sy_add hN hT hed ha hb ne hE J2.2.2.1 hed' fun rc' => ⟨?_, sc_mk J2⟩
      rw [e, sc_cnt hL, sc_cnt J2.2.2.2.2.2.2.1]
  · exact sc_bad_addEdge J ok
theorem i_vc_removeEdge {k : Nat} {u : SX} {v : SY} (I : i_Rel k u v) (hk : k + 3 ≤ 1537) (v1 : Int32) (v2 : Int32) : wpX_removeEdge (fun r u' => wpY_removeEdge (fun r' v' => r' = r ∧ i_Rel (k + 3) u' v') v v1 v2) u v1 v2 := by
  refine sc_el (P := fun u v => wpX_removeEdge (fun r u' => wpY_removeEdge (fun r' v' => r' = r ∧ i_Rel (k + 3) u' v') v v1 v2) u v1 v2) ?_ I
  intro N ln fn T S LD M PL LN NL HT PC ed rc hg J
  by_cases ok : ∃ a b, a < N ∧ b < N ∧ a ≠ b ∧ v1 = nI a ∧ v2 = nI b
  · obtain ⟨a, b, ha, hb, ne, rfl, rfl⟩ := ok
    have J' := J
    obtain ⟨hN2, hN, hT, hS, hed, hY, hL, hTop⟩ := J'
    by_cases hE : sc_E T a b
    · have hT1 := sc_T2 (T := T) (u := a) (v := b) (by omega)
      have hed' : sc_Ed (upd T a (T a &&& (((1 : Int32) <<< (nI b &&& 31)) ^^^ (-1)))) (upd ed (16 * a + b) 0) := sc_Ed_u (b0 := false) hed (by omega) (by omega) rfl (sc_fI.mpr fun z => ((hT1 a b).mp z).2 ⟨rfl, rfl⟩) (fun x y n => sc_bI (by rw [hT1]; exact ⟨fun z => z.1, fun z => ⟨z, n⟩⟩))
      refine sx_rem J ha hb ne hE rfl rfl hed' fun r ys fn' LD' M' PL' LN' NL' PC' J2 e => ?_
      refine sy_rem hN hT hed ha hb ne hE J2.2.2.1 hed' fun rc' => ⟨?_, sc_mk J2⟩
      rw [e, sc_cnt hL, sc_cnt J2.2.2.2.2.2.2.1]
    · unfold wpX_removeEdge
      dsimp only
      refine sx_isV1 hN ha (br_f sc_10 ?_)
      refine sx_isV1 hN hb (br_f sc_10 ?_)
      refine br_f (fun z => ne ((nI_eq (by omega) (by omega)).mp z)) (And.intro (sc_vin (by omega) (by omega)) ?_)
      rw [sc_cl (c := a) (by omega)]
      refine sc_br b (by omega) (fun _ => ?_) (fun z => absurd z hE)
      unfold wpY_removeEdge
      dsimp only
      refine sy_isV1 hN ha (br_f sc_10 ?_)
      refine sy_isV1 hN hb (br_f sc_10 ?_)
      refine br_f (fun z => ne ((nI_eq (by omega) (by omega)).mp z)) ?_
      rw [sc_idx, sc_cl (c := 16 * a + b) (by omega)]
      exact And.intro (sc_vin (by omega) (by omega)) (br_t ((sc_ed0 hed (by omega) (by omega)).mpr hE) ⟨rfl, sc_mk J⟩)
  · exact sc_bad_removeEdge J ok
end
